section
-- ===== PART A: goes FIRST, ahead of the names: the tables' words, and 'selects' of the private methods out of them =====
/-- a private method of a class that the tables say can be made, by its rows of tables_1 -/
def lw_okq (q : MethodName × Nat) : Prop := (q.1.cls ≠ "java/lang/invoke/MethodHandle" ∧ q.1.cls ≠ "java/lang/invoke/VarHandle") ∧ Cond.instantiable q.1.cls q.2 ∈ tables_1 ∧ Cond.privateMethod q.1 ∈ tables_1 ∧ Cond.instanceMethod q.1 ∈ tables_1
set_option maxRecDepth 100000
theorem lw_p0 : lw_okq (⟨"PolicyTable", "copyRule", "(II)V"⟩, 15) := ⟨⟨by decide +kernel, by decide +kernel⟩, List.mem_of_getElem? (i := 4) rfl, List.mem_of_getElem? (i := 64) rfl, List.mem_of_getElem? (i := 65) rfl⟩
theorem lw_p1 : lw_okq (⟨"PolicyTable", "isRule", "(I)Z"⟩, 15) := ⟨⟨by decide +kernel, by decide +kernel⟩, List.mem_of_getElem? (i := 4) rfl, List.mem_of_getElem? (i := 72) rfl, List.mem_of_getElem? (i := 73) rfl⟩
theorem lw_p2 : lw_okq (⟨"PolicyTable", "exchange", "(II)V"⟩, 15) := ⟨⟨by decide +kernel, by decide +kernel⟩, List.mem_of_getElem? (i := 4) rfl, List.mem_of_getElem? (i := 80) rfl, List.mem_of_getElem? (i := 81) rfl⟩
theorem lw_p3 : lw_okq (⟨"PolicyTable", "paint", "()V"⟩, 15) := ⟨⟨by decide +kernel, by decide +kernel⟩, List.mem_of_getElem? (i := 4) rfl, List.mem_of_getElem? (i := 95) rfl, List.mem_of_getElem? (i := 96) rfl⟩
theorem lw_p4 : lw_okq (⟨"PolicyTable", "findEdges", "()V"⟩, 15) := ⟨⟨by decide +kernel, by decide +kernel⟩, List.mem_of_getElem? (i := 4) rfl, List.mem_of_getElem? (i := 99) rfl, List.mem_of_getElem? (i := 100) rfl⟩
theorem lw_p5 : lw_okq (⟨"PolicyTable", "isEdge", "([I[II)Z"⟩, 15) := ⟨⟨by decide +kernel, by decide +kernel⟩, List.mem_of_getElem? (i := 4) rfl, List.mem_of_getElem? (i := 103) rfl, List.mem_of_getElem? (i := 104) rfl⟩
theorem lw_p6 : lw_okq (⟨"PolicyTable", "paintRule", "(I)V"⟩, 15) := ⟨⟨by decide +kernel, by decide +kernel⟩, List.mem_of_getElem? (i := 4) rfl, List.mem_of_getElem? (i := 107) rfl, List.mem_of_getElem? (i := 108) rfl⟩
theorem lw_p7 : lw_okq (⟨"PolicyTable", "paintColumn", "(II)V"⟩, 15) := ⟨⟨by decide +kernel, by decide +kernel⟩, List.mem_of_getElem? (i := 4) rfl, List.mem_of_getElem? (i := 111) rfl, List.mem_of_getElem? (i := 112) rfl⟩
theorem lw_p8 : lw_okq (⟨"PolicyTable", "fieldsOf", "(III)I"⟩, 15) := ⟨⟨by decide +kernel, by decide +kernel⟩, List.mem_of_getElem? (i := 4) rfl, List.mem_of_getElem? (i := 127) rfl, List.mem_of_getElem? (i := 128) rfl⟩
theorem lw_p9 : lw_okq (⟨"PolicyTable", "packetsOf", "(II)I"⟩, 15) := ⟨⟨by decide +kernel, by decide +kernel⟩, List.mem_of_getElem? (i := 4) rfl, List.mem_of_getElem? (i := 131) rfl, List.mem_of_getElem? (i := 132) rfl⟩
theorem lw_p10 : lw_okq (⟨"PolicyTableModel", "copy", "(II)V"⟩, 5) := ⟨⟨by decide +kernel, by decide +kernel⟩, List.mem_of_getElem? (i := 148) rfl, List.mem_of_getElem? (i := 174) rfl, List.mem_of_getElem? (i := 175) rfl⟩
theorem lw_p11 : lw_okq (⟨"PolicyTableModel", "write", "(IIII)V"⟩, 5) := ⟨⟨by decide +kernel, by decide +kernel⟩, List.mem_of_getElem? (i := 148) rfl, List.mem_of_getElem? (i := 178) rfl, List.mem_of_getElem? (i := 179) rfl⟩
theorem lw_p12 : lw_okq (⟨"PolicyTableModel", "missing", "(I)Z"⟩, 5) := ⟨⟨by decide +kernel, by decide +kernel⟩, List.mem_of_getElem? (i := 148) rfl, List.mem_of_getElem? (i := 186) rfl, List.mem_of_getElem? (i := 187) rfl⟩
theorem lw_p13 : lw_okq (⟨"PolicyTableModel", "deciding", "(II)I"⟩, 5) := ⟨⟨by decide +kernel, by decide +kernel⟩, List.mem_of_getElem? (i := 148) rfl, List.mem_of_getElem? (i := 207) rfl, List.mem_of_getElem? (i := 208) rfl⟩
theorem lw_p14 : lw_okq (⟨"PolicyTableModel", "matches", "(II)Z"⟩, 5) := ⟨⟨by decide +kernel, by decide +kernel⟩, List.mem_of_getElem? (i := 148) rfl, List.mem_of_getElem? (i := 211) rfl, List.mem_of_getElem? (i := 212) rfl⟩
theorem lw_p15 : lw_okq (⟨"PolicyTableModel", "actionOf", "(I)I"⟩, 5) := ⟨⟨by decide +kernel, by decide +kernel⟩, List.mem_of_getElem? (i := 148) rfl, List.mem_of_getElem? (i := 220) rfl, List.mem_of_getElem? (i := 221) rfl⟩
def lw_privs_1 : List (MethodName × Nat) := [(⟨"PolicyTable", "copyRule", "(II)V"⟩, 15), (⟨"PolicyTable", "isRule", "(I)Z"⟩, 15), (⟨"PolicyTable", "exchange", "(II)V"⟩, 15), (⟨"PolicyTable", "paint", "()V"⟩, 15), (⟨"PolicyTable", "findEdges", "()V"⟩, 15), (⟨"PolicyTable", "isEdge", "([I[II)Z"⟩, 15), (⟨"PolicyTable", "paintRule", "(I)V"⟩, 15), (⟨"PolicyTable", "paintColumn", "(II)V"⟩, 15), (⟨"PolicyTable", "fieldsOf", "(III)I"⟩, 15), (⟨"PolicyTable", "packetsOf", "(II)I"⟩, 15), (⟨"PolicyTableModel", "copy", "(II)V"⟩, 5), (⟨"PolicyTableModel", "write", "(IIII)V"⟩, 5), (⟨"PolicyTableModel", "missing", "(I)Z"⟩, 5), (⟨"PolicyTableModel", "deciding", "(II)I"⟩, 5), (⟨"PolicyTableModel", "matches", "(II)Z"⟩, 5), (⟨"PolicyTableModel", "actionOf", "(I)I"⟩, 5)]
theorem lw_r1 : ∀ q ∈ lw_privs_1, lw_okq q := List.forall_mem_cons.mpr ⟨lw_p0, List.forall_mem_cons.mpr ⟨lw_p1, List.forall_mem_cons.mpr ⟨lw_p2, List.forall_mem_cons.mpr ⟨lw_p3, List.forall_mem_cons.mpr ⟨lw_p4, List.forall_mem_cons.mpr ⟨lw_p5, List.forall_mem_cons.mpr ⟨lw_p6, List.forall_mem_cons.mpr ⟨lw_p7, List.forall_mem_cons.mpr ⟨lw_p8, List.forall_mem_cons.mpr ⟨lw_p9, List.forall_mem_cons.mpr ⟨lw_p10, List.forall_mem_cons.mpr ⟨lw_p11, List.forall_mem_cons.mpr ⟨lw_p12, List.forall_mem_cons.mpr ⟨lw_p13, List.forall_mem_cons.mpr ⟨lw_p14, List.forall_mem_cons.mpr ⟨lw_p15, fun _ h => absurd h List.not_mem_nil⟩⟩⟩⟩⟩⟩⟩⟩⟩⟩⟩⟩⟩⟩⟩⟩
def lw_privs : List (MethodName × Nat) := lw_privs_1
def lw_tbl : List Cond := k2_sels lw_privs ++ tables_1
theorem lw_privs_ok : ∀ q ∈ lw_privs, lw_okq q := lw_r1
-- ===== ONE list of words for every method: the tables' words that hold all through a run =====
def lw_all : List Cond := lw_tbl.filter goodWord
/-- a word of the tables by its place: claim/WORDS.tsv -/
theorem lw_w {w : Cond} (i : Nat) (h : lw_tbl[i]? = some w) (g : goodWord w = true) : w ∈ lw_all := List.mem_filter.mpr ⟨List.mem_of_getElem? h, g⟩
theorem lw_all_tbl {w : Cond} (h : w ∈ lw_all) : w ∈ lw_tbl := (List.mem_filter.mp h).1
theorem lw_self : GoodIn lw_all lw_all := fun w h => ⟨h, good_of_word (List.mem_filter.mp h).2⟩
/-- a class's field words, by their places -/
theorem lw_in (ws : List Cond) (ps : List Nat) (hp : ws = ps.filterMap (fun i => lw_tbl[i]?)) (hg : ws.all goodWord = true) : ∀ w ∈ ws, w ∈ lw_all := by
  intro w h
  have h1 := List.all_eq_true.mp hg w h
  rw [hp] at h
  obtain ⟨i, -, hi⟩ := List.mem_filterMap.mp h
  exact lw_w i hi h1
/-- the words of a contract for the method y with code b, L locals, answer r -/
abbrev ws_ (y : MethodName) (b : ByteArray) (L : Nat) (r : Option FieldType) : List Cond := Cond.code y b L r :: lw_all
theorem lw_meth {y : MethodName} {b : ByteArray} {L : Nat} {r : Option FieldType} (h : Cond.code y b L r ∈ lw_all) : GoodIn lw_all (ws_ y b L r) := by
  intro w hw
  rcases List.mem_cons.mp hw with e | e
  · rw [e]
    exact lw_self _ h
  · exact lw_self _ e
theorem lw_app {a c : List Cond} (ha : ∀ w ∈ a, w ∈ lw_all) (hc : GoodIn lw_all c) : GoodIn lw_all (a ++ c) := by
  intro w hw
  rcases List.mem_append.mp hw with e | e
  · exact lw_self w (ha w e)
  · exact hc w e
/-- what a call through an object asks: cwV n hts (lw_V ..) -/
theorem lw_V {own : String} {idx : Nat} {C : String} {y : MethodName} {b : ByteArray} {L : Nat} {r : Option FieldType} (h1 : Cond.methodLink own idx y ∈ lw_all) (h2 : Cond.instanceMethod y ∈ lw_all) (h3 : Cond.selects C y y ∈ lw_all) (h4 : Cond.initialized C ∈ lw_all) (h5 : Cond.code y b L r ∈ lw_all) : GoodIn lw_all (wsV own idx C y (ws_ y b L r)) := by
  refine lw_app ?_ (lw_meth h5)
  intro w hw
  simp only [List.mem_cons, List.not_mem_nil, or_false] at hw
  rcases hw with e | e | e | e
  · rw [e]; exact h1
  · rw [e]; exact h2
  · rw [e]; exact h3
  · rw [e]; exact h4
/-- what a static call asks: va_cwS n hts (lw_S ..) -/
theorem lw_S {own : String} {idx : Nat} {y : MethodName} {b : ByteArray} {L : Nat} {r : Option FieldType} (h1 : Cond.methodLink own idx y ∈ lw_all) (h2 : Cond.static y ∈ lw_all) (h3 : Cond.initialized y.cls ∈ lw_all) (h4 : Cond.code y b L r ∈ lw_all) : GoodIn lw_all (va_wsS own idx y (ws_ y b L r)) := by
  refine lw_app ?_ (lw_meth h4)
  intro w hw
  simp only [List.mem_cons, List.not_mem_nil, or_false] at hw
  rcases hw with e | e | e
  · rw [e]; exact h1
  · rw [e]; exact h2
  · rw [e]; exact h3
/-- the words of a contract for a method WITH HANDLERS (hh: its table) -/
abbrev wsW_ (y : MethodName) (b : ByteArray) (L : Nat) (r : Option FieldType) (hh : List (Nat × Nat × Nat × Nat)) : List Cond := Cond.codeWith y b L r hh :: lw_all
theorem lw_methW {y : MethodName} {b : ByteArray} {L : Nat} {r : Option FieldType} {hh : List (Nat × Nat × Nat × Nat)} (h : Cond.codeWith y b L r hh ∈ lw_all) : GoodIn lw_all (wsW_ y b L r hh) := by
  intro w hw
  rcases List.mem_cons.mp hw with e | e
  · rw [e]
    exact lw_self _ h
  · exact lw_self _ e
/-- any list of words by their places (lw_in), good -/
theorem lw_good {ws : List Cond} (h : ∀ w ∈ ws, w ∈ lw_all) : GoodIn lw_all ws := fun w hw => lw_self w (h w hw)
/-- what a call of a method with handlers asks: vx_cwVW n hts (lw_VW ..), vx_cwSW n hts (lw_SW ..) -/
theorem lw_VW {own : String} {idx : Nat} {C : String} {y : MethodName} {b : ByteArray} {L : Nat} {r : Option FieldType} {hh : List (Nat × Nat × Nat × Nat)} (h1 : Cond.methodLink own idx y ∈ lw_all) (h2 : Cond.instanceMethod y ∈ lw_all) (h3 : Cond.selects C y y ∈ lw_all) (h4 : Cond.initialized C ∈ lw_all) (h5 : Cond.codeWith y b L r hh ∈ lw_all) : GoodIn lw_all (wsV own idx C y (wsW_ y b L r hh)) := by
  refine lw_app ?_ (lw_methW h5)
  intro w hw
  simp only [List.mem_cons, List.not_mem_nil, or_false] at hw
  rcases hw with e | e | e | e
  · rw [e]; exact h1
  · rw [e]; exact h2
  · rw [e]; exact h3
  · rw [e]; exact h4
theorem lw_SW {own : String} {idx : Nat} {y : MethodName} {b : ByteArray} {L : Nat} {r : Option FieldType} {hh : List (Nat × Nat × Nat × Nat)} (h1 : Cond.methodLink own idx y ∈ lw_all) (h2 : Cond.static y ∈ lw_all) (h3 : Cond.initialized y.cls ∈ lw_all) (h4 : Cond.codeWith y b L r hh ∈ lw_all) : GoodIn lw_all (va_wsS own idx y (wsW_ y b L r hh)) := by
  refine lw_app ?_ (lw_methW h4)
  intro w hw
  simp only [List.mem_cons, List.not_mem_nil, or_false] at hw
  rcases hw with e | e | e
  · rw [e]; exact h1
  · rw [e]; exact h2
  · rw [e]; exact h3
/-- a word by its place in its run of the tables -/
theorem lw_at {r : List Cond} (hr : ∀ w ∈ r, w ∈ lw_tbl) {w : Cond} (i : Nat) (h : r[i]? = some w) : w ∈ lw_tbl := hr w (List.mem_of_getElem? h)
theorem lw_g {w : Cond} (h : w ∈ lw_tbl) (g : goodWord w = true) : w ∈ lw_all := List.mem_filter.mpr ⟨h, g⟩
theorem lw_ms : ∀ w ∈ k2_sels lw_privs, w ∈ lw_tbl := fun w h => show w ∈ k2_sels lw_privs ++ tables_1 from List.mem_append_left _ h
theorem lw_m0 : ∀ w ∈ tables_1, w ∈ lw_tbl := fun w h => show w ∈ k2_sels lw_privs ++ tables_1 from List.mem_append_right (k2_sels lw_privs) h
theorem qs0 : (Cond.selects "PolicyTable" ⟨"PolicyTable", "copyRule", "(II)V"⟩ ⟨"PolicyTable", "copyRule", "(II)V"⟩) ∈ lw_all := lw_g (lw_at lw_ms 0 rfl) rfl
theorem qs1 : (Cond.selects "PolicyTable" ⟨"PolicyTable", "isRule", "(I)Z"⟩ ⟨"PolicyTable", "isRule", "(I)Z"⟩) ∈ lw_all := lw_g (lw_at lw_ms 1 rfl) rfl
theorem qs2 : (Cond.selects "PolicyTable" ⟨"PolicyTable", "exchange", "(II)V"⟩ ⟨"PolicyTable", "exchange", "(II)V"⟩) ∈ lw_all := lw_g (lw_at lw_ms 2 rfl) rfl
theorem qs3 : (Cond.selects "PolicyTable" ⟨"PolicyTable", "paint", "()V"⟩ ⟨"PolicyTable", "paint", "()V"⟩) ∈ lw_all := lw_g (lw_at lw_ms 3 rfl) rfl
theorem qs4 : (Cond.selects "PolicyTable" ⟨"PolicyTable", "findEdges", "()V"⟩ ⟨"PolicyTable", "findEdges", "()V"⟩) ∈ lw_all := lw_g (lw_at lw_ms 4 rfl) rfl
theorem qs5 : (Cond.selects "PolicyTable" ⟨"PolicyTable", "isEdge", "([I[II)Z"⟩ ⟨"PolicyTable", "isEdge", "([I[II)Z"⟩) ∈ lw_all := lw_g (lw_at lw_ms 5 rfl) rfl
theorem qs6 : (Cond.selects "PolicyTable" ⟨"PolicyTable", "paintRule", "(I)V"⟩ ⟨"PolicyTable", "paintRule", "(I)V"⟩) ∈ lw_all := lw_g (lw_at lw_ms 6 rfl) rfl
theorem qs7 : (Cond.selects "PolicyTable" ⟨"PolicyTable", "paintColumn", "(II)V"⟩ ⟨"PolicyTable", "paintColumn", "(II)V"⟩) ∈ lw_all := lw_g (lw_at lw_ms 7 rfl) rfl
theorem qs8 : (Cond.selects "PolicyTable" ⟨"PolicyTable", "fieldsOf", "(III)I"⟩ ⟨"PolicyTable", "fieldsOf", "(III)I"⟩) ∈ lw_all := lw_g (lw_at lw_ms 8 rfl) rfl
theorem qs9 : (Cond.selects "PolicyTable" ⟨"PolicyTable", "packetsOf", "(II)I"⟩ ⟨"PolicyTable", "packetsOf", "(II)I"⟩) ∈ lw_all := lw_g (lw_at lw_ms 9 rfl) rfl
theorem qs10 : (Cond.selects "PolicyTableModel" ⟨"PolicyTableModel", "copy", "(II)V"⟩ ⟨"PolicyTableModel", "copy", "(II)V"⟩) ∈ lw_all := lw_g (lw_at lw_ms 10 rfl) rfl
theorem qs11 : (Cond.selects "PolicyTableModel" ⟨"PolicyTableModel", "write", "(IIII)V"⟩ ⟨"PolicyTableModel", "write", "(IIII)V"⟩) ∈ lw_all := lw_g (lw_at lw_ms 11 rfl) rfl
theorem qs12 : (Cond.selects "PolicyTableModel" ⟨"PolicyTableModel", "missing", "(I)Z"⟩ ⟨"PolicyTableModel", "missing", "(I)Z"⟩) ∈ lw_all := lw_g (lw_at lw_ms 12 rfl) rfl
theorem qs13 : (Cond.selects "PolicyTableModel" ⟨"PolicyTableModel", "deciding", "(II)I"⟩ ⟨"PolicyTableModel", "deciding", "(II)I"⟩) ∈ lw_all := lw_g (lw_at lw_ms 13 rfl) rfl
theorem qs14 : (Cond.selects "PolicyTableModel" ⟨"PolicyTableModel", "matches", "(II)Z"⟩ ⟨"PolicyTableModel", "matches", "(II)Z"⟩) ∈ lw_all := lw_g (lw_at lw_ms 14 rfl) rfl
theorem qs15 : (Cond.selects "PolicyTableModel" ⟨"PolicyTableModel", "actionOf", "(I)I"⟩ ⟨"PolicyTableModel", "actionOf", "(I)I"⟩) ∈ lw_all := lw_g (lw_at lw_ms 15 rfl) rfl
end
section
/-! java/lang/Object -/
set_option maxRecDepth 100000
def RJ0 : String := "java/lang/Object"
abbrev cJ0_init : ByteArray := object_method_1_code
def yJ0_init : MethodName := ⟨RJ0, "<init>", "()V"⟩
theorem dJ0_init_0 : decode cJ0_init 0 = .ok (.return_, 1) := by decide +kernel
theorem q25 : (Jvm.Cond.instanceMethod ({ cls := "java/lang/Object", name := "<init>", desc := "()V" } : Jvm.MethodName)) ∈ lw_all := lw_g (lw_at lw_m0 9 rfl) rfl
theorem q26 : (Jvm.Cond.code ({ cls := "java/lang/Object", name := "<init>", desc := "()V" } : Jvm.MethodName) object_method_1_code (1 : Nat) (Option.none : Option Jvm.ClassFile.FieldType)) ∈ lw_all := lw_g (lw_at lw_m0 10 rfl) rfl
theorem q73 : (Jvm.Cond.arrayClass Jvm.ClassFile.FieldType.int) ∈ lw_all := lw_g (lw_at lw_m0 57 rfl) rfl
set_option maxRecDepth 100000
theorem q74 : (Jvm.Cond.arrayClass Jvm.ClassFile.FieldType.byte) ∈ lw_all := lw_g (lw_at lw_m0 58 rfl) rfl
theorem q16 : (Jvm.Cond.initialized "PolicyTableLaw") ∈ lw_all := lw_g (lw_at lw_m0 0 rfl) rfl
set_option maxRecDepth 100000
theorem q19 : (Jvm.Cond.classLink "PolicyTableLaw" (7 : Nat) "PolicyTable") ∈ lw_all := lw_g (lw_at lw_m0 3 rfl) rfl
theorem q21 : (Jvm.Cond.methodLink "PolicyTableLaw" (9 : Nat) ({ cls := "PolicyTable", name := "<init>", desc := "()V" } : Jvm.MethodName)) ∈ lw_all := lw_g (lw_at lw_m0 5 rfl) rfl
theorem q75 : (Jvm.Cond.methodLink "PolicyTableLaw" (13 : Nat) ({ cls := "PolicyTable", name := "insert", desc := "(IIII)I" } : Jvm.MethodName)) ∈ lw_all := lw_g (lw_at lw_m0 59 rfl) rfl
theorem q83 : (Jvm.Cond.methodLink "PolicyTableLaw" (18 : Nat) ({ cls := "PolicyTable", name := "remove", desc := "(I)I" } : Jvm.MethodName)) ∈ lw_all := lw_g (lw_at lw_m0 67 rfl) rfl
theorem q91 : (Jvm.Cond.methodLink "PolicyTableLaw" (23 : Nat) ({ cls := "PolicyTable", name := "shift", desc := "(II)I" } : Jvm.MethodName)) ∈ lw_all := lw_g (lw_at lw_m0 75 rfl) rfl
theorem q99 : (Jvm.Cond.methodLink "PolicyTableLaw" (28 : Nat) ({ cls := "PolicyTable", name := "otherwise", desc := "(I)I" } : Jvm.MethodName)) ∈ lw_all := lw_g (lw_at lw_m0 83 rfl) rfl
theorem q103 : (Jvm.Cond.methodLink "PolicyTableLaw" (32 : Nat) ({ cls := "PolicyTable", name := "decide", desc := "(III)I" } : Jvm.MethodName)) ∈ lw_all := lw_g (lw_at lw_m0 87 rfl) rfl
theorem q133 : (Jvm.Cond.methodLink "PolicyTableLaw" (37 : Nat) ({ cls := "PolicyTable", name := "action", desc := "(III)I" } : Jvm.MethodName)) ∈ lw_all := lw_g (lw_at lw_m0 117 rfl) rfl
theorem q138 : (Jvm.Cond.methodLink "PolicyTableLaw" (41 : Nat) ({ cls := "PolicyTable", name := "decided", desc := "(I)I" } : Jvm.MethodName)) ∈ lw_all := lw_g (lw_at lw_m0 122 rfl) rfl
theorem q150 : (Jvm.Cond.methodLink "PolicyTableLaw" (45 : Nat) ({ cls := "PolicyTable", name := "having", desc := "(I)I" } : Jvm.MethodName)) ∈ lw_all := lw_g (lw_at lw_m0 134 rfl) rfl
theorem q155 : (Jvm.Cond.methodLink "PolicyTableLaw" (49 : Nat) ({ cls := "PolicyTable", name := "use", desc := "(I)I" } : Jvm.MethodName)) ∈ lw_all := lw_g (lw_at lw_m0 139 rfl) rfl
theorem q159 : (Jvm.Cond.methodLink "PolicyTableLaw" (53 : Nat) ({ cls := "PolicyTable", name := "witness", desc := "(I)I" } : Jvm.MethodName)) ∈ lw_all := lw_g (lw_at lw_m0 143 rfl) rfl
theorem q163 : (Jvm.Cond.classLink "PolicyTableLaw" (10 : Nat) "PolicyTableModel") ∈ lw_all := lw_g (lw_at lw_m0 147 rfl) rfl
theorem q165 : (Jvm.Cond.methodLink "PolicyTableLaw" (12 : Nat) ({ cls := "PolicyTableModel", name := "<init>", desc := "()V" } : Jvm.MethodName)) ∈ lw_all := lw_g (lw_at lw_m0 149 rfl) rfl
theorem q185 : (Jvm.Cond.methodLink "PolicyTableLaw" (17 : Nat) ({ cls := "PolicyTableModel", name := "insert", desc := "(IIII)I" } : Jvm.MethodName)) ∈ lw_all := lw_g (lw_at lw_m0 169 rfl) rfl
theorem q197 : (Jvm.Cond.methodLink "PolicyTableLaw" (22 : Nat) ({ cls := "PolicyTableModel", name := "remove", desc := "(I)I" } : Jvm.MethodName)) ∈ lw_all := lw_g (lw_at lw_m0 181 rfl) rfl
theorem q205 : (Jvm.Cond.methodLink "PolicyTableLaw" (27 : Nat) ({ cls := "PolicyTableModel", name := "shift", desc := "(II)I" } : Jvm.MethodName)) ∈ lw_all := lw_g (lw_at lw_m0 189 rfl) rfl
theorem q211 : (Jvm.Cond.methodLink "PolicyTableLaw" (31 : Nat) ({ cls := "PolicyTableModel", name := "otherwise", desc := "(I)I" } : Jvm.MethodName)) ∈ lw_all := lw_g (lw_at lw_m0 195 rfl) rfl
theorem q215 : (Jvm.Cond.methodLink "PolicyTableLaw" (36 : Nat) ({ cls := "PolicyTableModel", name := "decide", desc := "(III)I" } : Jvm.MethodName)) ∈ lw_all := lw_g (lw_at lw_m0 199 rfl) rfl
theorem q230 : (Jvm.Cond.methodLink "PolicyTableLaw" (40 : Nat) ({ cls := "PolicyTableModel", name := "action", desc := "(III)I" } : Jvm.MethodName)) ∈ lw_all := lw_g (lw_at lw_m0 214 rfl) rfl
theorem q239 : (Jvm.Cond.methodLink "PolicyTableLaw" (44 : Nat) ({ cls := "PolicyTableModel", name := "decided", desc := "(I)I" } : Jvm.MethodName)) ∈ lw_all := lw_g (lw_at lw_m0 223 rfl) rfl
theorem q243 : (Jvm.Cond.methodLink "PolicyTableLaw" (48 : Nat) ({ cls := "PolicyTableModel", name := "having", desc := "(I)I" } : Jvm.MethodName)) ∈ lw_all := lw_g (lw_at lw_m0 227 rfl) rfl
theorem q247 : (Jvm.Cond.methodLink "PolicyTableLaw" (52 : Nat) ({ cls := "PolicyTableModel", name := "use", desc := "(I)I" } : Jvm.MethodName)) ∈ lw_all := lw_g (lw_at lw_m0 231 rfl) rfl
theorem q251 : (Jvm.Cond.methodLink "PolicyTableLaw" (56 : Nat) ({ cls := "PolicyTableModel", name := "witness", desc := "(I)I" } : Jvm.MethodName)) ∈ lw_all := lw_g (lw_at lw_m0 235 rfl) rfl
end
section
/-! PolicyTable -/
set_option maxRecDepth 100000
def RX0 : String := "PolicyTable"
def TX0 : u_T := fun k => match k with
  | 0 => ("PolicyTable", "rules", "I", false)
  | 1 => ("PolicyTable", "fallback", "I", false)
  | 2 => ("PolicyTable", "sourceLow", "[I", true)
  | 3 => ("PolicyTable", "sourceHigh", "[I", true)
  | 4 => ("PolicyTable", "destLow", "[I", true)
  | 5 => ("PolicyTable", "destHigh", "[I", true)
  | 6 => ("PolicyTable", "sortSet", "[I", true)
  | 7 => ("PolicyTable", "actionOf", "[I", true)
  | 8 => ("PolicyTable", "painted", "Z", false)
  | 9 => ("PolicyTable", "columns", "I", false)
  | 10 => ("PolicyTable", "rowCount", "I", false)
  | 11 => ("PolicyTable", "columnFrom", "[I", true)
  | 12 => ("PolicyTable", "rowFrom", "[I", true)
  | 13 => ("PolicyTable", "first", "[B", true)
  | _ => ("PolicyTable", "second", "[B", true)
def tyX0 : Nat → FieldType := fun k => match k with
  | 0 => .int
  | 1 => .int
  | 2 => .array .int
  | 3 => .array .int
  | 4 => .array .int
  | 5 => .array .int
  | 6 => .array .int
  | 7 => .array .int
  | 8 => .boolean
  | 9 => .int
  | 10 => .int
  | 11 => .array .int
  | 12 => .array .int
  | 13 => .array .byte
  | _ => .array .byte
abbrev wsX00 : List Cond := u_ws RX0 TX0 15
set_option maxRecDepth 100000 in
theorem nmX0 : ∀ a, a < 15 → ∀ b, b < 15 → a ≠ b → (TX0 a).2.1 ≠ (TX0 b).2.1 := by decide +kernel
set_option maxRecDepth 100000 in
theorem tyX0_ok : ∀ k, k < 15 → parseFieldDescriptor (TX0 k).2.2.1 = some (tyX0 k) := by decide +kernel
abbrev cX0_init : ByteArray := prog_1_method_1_code
def yX0_init : MethodName := ⟨RX0, "<init>", "()V"⟩
theorem dX0_init_0 : decode cX0_init 0 = .ok (.aload_n 0, 1) := by decide +kernel
theorem dX0_init_1 : decode cX0_init 1 = .ok (.invokespecial 1, 3) := by decide +kernel
theorem dX0_init_4 : decode cX0_init 4 = .ok (.aload_n 0, 1) := by decide +kernel
theorem dX0_init_5 : decode cX0_init 5 = .ok (.bipush 12, 2) := by decide +kernel
theorem dX0_init_7 : decode cX0_init 7 = .ok (.newarray .int, 2) := by decide +kernel
theorem dX0_init_9 : decode cX0_init 9 = .ok (.putfield 7, 3) := by decide +kernel
theorem dX0_init_12 : decode cX0_init 12 = .ok (.aload_n 0, 1) := by decide +kernel
theorem dX0_init_13 : decode cX0_init 13 = .ok (.bipush 12, 2) := by decide +kernel
theorem dX0_init_15 : decode cX0_init 15 = .ok (.newarray .int, 2) := by decide +kernel
theorem dX0_init_17 : decode cX0_init 17 = .ok (.putfield 13, 3) := by decide +kernel
theorem dX0_init_20 : decode cX0_init 20 = .ok (.aload_n 0, 1) := by decide +kernel
theorem dX0_init_21 : decode cX0_init 21 = .ok (.bipush 12, 2) := by decide +kernel
theorem dX0_init_23 : decode cX0_init 23 = .ok (.newarray .int, 2) := by decide +kernel
theorem dX0_init_25 : decode cX0_init 25 = .ok (.putfield 16, 3) := by decide +kernel
theorem dX0_init_28 : decode cX0_init 28 = .ok (.aload_n 0, 1) := by decide +kernel
theorem dX0_init_29 : decode cX0_init 29 = .ok (.bipush 12, 2) := by decide +kernel
theorem dX0_init_31 : decode cX0_init 31 = .ok (.newarray .int, 2) := by decide +kernel
theorem dX0_init_33 : decode cX0_init 33 = .ok (.putfield 19, 3) := by decide +kernel
theorem dX0_init_36 : decode cX0_init 36 = .ok (.aload_n 0, 1) := by decide +kernel
theorem dX0_init_37 : decode cX0_init 37 = .ok (.bipush 12, 2) := by decide +kernel
theorem dX0_init_39 : decode cX0_init 39 = .ok (.newarray .int, 2) := by decide +kernel
theorem dX0_init_41 : decode cX0_init 41 = .ok (.putfield 22, 3) := by decide +kernel
theorem dX0_init_44 : decode cX0_init 44 = .ok (.aload_n 0, 1) := by decide +kernel
theorem dX0_init_45 : decode cX0_init 45 = .ok (.bipush 12, 2) := by decide +kernel
theorem dX0_init_47 : decode cX0_init 47 = .ok (.newarray .int, 2) := by decide +kernel
theorem dX0_init_49 : decode cX0_init 49 = .ok (.putfield 25, 3) := by decide +kernel
theorem dX0_init_52 : decode cX0_init 52 = .ok (.aload_n 0, 1) := by decide +kernel
theorem dX0_init_53 : decode cX0_init 53 = .ok (.bipush 27, 2) := by decide +kernel
theorem dX0_init_55 : decode cX0_init 55 = .ok (.newarray .int, 2) := by decide +kernel
theorem dX0_init_57 : decode cX0_init 57 = .ok (.putfield 28, 3) := by decide +kernel
theorem dX0_init_60 : decode cX0_init 60 = .ok (.aload_n 0, 1) := by decide +kernel
theorem dX0_init_61 : decode cX0_init 61 = .ok (.bipush 27, 2) := by decide +kernel
theorem dX0_init_63 : decode cX0_init 63 = .ok (.newarray .int, 2) := by decide +kernel
theorem dX0_init_65 : decode cX0_init 65 = .ok (.putfield 31, 3) := by decide +kernel
theorem dX0_init_68 : decode cX0_init 68 = .ok (.aload_n 0, 1) := by decide +kernel
theorem dX0_init_69 : decode cX0_init 69 = .ok (.sipush 2704, 3) := by decide +kernel
theorem dX0_init_72 : decode cX0_init 72 = .ok (.newarray .byte, 2) := by decide +kernel
theorem dX0_init_74 : decode cX0_init 74 = .ok (.putfield 34, 3) := by decide +kernel
theorem dX0_init_77 : decode cX0_init 77 = .ok (.aload_n 0, 1) := by decide +kernel
theorem dX0_init_78 : decode cX0_init 78 = .ok (.sipush 2704, 3) := by decide +kernel
theorem dX0_init_81 : decode cX0_init 81 = .ok (.newarray .byte, 2) := by decide +kernel
theorem dX0_init_83 : decode cX0_init 83 = .ok (.putfield 38, 3) := by decide +kernel
theorem dX0_init_86 : decode cX0_init 86 = .ok (.return_, 1) := by decide +kernel
abbrev cX0_insert : ByteArray := prog_1_method_2_code
def yX0_insert : MethodName := ⟨RX0, "insert", "(IIII)I"⟩
theorem dX0_insert_0 : decode cX0_insert 0 = .ok (.iload_n 2, 1) := by decide +kernel
theorem dX0_insert_1 : decode cX0_insert 1 = .ok (.ifCond .lt 25, 3) := by decide +kernel
theorem dX0_insert_4 : decode cX0_insert 4 = .ok (.iload_n 2, 1) := by decide +kernel
theorem dX0_insert_5 : decode cX0_insert 5 = .ok (.sipush 1023, 3) := by decide +kernel
theorem dX0_insert_8 : decode cX0_insert 8 = .ok (.if_icmp .gt 18, 3) := by decide +kernel
theorem dX0_insert_11 : decode cX0_insert 11 = .ok (.iload_n 3, 1) := by decide +kernel
theorem dX0_insert_12 : decode cX0_insert 12 = .ok (.ifCond .lt 14, 3) := by decide +kernel
theorem dX0_insert_15 : decode cX0_insert 15 = .ok (.iload_n 3, 1) := by decide +kernel
theorem dX0_insert_16 : decode cX0_insert 16 = .ok (.sipush 1023, 3) := by decide +kernel
theorem dX0_insert_19 : decode cX0_insert 19 = .ok (.if_icmp .gt 7, 3) := by decide +kernel
theorem dX0_insert_22 : decode cX0_insert 22 = .ok (.iconst 1, 1) := by decide +kernel
theorem dX0_insert_23 : decode cX0_insert 23 = .ok (.goto 4, 3) := by decide +kernel
theorem dX0_insert_26 : decode cX0_insert 26 = .ok (.iconst 0, 1) := by decide +kernel
theorem dX0_insert_27 : decode cX0_insert 27 = .ok (.istore 5, 2) := by decide +kernel
theorem dX0_insert_29 : decode cX0_insert 29 = .ok (.iload_n 1, 1) := by decide +kernel
theorem dX0_insert_30 : decode cX0_insert 30 = .ok (.ifCond .lt 37, 3) := by decide +kernel
theorem dX0_insert_33 : decode cX0_insert 33 = .ok (.iload_n 1, 1) := by decide +kernel
theorem dX0_insert_34 : decode cX0_insert 34 = .ok (.aload_n 0, 1) := by decide +kernel
theorem dX0_insert_35 : decode cX0_insert 35 = .ok (.getfield 41, 3) := by decide +kernel
theorem dX0_insert_38 : decode cX0_insert 38 = .ok (.if_icmp .gt 29, 3) := by decide +kernel
theorem dX0_insert_41 : decode cX0_insert 41 = .ok (.aload_n 0, 1) := by decide +kernel
theorem dX0_insert_42 : decode cX0_insert 42 = .ok (.getfield 41, 3) := by decide +kernel
theorem dX0_insert_45 : decode cX0_insert 45 = .ok (.bipush 12, 2) := by decide +kernel
theorem dX0_insert_47 : decode cX0_insert 47 = .ok (.if_icmp .ge 20, 3) := by decide +kernel
theorem dX0_insert_50 : decode cX0_insert 50 = .ok (.iload 5, 2) := by decide +kernel
theorem dX0_insert_52 : decode cX0_insert 52 = .ok (.ifCond .eq 15, 3) := by decide +kernel
theorem dX0_insert_55 : decode cX0_insert 55 = .ok (.iload 4, 2) := by decide +kernel
theorem dX0_insert_57 : decode cX0_insert 57 = .ok (.ifCond .lt 10, 3) := by decide +kernel
theorem dX0_insert_60 : decode cX0_insert 60 = .ok (.iload 4, 2) := by decide +kernel
theorem dX0_insert_62 : decode cX0_insert 62 = .ok (.bipush 63, 2) := by decide +kernel
theorem dX0_insert_64 : decode cX0_insert 64 = .ok (.if_icmp .le 5, 3) := by decide +kernel
theorem dX0_insert_67 : decode cX0_insert 67 = .ok (.iconst (-1), 1) := by decide +kernel
theorem dX0_insert_68 : decode cX0_insert 68 = .ok (.ireturn, 1) := by decide +kernel
theorem dX0_insert_69 : decode cX0_insert 69 = .ok (.aload_n 0, 1) := by decide +kernel
theorem dX0_insert_70 : decode cX0_insert 70 = .ok (.getfield 41, 3) := by decide +kernel
theorem dX0_insert_73 : decode cX0_insert 73 = .ok (.istore 6, 2) := by decide +kernel
theorem dX0_insert_75 : decode cX0_insert 75 = .ok (.iload 6, 2) := by decide +kernel
theorem dX0_insert_77 : decode cX0_insert 77 = .ok (.iload_n 1, 1) := by decide +kernel
theorem dX0_insert_78 : decode cX0_insert 78 = .ok (.if_icmp .le 19, 3) := by decide +kernel
theorem dX0_insert_81 : decode cX0_insert 81 = .ok (.aload_n 0, 1) := by decide +kernel
theorem dX0_insert_82 : decode cX0_insert 82 = .ok (.iload 6, 2) := by decide +kernel
theorem dX0_insert_84 : decode cX0_insert 84 = .ok (.iconst 1, 1) := by decide +kernel
theorem dX0_insert_85 : decode cX0_insert 85 = .ok (.isub, 1) := by decide +kernel
theorem dX0_insert_86 : decode cX0_insert 86 = .ok (.iload 6, 2) := by decide +kernel
theorem dX0_insert_88 : decode cX0_insert 88 = .ok (.invokevirtual 45, 3) := by decide +kernel
theorem dX0_insert_91 : decode cX0_insert 91 = .ok (.iinc 6 (-1), 3) := by decide +kernel
theorem dX0_insert_94 : decode cX0_insert 94 = .ok (.goto (-19), 3) := by decide +kernel
theorem dX0_insert_97 : decode cX0_insert 97 = .ok (.aload_n 0, 1) := by decide +kernel
theorem dX0_insert_98 : decode cX0_insert 98 = .ok (.getfield 7, 3) := by decide +kernel
theorem dX0_insert_101 : decode cX0_insert 101 = .ok (.iload_n 1, 1) := by decide +kernel
theorem dX0_insert_102 : decode cX0_insert 102 = .ok (.iload_n 2, 1) := by decide +kernel
theorem dX0_insert_103 : decode cX0_insert 103 = .ok (.iconst 5, 1) := by decide +kernel
theorem dX0_insert_104 : decode cX0_insert 104 = .ok (.ishr, 1) := by decide +kernel
theorem dX0_insert_105 : decode cX0_insert 105 = .ok (.iastore, 1) := by decide +kernel
theorem dX0_insert_106 : decode cX0_insert 106 = .ok (.aload_n 0, 1) := by decide +kernel
theorem dX0_insert_107 : decode cX0_insert 107 = .ok (.getfield 13, 3) := by decide +kernel
theorem dX0_insert_110 : decode cX0_insert 110 = .ok (.iload_n 1, 1) := by decide +kernel
theorem dX0_insert_111 : decode cX0_insert 111 = .ok (.iload_n 2, 1) := by decide +kernel
theorem dX0_insert_112 : decode cX0_insert 112 = .ok (.bipush 31, 2) := by decide +kernel
theorem dX0_insert_114 : decode cX0_insert 114 = .ok (.iand, 1) := by decide +kernel
theorem dX0_insert_115 : decode cX0_insert 115 = .ok (.iastore, 1) := by decide +kernel
theorem dX0_insert_116 : decode cX0_insert 116 = .ok (.aload_n 0, 1) := by decide +kernel
theorem dX0_insert_117 : decode cX0_insert 117 = .ok (.getfield 16, 3) := by decide +kernel
theorem dX0_insert_120 : decode cX0_insert 120 = .ok (.iload_n 1, 1) := by decide +kernel
theorem dX0_insert_121 : decode cX0_insert 121 = .ok (.iload_n 3, 1) := by decide +kernel
theorem dX0_insert_122 : decode cX0_insert 122 = .ok (.iconst 5, 1) := by decide +kernel
theorem dX0_insert_123 : decode cX0_insert 123 = .ok (.ishr, 1) := by decide +kernel
theorem dX0_insert_124 : decode cX0_insert 124 = .ok (.iastore, 1) := by decide +kernel
theorem dX0_insert_125 : decode cX0_insert 125 = .ok (.aload_n 0, 1) := by decide +kernel
theorem dX0_insert_126 : decode cX0_insert 126 = .ok (.getfield 19, 3) := by decide +kernel
theorem dX0_insert_129 : decode cX0_insert 129 = .ok (.iload_n 1, 1) := by decide +kernel
theorem dX0_insert_130 : decode cX0_insert 130 = .ok (.iload_n 3, 1) := by decide +kernel
theorem dX0_insert_131 : decode cX0_insert 131 = .ok (.bipush 31, 2) := by decide +kernel
theorem dX0_insert_133 : decode cX0_insert 133 = .ok (.iand, 1) := by decide +kernel
theorem dX0_insert_134 : decode cX0_insert 134 = .ok (.iastore, 1) := by decide +kernel
theorem dX0_insert_135 : decode cX0_insert 135 = .ok (.aload_n 0, 1) := by decide +kernel
theorem dX0_insert_136 : decode cX0_insert 136 = .ok (.getfield 22, 3) := by decide +kernel
theorem dX0_insert_139 : decode cX0_insert 139 = .ok (.iload_n 1, 1) := by decide +kernel
theorem dX0_insert_140 : decode cX0_insert 140 = .ok (.iload 4, 2) := by decide +kernel
theorem dX0_insert_142 : decode cX0_insert 142 = .ok (.bipush 15, 2) := by decide +kernel
theorem dX0_insert_144 : decode cX0_insert 144 = .ok (.iand, 1) := by decide +kernel
theorem dX0_insert_145 : decode cX0_insert 145 = .ok (.iastore, 1) := by decide +kernel
theorem dX0_insert_146 : decode cX0_insert 146 = .ok (.aload_n 0, 1) := by decide +kernel
theorem dX0_insert_147 : decode cX0_insert 147 = .ok (.getfield 25, 3) := by decide +kernel
theorem dX0_insert_150 : decode cX0_insert 150 = .ok (.iload_n 1, 1) := by decide +kernel
theorem dX0_insert_151 : decode cX0_insert 151 = .ok (.iload 4, 2) := by decide +kernel
theorem dX0_insert_153 : decode cX0_insert 153 = .ok (.iconst 4, 1) := by decide +kernel
theorem dX0_insert_154 : decode cX0_insert 154 = .ok (.ishr, 1) := by decide +kernel
theorem dX0_insert_155 : decode cX0_insert 155 = .ok (.iastore, 1) := by decide +kernel
theorem dX0_insert_156 : decode cX0_insert 156 = .ok (.aload_n 0, 1) := by decide +kernel
theorem dX0_insert_157 : decode cX0_insert 157 = .ok (.dup, 1) := by decide +kernel
theorem dX0_insert_158 : decode cX0_insert 158 = .ok (.getfield 41, 3) := by decide +kernel
theorem dX0_insert_161 : decode cX0_insert 161 = .ok (.iconst 1, 1) := by decide +kernel
theorem dX0_insert_162 : decode cX0_insert 162 = .ok (.iadd, 1) := by decide +kernel
theorem dX0_insert_163 : decode cX0_insert 163 = .ok (.putfield 41, 3) := by decide +kernel
theorem dX0_insert_166 : decode cX0_insert 166 = .ok (.aload_n 0, 1) := by decide +kernel
theorem dX0_insert_167 : decode cX0_insert 167 = .ok (.iconst 0, 1) := by decide +kernel
theorem dX0_insert_168 : decode cX0_insert 168 = .ok (.putfield 49, 3) := by decide +kernel
theorem dX0_insert_171 : decode cX0_insert 171 = .ok (.aload_n 0, 1) := by decide +kernel
theorem dX0_insert_172 : decode cX0_insert 172 = .ok (.getfield 41, 3) := by decide +kernel
theorem dX0_insert_175 : decode cX0_insert 175 = .ok (.ireturn, 1) := by decide +kernel
abbrev cX0_copyRule : ByteArray := prog_1_method_14_code
def yX0_copyRule : MethodName := ⟨RX0, "copyRule", "(II)V"⟩
theorem dX0_copyRule_0 : decode cX0_copyRule 0 = .ok (.aload_n 0, 1) := by decide +kernel
theorem dX0_copyRule_1 : decode cX0_copyRule 1 = .ok (.getfield 7, 3) := by decide +kernel
theorem dX0_copyRule_4 : decode cX0_copyRule 4 = .ok (.iload_n 2, 1) := by decide +kernel
theorem dX0_copyRule_5 : decode cX0_copyRule 5 = .ok (.aload_n 0, 1) := by decide +kernel
theorem dX0_copyRule_6 : decode cX0_copyRule 6 = .ok (.getfield 7, 3) := by decide +kernel
theorem dX0_copyRule_9 : decode cX0_copyRule 9 = .ok (.iload_n 1, 1) := by decide +kernel
theorem dX0_copyRule_10 : decode cX0_copyRule 10 = .ok (.iaload, 1) := by decide +kernel
theorem dX0_copyRule_11 : decode cX0_copyRule 11 = .ok (.iastore, 1) := by decide +kernel
theorem dX0_copyRule_12 : decode cX0_copyRule 12 = .ok (.aload_n 0, 1) := by decide +kernel
theorem dX0_copyRule_13 : decode cX0_copyRule 13 = .ok (.getfield 13, 3) := by decide +kernel
theorem dX0_copyRule_16 : decode cX0_copyRule 16 = .ok (.iload_n 2, 1) := by decide +kernel
theorem dX0_copyRule_17 : decode cX0_copyRule 17 = .ok (.aload_n 0, 1) := by decide +kernel
theorem dX0_copyRule_18 : decode cX0_copyRule 18 = .ok (.getfield 13, 3) := by decide +kernel
theorem dX0_copyRule_21 : decode cX0_copyRule 21 = .ok (.iload_n 1, 1) := by decide +kernel
theorem dX0_copyRule_22 : decode cX0_copyRule 22 = .ok (.iaload, 1) := by decide +kernel
theorem dX0_copyRule_23 : decode cX0_copyRule 23 = .ok (.iastore, 1) := by decide +kernel
theorem dX0_copyRule_24 : decode cX0_copyRule 24 = .ok (.aload_n 0, 1) := by decide +kernel
theorem dX0_copyRule_25 : decode cX0_copyRule 25 = .ok (.getfield 16, 3) := by decide +kernel
theorem dX0_copyRule_28 : decode cX0_copyRule 28 = .ok (.iload_n 2, 1) := by decide +kernel
theorem dX0_copyRule_29 : decode cX0_copyRule 29 = .ok (.aload_n 0, 1) := by decide +kernel
theorem dX0_copyRule_30 : decode cX0_copyRule 30 = .ok (.getfield 16, 3) := by decide +kernel
theorem dX0_copyRule_33 : decode cX0_copyRule 33 = .ok (.iload_n 1, 1) := by decide +kernel
theorem dX0_copyRule_34 : decode cX0_copyRule 34 = .ok (.iaload, 1) := by decide +kernel
theorem dX0_copyRule_35 : decode cX0_copyRule 35 = .ok (.iastore, 1) := by decide +kernel
theorem dX0_copyRule_36 : decode cX0_copyRule 36 = .ok (.aload_n 0, 1) := by decide +kernel
theorem dX0_copyRule_37 : decode cX0_copyRule 37 = .ok (.getfield 19, 3) := by decide +kernel
theorem dX0_copyRule_40 : decode cX0_copyRule 40 = .ok (.iload_n 2, 1) := by decide +kernel
theorem dX0_copyRule_41 : decode cX0_copyRule 41 = .ok (.aload_n 0, 1) := by decide +kernel
theorem dX0_copyRule_42 : decode cX0_copyRule 42 = .ok (.getfield 19, 3) := by decide +kernel
theorem dX0_copyRule_45 : decode cX0_copyRule 45 = .ok (.iload_n 1, 1) := by decide +kernel
theorem dX0_copyRule_46 : decode cX0_copyRule 46 = .ok (.iaload, 1) := by decide +kernel
theorem dX0_copyRule_47 : decode cX0_copyRule 47 = .ok (.iastore, 1) := by decide +kernel
theorem dX0_copyRule_48 : decode cX0_copyRule 48 = .ok (.aload_n 0, 1) := by decide +kernel
theorem dX0_copyRule_49 : decode cX0_copyRule 49 = .ok (.getfield 22, 3) := by decide +kernel
theorem dX0_copyRule_52 : decode cX0_copyRule 52 = .ok (.iload_n 2, 1) := by decide +kernel
theorem dX0_copyRule_53 : decode cX0_copyRule 53 = .ok (.aload_n 0, 1) := by decide +kernel
theorem dX0_copyRule_54 : decode cX0_copyRule 54 = .ok (.getfield 22, 3) := by decide +kernel
theorem dX0_copyRule_57 : decode cX0_copyRule 57 = .ok (.iload_n 1, 1) := by decide +kernel
theorem dX0_copyRule_58 : decode cX0_copyRule 58 = .ok (.iaload, 1) := by decide +kernel
theorem dX0_copyRule_59 : decode cX0_copyRule 59 = .ok (.iastore, 1) := by decide +kernel
theorem dX0_copyRule_60 : decode cX0_copyRule 60 = .ok (.aload_n 0, 1) := by decide +kernel
theorem dX0_copyRule_61 : decode cX0_copyRule 61 = .ok (.getfield 25, 3) := by decide +kernel
theorem dX0_copyRule_64 : decode cX0_copyRule 64 = .ok (.iload_n 2, 1) := by decide +kernel
theorem dX0_copyRule_65 : decode cX0_copyRule 65 = .ok (.aload_n 0, 1) := by decide +kernel
theorem dX0_copyRule_66 : decode cX0_copyRule 66 = .ok (.getfield 25, 3) := by decide +kernel
theorem dX0_copyRule_69 : decode cX0_copyRule 69 = .ok (.iload_n 1, 1) := by decide +kernel
theorem dX0_copyRule_70 : decode cX0_copyRule 70 = .ok (.iaload, 1) := by decide +kernel
theorem dX0_copyRule_71 : decode cX0_copyRule 71 = .ok (.iastore, 1) := by decide +kernel
theorem dX0_copyRule_72 : decode cX0_copyRule 72 = .ok (.return_, 1) := by decide +kernel
abbrev cX0_remove : ByteArray := prog_1_method_3_code
def yX0_remove : MethodName := ⟨RX0, "remove", "(I)I"⟩
theorem dX0_remove_0 : decode cX0_remove 0 = .ok (.aload_n 0, 1) := by decide +kernel
theorem dX0_remove_1 : decode cX0_remove 1 = .ok (.iload_n 1, 1) := by decide +kernel
theorem dX0_remove_2 : decode cX0_remove 2 = .ok (.invokevirtual 53, 3) := by decide +kernel
theorem dX0_remove_5 : decode cX0_remove 5 = .ok (.ifCond .ne 5, 3) := by decide +kernel
theorem dX0_remove_8 : decode cX0_remove 8 = .ok (.iconst (-1), 1) := by decide +kernel
theorem dX0_remove_9 : decode cX0_remove 9 = .ok (.ireturn, 1) := by decide +kernel
theorem dX0_remove_10 : decode cX0_remove 10 = .ok (.iload_n 1, 1) := by decide +kernel
theorem dX0_remove_11 : decode cX0_remove 11 = .ok (.istore_n 2, 1) := by decide +kernel
theorem dX0_remove_12 : decode cX0_remove 12 = .ok (.iload_n 2, 1) := by decide +kernel
theorem dX0_remove_13 : decode cX0_remove 13 = .ok (.iconst 1, 1) := by decide +kernel
theorem dX0_remove_14 : decode cX0_remove 14 = .ok (.iadd, 1) := by decide +kernel
theorem dX0_remove_15 : decode cX0_remove 15 = .ok (.aload_n 0, 1) := by decide +kernel
theorem dX0_remove_16 : decode cX0_remove 16 = .ok (.getfield 41, 3) := by decide +kernel
theorem dX0_remove_19 : decode cX0_remove 19 = .ok (.if_icmp .ge 17, 3) := by decide +kernel
theorem dX0_remove_22 : decode cX0_remove 22 = .ok (.aload_n 0, 1) := by decide +kernel
theorem dX0_remove_23 : decode cX0_remove 23 = .ok (.iload_n 2, 1) := by decide +kernel
theorem dX0_remove_24 : decode cX0_remove 24 = .ok (.iconst 1, 1) := by decide +kernel
theorem dX0_remove_25 : decode cX0_remove 25 = .ok (.iadd, 1) := by decide +kernel
theorem dX0_remove_26 : decode cX0_remove 26 = .ok (.iload_n 2, 1) := by decide +kernel
theorem dX0_remove_27 : decode cX0_remove 27 = .ok (.invokevirtual 45, 3) := by decide +kernel
theorem dX0_remove_30 : decode cX0_remove 30 = .ok (.iinc 2 1, 3) := by decide +kernel
theorem dX0_remove_33 : decode cX0_remove 33 = .ok (.goto (-21), 3) := by decide +kernel
theorem dX0_remove_36 : decode cX0_remove 36 = .ok (.aload_n 0, 1) := by decide +kernel
theorem dX0_remove_37 : decode cX0_remove 37 = .ok (.dup, 1) := by decide +kernel
theorem dX0_remove_38 : decode cX0_remove 38 = .ok (.getfield 41, 3) := by decide +kernel
theorem dX0_remove_41 : decode cX0_remove 41 = .ok (.iconst 1, 1) := by decide +kernel
theorem dX0_remove_42 : decode cX0_remove 42 = .ok (.isub, 1) := by decide +kernel
theorem dX0_remove_43 : decode cX0_remove 43 = .ok (.putfield 41, 3) := by decide +kernel
theorem dX0_remove_46 : decode cX0_remove 46 = .ok (.aload_n 0, 1) := by decide +kernel
theorem dX0_remove_47 : decode cX0_remove 47 = .ok (.iconst 0, 1) := by decide +kernel
theorem dX0_remove_48 : decode cX0_remove 48 = .ok (.putfield 49, 3) := by decide +kernel
theorem dX0_remove_51 : decode cX0_remove 51 = .ok (.aload_n 0, 1) := by decide +kernel
theorem dX0_remove_52 : decode cX0_remove 52 = .ok (.getfield 41, 3) := by decide +kernel
theorem dX0_remove_55 : decode cX0_remove 55 = .ok (.ireturn, 1) := by decide +kernel
abbrev cX0_isRule : ByteArray := prog_1_method_12_code
def yX0_isRule : MethodName := ⟨RX0, "isRule", "(I)Z"⟩
theorem dX0_isRule_0 : decode cX0_isRule 0 = .ok (.iload_n 1, 1) := by decide +kernel
theorem dX0_isRule_1 : decode cX0_isRule 1 = .ok (.ifCond .lt 15, 3) := by decide +kernel
theorem dX0_isRule_4 : decode cX0_isRule 4 = .ok (.iload_n 1, 1) := by decide +kernel
theorem dX0_isRule_5 : decode cX0_isRule 5 = .ok (.aload_n 0, 1) := by decide +kernel
theorem dX0_isRule_6 : decode cX0_isRule 6 = .ok (.getfield 41, 3) := by decide +kernel
theorem dX0_isRule_9 : decode cX0_isRule 9 = .ok (.if_icmp .ge 7, 3) := by decide +kernel
theorem dX0_isRule_12 : decode cX0_isRule 12 = .ok (.iconst 1, 1) := by decide +kernel
theorem dX0_isRule_13 : decode cX0_isRule 13 = .ok (.goto 4, 3) := by decide +kernel
theorem dX0_isRule_16 : decode cX0_isRule 16 = .ok (.iconst 0, 1) := by decide +kernel
theorem dX0_isRule_17 : decode cX0_isRule 17 = .ok (.ireturn, 1) := by decide +kernel
abbrev cX0_shift : ByteArray := prog_1_method_4_code
def yX0_shift : MethodName := ⟨RX0, "shift", "(II)I"⟩
theorem dX0_shift_0 : decode cX0_shift 0 = .ok (.aload_n 0, 1) := by decide +kernel
theorem dX0_shift_1 : decode cX0_shift 1 = .ok (.iload_n 1, 1) := by decide +kernel
theorem dX0_shift_2 : decode cX0_shift 2 = .ok (.invokevirtual 53, 3) := by decide +kernel
theorem dX0_shift_5 : decode cX0_shift 5 = .ok (.ifCond .eq 11, 3) := by decide +kernel
theorem dX0_shift_8 : decode cX0_shift 8 = .ok (.aload_n 0, 1) := by decide +kernel
theorem dX0_shift_9 : decode cX0_shift 9 = .ok (.iload_n 2, 1) := by decide +kernel
theorem dX0_shift_10 : decode cX0_shift 10 = .ok (.invokevirtual 53, 3) := by decide +kernel
theorem dX0_shift_13 : decode cX0_shift 13 = .ok (.ifCond .ne 5, 3) := by decide +kernel
theorem dX0_shift_16 : decode cX0_shift 16 = .ok (.iconst (-1), 1) := by decide +kernel
theorem dX0_shift_17 : decode cX0_shift 17 = .ok (.ireturn, 1) := by decide +kernel
theorem dX0_shift_18 : decode cX0_shift 18 = .ok (.iload_n 1, 1) := by decide +kernel
theorem dX0_shift_19 : decode cX0_shift 19 = .ok (.istore_n 3, 1) := by decide +kernel
theorem dX0_shift_20 : decode cX0_shift 20 = .ok (.iload_n 3, 1) := by decide +kernel
theorem dX0_shift_21 : decode cX0_shift 21 = .ok (.iload_n 2, 1) := by decide +kernel
theorem dX0_shift_22 : decode cX0_shift 22 = .ok (.if_icmp .ge 17, 3) := by decide +kernel
theorem dX0_shift_25 : decode cX0_shift 25 = .ok (.aload_n 0, 1) := by decide +kernel
theorem dX0_shift_26 : decode cX0_shift 26 = .ok (.iload_n 3, 1) := by decide +kernel
theorem dX0_shift_27 : decode cX0_shift 27 = .ok (.iload_n 3, 1) := by decide +kernel
theorem dX0_shift_28 : decode cX0_shift 28 = .ok (.iconst 1, 1) := by decide +kernel
theorem dX0_shift_29 : decode cX0_shift 29 = .ok (.iadd, 1) := by decide +kernel
theorem dX0_shift_30 : decode cX0_shift 30 = .ok (.invokevirtual 57, 3) := by decide +kernel
theorem dX0_shift_33 : decode cX0_shift 33 = .ok (.iinc 3 1, 3) := by decide +kernel
theorem dX0_shift_36 : decode cX0_shift 36 = .ok (.goto (-16), 3) := by decide +kernel
theorem dX0_shift_39 : decode cX0_shift 39 = .ok (.iload_n 1, 1) := by decide +kernel
theorem dX0_shift_40 : decode cX0_shift 40 = .ok (.istore_n 3, 1) := by decide +kernel
theorem dX0_shift_41 : decode cX0_shift 41 = .ok (.iload_n 3, 1) := by decide +kernel
theorem dX0_shift_42 : decode cX0_shift 42 = .ok (.iload_n 2, 1) := by decide +kernel
theorem dX0_shift_43 : decode cX0_shift 43 = .ok (.if_icmp .le 17, 3) := by decide +kernel
theorem dX0_shift_46 : decode cX0_shift 46 = .ok (.aload_n 0, 1) := by decide +kernel
theorem dX0_shift_47 : decode cX0_shift 47 = .ok (.iload_n 3, 1) := by decide +kernel
theorem dX0_shift_48 : decode cX0_shift 48 = .ok (.iload_n 3, 1) := by decide +kernel
theorem dX0_shift_49 : decode cX0_shift 49 = .ok (.iconst 1, 1) := by decide +kernel
theorem dX0_shift_50 : decode cX0_shift 50 = .ok (.isub, 1) := by decide +kernel
theorem dX0_shift_51 : decode cX0_shift 51 = .ok (.invokevirtual 57, 3) := by decide +kernel
theorem dX0_shift_54 : decode cX0_shift 54 = .ok (.iinc 3 (-1), 3) := by decide +kernel
theorem dX0_shift_57 : decode cX0_shift 57 = .ok (.goto (-16), 3) := by decide +kernel
theorem dX0_shift_60 : decode cX0_shift 60 = .ok (.aload_n 0, 1) := by decide +kernel
theorem dX0_shift_61 : decode cX0_shift 61 = .ok (.iconst 0, 1) := by decide +kernel
theorem dX0_shift_62 : decode cX0_shift 62 = .ok (.putfield 49, 3) := by decide +kernel
theorem dX0_shift_65 : decode cX0_shift 65 = .ok (.iconst 0, 1) := by decide +kernel
theorem dX0_shift_66 : decode cX0_shift 66 = .ok (.ireturn, 1) := by decide +kernel
abbrev cX0_exchange : ByteArray := prog_1_method_15_code
def yX0_exchange : MethodName := ⟨RX0, "exchange", "(II)V"⟩
theorem dX0_exchange_0 : decode cX0_exchange 0 = .ok (.aload_n 0, 1) := by decide +kernel
theorem dX0_exchange_1 : decode cX0_exchange 1 = .ok (.getfield 7, 3) := by decide +kernel
theorem dX0_exchange_4 : decode cX0_exchange 4 = .ok (.iload_n 1, 1) := by decide +kernel
theorem dX0_exchange_5 : decode cX0_exchange 5 = .ok (.iaload, 1) := by decide +kernel
theorem dX0_exchange_6 : decode cX0_exchange 6 = .ok (.istore_n 3, 1) := by decide +kernel
theorem dX0_exchange_7 : decode cX0_exchange 7 = .ok (.aload_n 0, 1) := by decide +kernel
theorem dX0_exchange_8 : decode cX0_exchange 8 = .ok (.getfield 13, 3) := by decide +kernel
theorem dX0_exchange_11 : decode cX0_exchange 11 = .ok (.iload_n 1, 1) := by decide +kernel
theorem dX0_exchange_12 : decode cX0_exchange 12 = .ok (.iaload, 1) := by decide +kernel
theorem dX0_exchange_13 : decode cX0_exchange 13 = .ok (.istore 4, 2) := by decide +kernel
theorem dX0_exchange_15 : decode cX0_exchange 15 = .ok (.aload_n 0, 1) := by decide +kernel
theorem dX0_exchange_16 : decode cX0_exchange 16 = .ok (.getfield 16, 3) := by decide +kernel
theorem dX0_exchange_19 : decode cX0_exchange 19 = .ok (.iload_n 1, 1) := by decide +kernel
theorem dX0_exchange_20 : decode cX0_exchange 20 = .ok (.iaload, 1) := by decide +kernel
theorem dX0_exchange_21 : decode cX0_exchange 21 = .ok (.istore 5, 2) := by decide +kernel
theorem dX0_exchange_23 : decode cX0_exchange 23 = .ok (.aload_n 0, 1) := by decide +kernel
theorem dX0_exchange_24 : decode cX0_exchange 24 = .ok (.getfield 19, 3) := by decide +kernel
theorem dX0_exchange_27 : decode cX0_exchange 27 = .ok (.iload_n 1, 1) := by decide +kernel
theorem dX0_exchange_28 : decode cX0_exchange 28 = .ok (.iaload, 1) := by decide +kernel
theorem dX0_exchange_29 : decode cX0_exchange 29 = .ok (.istore 6, 2) := by decide +kernel
theorem dX0_exchange_31 : decode cX0_exchange 31 = .ok (.aload_n 0, 1) := by decide +kernel
theorem dX0_exchange_32 : decode cX0_exchange 32 = .ok (.getfield 22, 3) := by decide +kernel
theorem dX0_exchange_35 : decode cX0_exchange 35 = .ok (.iload_n 1, 1) := by decide +kernel
theorem dX0_exchange_36 : decode cX0_exchange 36 = .ok (.iaload, 1) := by decide +kernel
theorem dX0_exchange_37 : decode cX0_exchange 37 = .ok (.istore 7, 2) := by decide +kernel
theorem dX0_exchange_39 : decode cX0_exchange 39 = .ok (.aload_n 0, 1) := by decide +kernel
theorem dX0_exchange_40 : decode cX0_exchange 40 = .ok (.getfield 25, 3) := by decide +kernel
theorem dX0_exchange_43 : decode cX0_exchange 43 = .ok (.iload_n 1, 1) := by decide +kernel
theorem dX0_exchange_44 : decode cX0_exchange 44 = .ok (.iaload, 1) := by decide +kernel
theorem dX0_exchange_45 : decode cX0_exchange 45 = .ok (.istore 8, 2) := by decide +kernel
theorem dX0_exchange_47 : decode cX0_exchange 47 = .ok (.aload_n 0, 1) := by decide +kernel
theorem dX0_exchange_48 : decode cX0_exchange 48 = .ok (.iload_n 2, 1) := by decide +kernel
theorem dX0_exchange_49 : decode cX0_exchange 49 = .ok (.iload_n 1, 1) := by decide +kernel
theorem dX0_exchange_50 : decode cX0_exchange 50 = .ok (.invokevirtual 45, 3) := by decide +kernel
theorem dX0_exchange_53 : decode cX0_exchange 53 = .ok (.aload_n 0, 1) := by decide +kernel
theorem dX0_exchange_54 : decode cX0_exchange 54 = .ok (.getfield 7, 3) := by decide +kernel
theorem dX0_exchange_57 : decode cX0_exchange 57 = .ok (.iload_n 2, 1) := by decide +kernel
theorem dX0_exchange_58 : decode cX0_exchange 58 = .ok (.iload_n 3, 1) := by decide +kernel
theorem dX0_exchange_59 : decode cX0_exchange 59 = .ok (.iastore, 1) := by decide +kernel
theorem dX0_exchange_60 : decode cX0_exchange 60 = .ok (.aload_n 0, 1) := by decide +kernel
theorem dX0_exchange_61 : decode cX0_exchange 61 = .ok (.getfield 13, 3) := by decide +kernel
theorem dX0_exchange_64 : decode cX0_exchange 64 = .ok (.iload_n 2, 1) := by decide +kernel
theorem dX0_exchange_65 : decode cX0_exchange 65 = .ok (.iload 4, 2) := by decide +kernel
theorem dX0_exchange_67 : decode cX0_exchange 67 = .ok (.iastore, 1) := by decide +kernel
theorem dX0_exchange_68 : decode cX0_exchange 68 = .ok (.aload_n 0, 1) := by decide +kernel
theorem dX0_exchange_69 : decode cX0_exchange 69 = .ok (.getfield 16, 3) := by decide +kernel
theorem dX0_exchange_72 : decode cX0_exchange 72 = .ok (.iload_n 2, 1) := by decide +kernel
theorem dX0_exchange_73 : decode cX0_exchange 73 = .ok (.iload 5, 2) := by decide +kernel
theorem dX0_exchange_75 : decode cX0_exchange 75 = .ok (.iastore, 1) := by decide +kernel
theorem dX0_exchange_76 : decode cX0_exchange 76 = .ok (.aload_n 0, 1) := by decide +kernel
theorem dX0_exchange_77 : decode cX0_exchange 77 = .ok (.getfield 19, 3) := by decide +kernel
theorem dX0_exchange_80 : decode cX0_exchange 80 = .ok (.iload_n 2, 1) := by decide +kernel
theorem dX0_exchange_81 : decode cX0_exchange 81 = .ok (.iload 6, 2) := by decide +kernel
theorem dX0_exchange_83 : decode cX0_exchange 83 = .ok (.iastore, 1) := by decide +kernel
theorem dX0_exchange_84 : decode cX0_exchange 84 = .ok (.aload_n 0, 1) := by decide +kernel
theorem dX0_exchange_85 : decode cX0_exchange 85 = .ok (.getfield 22, 3) := by decide +kernel
theorem dX0_exchange_88 : decode cX0_exchange 88 = .ok (.iload_n 2, 1) := by decide +kernel
theorem dX0_exchange_89 : decode cX0_exchange 89 = .ok (.iload 7, 2) := by decide +kernel
theorem dX0_exchange_91 : decode cX0_exchange 91 = .ok (.iastore, 1) := by decide +kernel
theorem dX0_exchange_92 : decode cX0_exchange 92 = .ok (.aload_n 0, 1) := by decide +kernel
theorem dX0_exchange_93 : decode cX0_exchange 93 = .ok (.getfield 25, 3) := by decide +kernel
theorem dX0_exchange_96 : decode cX0_exchange 96 = .ok (.iload_n 2, 1) := by decide +kernel
theorem dX0_exchange_97 : decode cX0_exchange 97 = .ok (.iload 8, 2) := by decide +kernel
theorem dX0_exchange_99 : decode cX0_exchange 99 = .ok (.iastore, 1) := by decide +kernel
theorem dX0_exchange_100 : decode cX0_exchange 100 = .ok (.return_, 1) := by decide +kernel
abbrev cX0_otherwise : ByteArray := prog_1_method_5_code
def yX0_otherwise : MethodName := ⟨RX0, "otherwise", "(I)I"⟩
theorem dX0_otherwise_0 : decode cX0_otherwise 0 = .ok (.aload_n 0, 1) := by decide +kernel
theorem dX0_otherwise_1 : decode cX0_otherwise 1 = .ok (.getfield 60, 3) := by decide +kernel
theorem dX0_otherwise_4 : decode cX0_otherwise 4 = .ok (.istore_n 2, 1) := by decide +kernel
theorem dX0_otherwise_5 : decode cX0_otherwise 5 = .ok (.aload_n 0, 1) := by decide +kernel
theorem dX0_otherwise_6 : decode cX0_otherwise 6 = .ok (.iload_n 1, 1) := by decide +kernel
theorem dX0_otherwise_7 : decode cX0_otherwise 7 = .ok (.iconst 3, 1) := by decide +kernel
theorem dX0_otherwise_8 : decode cX0_otherwise 8 = .ok (.iand, 1) := by decide +kernel
theorem dX0_otherwise_9 : decode cX0_otherwise 9 = .ok (.putfield 60, 3) := by decide +kernel
theorem dX0_otherwise_12 : decode cX0_otherwise 12 = .ok (.iload_n 2, 1) := by decide +kernel
theorem dX0_otherwise_13 : decode cX0_otherwise 13 = .ok (.ireturn, 1) := by decide +kernel
abbrev cX0_decide : ByteArray := prog_1_method_6_code
def yX0_decide : MethodName := ⟨RX0, "decide", "(III)I"⟩
theorem dX0_decide_0 : decode cX0_decide 0 = .ok (.iload_n 1, 1) := by decide +kernel
theorem dX0_decide_1 : decode cX0_decide 1 = .ok (.iload_n 2, 1) := by decide +kernel
theorem dX0_decide_2 : decode cX0_decide 2 = .ok (.iload_n 3, 1) := by decide +kernel
theorem dX0_decide_3 : decode cX0_decide 3 = .ok (.invokestatic 63, 3) := by decide +kernel
theorem dX0_decide_6 : decode cX0_decide 6 = .ok (.ifCond .ne 6, 3) := by decide +kernel
theorem dX0_decide_9 : decode cX0_decide 9 = .ok (.bipush (-2), 2) := by decide +kernel
theorem dX0_decide_11 : decode cX0_decide 11 = .ok (.ireturn, 1) := by decide +kernel
theorem dX0_decide_12 : decode cX0_decide 12 = .ok (.aload_n 0, 1) := by decide +kernel
theorem dX0_decide_13 : decode cX0_decide 13 = .ok (.invokevirtual 67, 3) := by decide +kernel
theorem dX0_decide_16 : decode cX0_decide 16 = .ok (.aload_n 0, 1) := by decide +kernel
theorem dX0_decide_17 : decode cX0_decide 17 = .ok (.getfield 28, 3) := by decide +kernel
theorem dX0_decide_20 : decode cX0_decide 20 = .ok (.aload_n 0, 1) := by decide +kernel
theorem dX0_decide_21 : decode cX0_decide 21 = .ok (.getfield 70, 3) := by decide +kernel
theorem dX0_decide_24 : decode cX0_decide 24 = .ok (.iload_n 1, 1) := by decide +kernel
theorem dX0_decide_25 : decode cX0_decide 25 = .ok (.invokestatic 73, 3) := by decide +kernel
theorem dX0_decide_28 : decode cX0_decide 28 = .ok (.istore 4, 2) := by decide +kernel
theorem dX0_decide_30 : decode cX0_decide 30 = .ok (.aload_n 0, 1) := by decide +kernel
theorem dX0_decide_31 : decode cX0_decide 31 = .ok (.getfield 31, 3) := by decide +kernel
theorem dX0_decide_34 : decode cX0_decide 34 = .ok (.aload_n 0, 1) := by decide +kernel
theorem dX0_decide_35 : decode cX0_decide 35 = .ok (.getfield 77, 3) := by decide +kernel
theorem dX0_decide_38 : decode cX0_decide 38 = .ok (.iload_n 2, 1) := by decide +kernel
theorem dX0_decide_39 : decode cX0_decide 39 = .ok (.invokestatic 73, 3) := by decide +kernel
theorem dX0_decide_42 : decode cX0_decide 42 = .ok (.istore 5, 2) := by decide +kernel
theorem dX0_decide_44 : decode cX0_decide 44 = .ok (.aload_n 0, 1) := by decide +kernel
theorem dX0_decide_45 : decode cX0_decide 45 = .ok (.getfield 34, 3) := by decide +kernel
theorem dX0_decide_48 : decode cX0_decide 48 = .ok (.bipush 104, 2) := by decide +kernel
theorem dX0_decide_50 : decode cX0_decide 50 = .ok (.iload 4, 2) := by decide +kernel
theorem dX0_decide_52 : decode cX0_decide 52 = .ok (.imul, 1) := by decide +kernel
theorem dX0_decide_53 : decode cX0_decide 53 = .ok (.iconst 4, 1) := by decide +kernel
theorem dX0_decide_54 : decode cX0_decide 54 = .ok (.iload 5, 2) := by decide +kernel
theorem dX0_decide_56 : decode cX0_decide 56 = .ok (.imul, 1) := by decide +kernel
theorem dX0_decide_57 : decode cX0_decide 57 = .ok (.iadd, 1) := by decide +kernel
theorem dX0_decide_58 : decode cX0_decide 58 = .ok (.iload_n 3, 1) := by decide +kernel
theorem dX0_decide_59 : decode cX0_decide 59 = .ok (.iadd, 1) := by decide +kernel
theorem dX0_decide_60 : decode cX0_decide 60 = .ok (.baload, 1) := by decide +kernel
theorem dX0_decide_61 : decode cX0_decide 61 = .ok (.ireturn, 1) := by decide +kernel
abbrev cX0_isPacket : ByteArray := prog_1_method_13_code
def yX0_isPacket : MethodName := ⟨RX0, "isPacket", "(III)Z"⟩
theorem dX0_isPacket_0 : decode cX0_isPacket 0 = .ok (.iload_n 0, 1) := by decide +kernel
theorem dX0_isPacket_1 : decode cX0_isPacket 1 = .ok (.ifCond .lt 32, 3) := by decide +kernel
theorem dX0_isPacket_4 : decode cX0_isPacket 4 = .ok (.iload_n 0, 1) := by decide +kernel
theorem dX0_isPacket_5 : decode cX0_isPacket 5 = .ok (.bipush 31, 2) := by decide +kernel
theorem dX0_isPacket_7 : decode cX0_isPacket 7 = .ok (.if_icmp .gt 26, 3) := by decide +kernel
theorem dX0_isPacket_10 : decode cX0_isPacket 10 = .ok (.iload_n 1, 1) := by decide +kernel
theorem dX0_isPacket_11 : decode cX0_isPacket 11 = .ok (.ifCond .lt 22, 3) := by decide +kernel
theorem dX0_isPacket_14 : decode cX0_isPacket 14 = .ok (.iload_n 1, 1) := by decide +kernel
theorem dX0_isPacket_15 : decode cX0_isPacket 15 = .ok (.bipush 31, 2) := by decide +kernel
theorem dX0_isPacket_17 : decode cX0_isPacket 17 = .ok (.if_icmp .gt 16, 3) := by decide +kernel
theorem dX0_isPacket_20 : decode cX0_isPacket 20 = .ok (.iload_n 2, 1) := by decide +kernel
theorem dX0_isPacket_21 : decode cX0_isPacket 21 = .ok (.ifCond .lt 12, 3) := by decide +kernel
theorem dX0_isPacket_24 : decode cX0_isPacket 24 = .ok (.iload_n 2, 1) := by decide +kernel
theorem dX0_isPacket_25 : decode cX0_isPacket 25 = .ok (.iconst 3, 1) := by decide +kernel
theorem dX0_isPacket_26 : decode cX0_isPacket 26 = .ok (.if_icmp .gt 7, 3) := by decide +kernel
theorem dX0_isPacket_29 : decode cX0_isPacket 29 = .ok (.iconst 1, 1) := by decide +kernel
theorem dX0_isPacket_30 : decode cX0_isPacket 30 = .ok (.goto 4, 3) := by decide +kernel
theorem dX0_isPacket_33 : decode cX0_isPacket 33 = .ok (.iconst 0, 1) := by decide +kernel
theorem dX0_isPacket_34 : decode cX0_isPacket 34 = .ok (.ireturn, 1) := by decide +kernel
abbrev cX0_paint : ByteArray := prog_1_method_19_code
def yX0_paint : MethodName := ⟨RX0, "paint", "()V"⟩
theorem dX0_paint_0 : decode cX0_paint 0 = .ok (.aload_n 0, 1) := by decide +kernel
theorem dX0_paint_1 : decode cX0_paint 1 = .ok (.getfield 49, 3) := by decide +kernel
theorem dX0_paint_4 : decode cX0_paint 4 = .ok (.ifCond .eq 4, 3) := by decide +kernel
theorem dX0_paint_7 : decode cX0_paint 7 = .ok (.return_, 1) := by decide +kernel
theorem dX0_paint_8 : decode cX0_paint 8 = .ok (.aload_n 0, 1) := by decide +kernel
theorem dX0_paint_9 : decode cX0_paint 9 = .ok (.iconst 1, 1) := by decide +kernel
theorem dX0_paint_10 : decode cX0_paint 10 = .ok (.putfield 49, 3) := by decide +kernel
theorem dX0_paint_13 : decode cX0_paint 13 = .ok (.aload_n 0, 1) := by decide +kernel
theorem dX0_paint_14 : decode cX0_paint 14 = .ok (.invokevirtual 95, 3) := by decide +kernel
theorem dX0_paint_17 : decode cX0_paint 17 = .ok (.iconst 0, 1) := by decide +kernel
theorem dX0_paint_18 : decode cX0_paint 18 = .ok (.istore_n 1, 1) := by decide +kernel
theorem dX0_paint_19 : decode cX0_paint 19 = .ok (.iload_n 1, 1) := by decide +kernel
theorem dX0_paint_20 : decode cX0_paint 20 = .ok (.sipush 2704, 3) := by decide +kernel
theorem dX0_paint_23 : decode cX0_paint 23 = .ok (.if_icmp .ge 23, 3) := by decide +kernel
theorem dX0_paint_26 : decode cX0_paint 26 = .ok (.aload_n 0, 1) := by decide +kernel
theorem dX0_paint_27 : decode cX0_paint 27 = .ok (.getfield 34, 3) := by decide +kernel
theorem dX0_paint_30 : decode cX0_paint 30 = .ok (.iload_n 1, 1) := by decide +kernel
theorem dX0_paint_31 : decode cX0_paint 31 = .ok (.iconst (-1), 1) := by decide +kernel
theorem dX0_paint_32 : decode cX0_paint 32 = .ok (.bastore, 1) := by decide +kernel
theorem dX0_paint_33 : decode cX0_paint 33 = .ok (.aload_n 0, 1) := by decide +kernel
theorem dX0_paint_34 : decode cX0_paint 34 = .ok (.getfield 38, 3) := by decide +kernel
theorem dX0_paint_37 : decode cX0_paint 37 = .ok (.iload_n 1, 1) := by decide +kernel
theorem dX0_paint_38 : decode cX0_paint 38 = .ok (.iconst (-1), 1) := by decide +kernel
theorem dX0_paint_39 : decode cX0_paint 39 = .ok (.bastore, 1) := by decide +kernel
theorem dX0_paint_40 : decode cX0_paint 40 = .ok (.iinc 1 1, 3) := by decide +kernel
theorem dX0_paint_43 : decode cX0_paint 43 = .ok (.goto (-24), 3) := by decide +kernel
theorem dX0_paint_46 : decode cX0_paint 46 = .ok (.aload_n 0, 1) := by decide +kernel
theorem dX0_paint_47 : decode cX0_paint 47 = .ok (.getfield 41, 3) := by decide +kernel
theorem dX0_paint_50 : decode cX0_paint 50 = .ok (.iconst 1, 1) := by decide +kernel
theorem dX0_paint_51 : decode cX0_paint 51 = .ok (.isub, 1) := by decide +kernel
theorem dX0_paint_52 : decode cX0_paint 52 = .ok (.istore_n 1, 1) := by decide +kernel
theorem dX0_paint_53 : decode cX0_paint 53 = .ok (.iload_n 1, 1) := by decide +kernel
theorem dX0_paint_54 : decode cX0_paint 54 = .ok (.ifCond .lt 14, 3) := by decide +kernel
theorem dX0_paint_57 : decode cX0_paint 57 = .ok (.aload_n 0, 1) := by decide +kernel
theorem dX0_paint_58 : decode cX0_paint 58 = .ok (.iload_n 1, 1) := by decide +kernel
theorem dX0_paint_59 : decode cX0_paint 59 = .ok (.invokevirtual 98, 3) := by decide +kernel
theorem dX0_paint_62 : decode cX0_paint 62 = .ok (.iinc 1 (-1), 3) := by decide +kernel
theorem dX0_paint_65 : decode cX0_paint 65 = .ok (.goto (-12), 3) := by decide +kernel
theorem dX0_paint_68 : decode cX0_paint 68 = .ok (.return_, 1) := by decide +kernel
abbrev cX0_findEdges : ByteArray := prog_1_method_20_code
def yX0_findEdges : MethodName := ⟨RX0, "findEdges", "()V"⟩
theorem dX0_findEdges_0 : decode cX0_findEdges 0 = .ok (.aload_n 0, 1) := by decide +kernel
theorem dX0_findEdges_1 : decode cX0_findEdges 1 = .ok (.iconst 0, 1) := by decide +kernel
theorem dX0_findEdges_2 : decode cX0_findEdges 2 = .ok (.putfield 70, 3) := by decide +kernel
theorem dX0_findEdges_5 : decode cX0_findEdges 5 = .ok (.aload_n 0, 1) := by decide +kernel
theorem dX0_findEdges_6 : decode cX0_findEdges 6 = .ok (.iconst 0, 1) := by decide +kernel
theorem dX0_findEdges_7 : decode cX0_findEdges 7 = .ok (.putfield 77, 3) := by decide +kernel
theorem dX0_findEdges_10 : decode cX0_findEdges 10 = .ok (.iconst 0, 1) := by decide +kernel
theorem dX0_findEdges_11 : decode cX0_findEdges 11 = .ok (.istore_n 1, 1) := by decide +kernel
theorem dX0_findEdges_12 : decode cX0_findEdges 12 = .ok (.iload_n 1, 1) := by decide +kernel
theorem dX0_findEdges_13 : decode cX0_findEdges 13 = .ok (.bipush 32, 2) := by decide +kernel
theorem dX0_findEdges_15 : decode cX0_findEdges 15 = .ok (.if_icmp .ge 89, 3) := by decide +kernel
theorem dX0_findEdges_18 : decode cX0_findEdges 18 = .ok (.iload_n 1, 1) := by decide +kernel
theorem dX0_findEdges_19 : decode cX0_findEdges 19 = .ok (.ifCond .eq 19, 3) := by decide +kernel
theorem dX0_findEdges_22 : decode cX0_findEdges 22 = .ok (.aload_n 0, 1) := by decide +kernel
theorem dX0_findEdges_23 : decode cX0_findEdges 23 = .ok (.aload_n 0, 1) := by decide +kernel
theorem dX0_findEdges_24 : decode cX0_findEdges 24 = .ok (.getfield 7, 3) := by decide +kernel
theorem dX0_findEdges_27 : decode cX0_findEdges 27 = .ok (.aload_n 0, 1) := by decide +kernel
theorem dX0_findEdges_28 : decode cX0_findEdges 28 = .ok (.getfield 13, 3) := by decide +kernel
theorem dX0_findEdges_31 : decode cX0_findEdges 31 = .ok (.iload_n 1, 1) := by decide +kernel
theorem dX0_findEdges_32 : decode cX0_findEdges 32 = .ok (.invokevirtual 102, 3) := by decide +kernel
theorem dX0_findEdges_35 : decode cX0_findEdges 35 = .ok (.ifCond .eq 23, 3) := by decide +kernel
theorem dX0_findEdges_38 : decode cX0_findEdges 38 = .ok (.aload_n 0, 1) := by decide +kernel
theorem dX0_findEdges_39 : decode cX0_findEdges 39 = .ok (.getfield 28, 3) := by decide +kernel
theorem dX0_findEdges_42 : decode cX0_findEdges 42 = .ok (.aload_n 0, 1) := by decide +kernel
theorem dX0_findEdges_43 : decode cX0_findEdges 43 = .ok (.getfield 70, 3) := by decide +kernel
theorem dX0_findEdges_46 : decode cX0_findEdges 46 = .ok (.iload_n 1, 1) := by decide +kernel
theorem dX0_findEdges_47 : decode cX0_findEdges 47 = .ok (.iastore, 1) := by decide +kernel
theorem dX0_findEdges_48 : decode cX0_findEdges 48 = .ok (.aload_n 0, 1) := by decide +kernel
theorem dX0_findEdges_49 : decode cX0_findEdges 49 = .ok (.dup, 1) := by decide +kernel
theorem dX0_findEdges_50 : decode cX0_findEdges 50 = .ok (.getfield 70, 3) := by decide +kernel
theorem dX0_findEdges_53 : decode cX0_findEdges 53 = .ok (.iconst 1, 1) := by decide +kernel
theorem dX0_findEdges_54 : decode cX0_findEdges 54 = .ok (.iadd, 1) := by decide +kernel
theorem dX0_findEdges_55 : decode cX0_findEdges 55 = .ok (.putfield 70, 3) := by decide +kernel
theorem dX0_findEdges_58 : decode cX0_findEdges 58 = .ok (.iload_n 1, 1) := by decide +kernel
theorem dX0_findEdges_59 : decode cX0_findEdges 59 = .ok (.ifCond .eq 19, 3) := by decide +kernel
theorem dX0_findEdges_62 : decode cX0_findEdges 62 = .ok (.aload_n 0, 1) := by decide +kernel
theorem dX0_findEdges_63 : decode cX0_findEdges 63 = .ok (.aload_n 0, 1) := by decide +kernel
theorem dX0_findEdges_64 : decode cX0_findEdges 64 = .ok (.getfield 16, 3) := by decide +kernel
theorem dX0_findEdges_67 : decode cX0_findEdges 67 = .ok (.aload_n 0, 1) := by decide +kernel
theorem dX0_findEdges_68 : decode cX0_findEdges 68 = .ok (.getfield 19, 3) := by decide +kernel
theorem dX0_findEdges_71 : decode cX0_findEdges 71 = .ok (.iload_n 1, 1) := by decide +kernel
theorem dX0_findEdges_72 : decode cX0_findEdges 72 = .ok (.invokevirtual 102, 3) := by decide +kernel
theorem dX0_findEdges_75 : decode cX0_findEdges 75 = .ok (.ifCond .eq 23, 3) := by decide +kernel
theorem dX0_findEdges_78 : decode cX0_findEdges 78 = .ok (.aload_n 0, 1) := by decide +kernel
theorem dX0_findEdges_79 : decode cX0_findEdges 79 = .ok (.getfield 31, 3) := by decide +kernel
theorem dX0_findEdges_82 : decode cX0_findEdges 82 = .ok (.aload_n 0, 1) := by decide +kernel
theorem dX0_findEdges_83 : decode cX0_findEdges 83 = .ok (.getfield 77, 3) := by decide +kernel
theorem dX0_findEdges_86 : decode cX0_findEdges 86 = .ok (.iload_n 1, 1) := by decide +kernel
theorem dX0_findEdges_87 : decode cX0_findEdges 87 = .ok (.iastore, 1) := by decide +kernel
theorem dX0_findEdges_88 : decode cX0_findEdges 88 = .ok (.aload_n 0, 1) := by decide +kernel
theorem dX0_findEdges_89 : decode cX0_findEdges 89 = .ok (.dup, 1) := by decide +kernel
theorem dX0_findEdges_90 : decode cX0_findEdges 90 = .ok (.getfield 77, 3) := by decide +kernel
theorem dX0_findEdges_93 : decode cX0_findEdges 93 = .ok (.iconst 1, 1) := by decide +kernel
theorem dX0_findEdges_94 : decode cX0_findEdges 94 = .ok (.iadd, 1) := by decide +kernel
theorem dX0_findEdges_95 : decode cX0_findEdges 95 = .ok (.putfield 77, 3) := by decide +kernel
theorem dX0_findEdges_98 : decode cX0_findEdges 98 = .ok (.iinc 1 1, 3) := by decide +kernel
theorem dX0_findEdges_101 : decode cX0_findEdges 101 = .ok (.goto (-89), 3) := by decide +kernel
theorem dX0_findEdges_104 : decode cX0_findEdges 104 = .ok (.aload_n 0, 1) := by decide +kernel
theorem dX0_findEdges_105 : decode cX0_findEdges 105 = .ok (.getfield 28, 3) := by decide +kernel
theorem dX0_findEdges_108 : decode cX0_findEdges 108 = .ok (.aload_n 0, 1) := by decide +kernel
theorem dX0_findEdges_109 : decode cX0_findEdges 109 = .ok (.getfield 70, 3) := by decide +kernel
theorem dX0_findEdges_112 : decode cX0_findEdges 112 = .ok (.bipush 32, 2) := by decide +kernel
theorem dX0_findEdges_114 : decode cX0_findEdges 114 = .ok (.iastore, 1) := by decide +kernel
theorem dX0_findEdges_115 : decode cX0_findEdges 115 = .ok (.aload_n 0, 1) := by decide +kernel
theorem dX0_findEdges_116 : decode cX0_findEdges 116 = .ok (.getfield 31, 3) := by decide +kernel
theorem dX0_findEdges_119 : decode cX0_findEdges 119 = .ok (.aload_n 0, 1) := by decide +kernel
theorem dX0_findEdges_120 : decode cX0_findEdges 120 = .ok (.getfield 77, 3) := by decide +kernel
theorem dX0_findEdges_123 : decode cX0_findEdges 123 = .ok (.bipush 32, 2) := by decide +kernel
theorem dX0_findEdges_125 : decode cX0_findEdges 125 = .ok (.iastore, 1) := by decide +kernel
theorem dX0_findEdges_126 : decode cX0_findEdges 126 = .ok (.return_, 1) := by decide +kernel
abbrev cX0_isEdge : ByteArray := prog_1_method_21_code
def yX0_isEdge : MethodName := ⟨RX0, "isEdge", "([I[II)Z"⟩
theorem dX0_isEdge_0 : decode cX0_isEdge 0 = .ok (.iconst 0, 1) := by decide +kernel
theorem dX0_isEdge_1 : decode cX0_isEdge 1 = .ok (.istore 4, 2) := by decide +kernel
theorem dX0_isEdge_3 : decode cX0_isEdge 3 = .ok (.iload 4, 2) := by decide +kernel
theorem dX0_isEdge_5 : decode cX0_isEdge 5 = .ok (.aload_n 0, 1) := by decide +kernel
theorem dX0_isEdge_6 : decode cX0_isEdge 6 = .ok (.getfield 41, 3) := by decide +kernel
theorem dX0_isEdge_9 : decode cX0_isEdge 9 = .ok (.if_icmp .ge 29, 3) := by decide +kernel
theorem dX0_isEdge_12 : decode cX0_isEdge 12 = .ok (.aload_n 1, 1) := by decide +kernel
theorem dX0_isEdge_13 : decode cX0_isEdge 13 = .ok (.iload 4, 2) := by decide +kernel
theorem dX0_isEdge_15 : decode cX0_isEdge 15 = .ok (.iaload, 1) := by decide +kernel
theorem dX0_isEdge_16 : decode cX0_isEdge 16 = .ok (.iload_n 3, 1) := by decide +kernel
theorem dX0_isEdge_17 : decode cX0_isEdge 17 = .ok (.if_icmp .eq 13, 3) := by decide +kernel
theorem dX0_isEdge_20 : decode cX0_isEdge 20 = .ok (.aload_n 2, 1) := by decide +kernel
theorem dX0_isEdge_21 : decode cX0_isEdge 21 = .ok (.iload 4, 2) := by decide +kernel
theorem dX0_isEdge_23 : decode cX0_isEdge 23 = .ok (.iaload, 1) := by decide +kernel
theorem dX0_isEdge_24 : decode cX0_isEdge 24 = .ok (.iconst 1, 1) := by decide +kernel
theorem dX0_isEdge_25 : decode cX0_isEdge 25 = .ok (.iadd, 1) := by decide +kernel
theorem dX0_isEdge_26 : decode cX0_isEdge 26 = .ok (.iload_n 3, 1) := by decide +kernel
theorem dX0_isEdge_27 : decode cX0_isEdge 27 = .ok (.if_icmp .ne 5, 3) := by decide +kernel
theorem dX0_isEdge_30 : decode cX0_isEdge 30 = .ok (.iconst 1, 1) := by decide +kernel
theorem dX0_isEdge_31 : decode cX0_isEdge 31 = .ok (.ireturn, 1) := by decide +kernel
theorem dX0_isEdge_32 : decode cX0_isEdge 32 = .ok (.iinc 4 1, 3) := by decide +kernel
theorem dX0_isEdge_35 : decode cX0_isEdge 35 = .ok (.goto (-32), 3) := by decide +kernel
theorem dX0_isEdge_38 : decode cX0_isEdge 38 = .ok (.iconst 0, 1) := by decide +kernel
theorem dX0_isEdge_39 : decode cX0_isEdge 39 = .ok (.ireturn, 1) := by decide +kernel
abbrev cX0_paintRule : ByteArray := prog_1_method_22_code
def yX0_paintRule : MethodName := ⟨RX0, "paintRule", "(I)V"⟩
theorem dX0_paintRule_0 : decode cX0_paintRule 0 = .ok (.iconst 0, 1) := by decide +kernel
theorem dX0_paintRule_1 : decode cX0_paintRule 1 = .ok (.istore_n 2, 1) := by decide +kernel
theorem dX0_paintRule_2 : decode cX0_paintRule 2 = .ok (.iload_n 2, 1) := by decide +kernel
theorem dX0_paintRule_3 : decode cX0_paintRule 3 = .ok (.aload_n 0, 1) := by decide +kernel
theorem dX0_paintRule_4 : decode cX0_paintRule 4 = .ok (.getfield 70, 3) := by decide +kernel
theorem dX0_paintRule_7 : decode cX0_paintRule 7 = .ok (.if_icmp .ge 45, 3) := by decide +kernel
theorem dX0_paintRule_10 : decode cX0_paintRule 10 = .ok (.aload_n 0, 1) := by decide +kernel
theorem dX0_paintRule_11 : decode cX0_paintRule 11 = .ok (.getfield 7, 3) := by decide +kernel
theorem dX0_paintRule_14 : decode cX0_paintRule 14 = .ok (.iload_n 1, 1) := by decide +kernel
theorem dX0_paintRule_15 : decode cX0_paintRule 15 = .ok (.iaload, 1) := by decide +kernel
theorem dX0_paintRule_16 : decode cX0_paintRule 16 = .ok (.aload_n 0, 1) := by decide +kernel
theorem dX0_paintRule_17 : decode cX0_paintRule 17 = .ok (.getfield 28, 3) := by decide +kernel
theorem dX0_paintRule_20 : decode cX0_paintRule 20 = .ok (.iload_n 2, 1) := by decide +kernel
theorem dX0_paintRule_21 : decode cX0_paintRule 21 = .ok (.iaload, 1) := by decide +kernel
theorem dX0_paintRule_22 : decode cX0_paintRule 22 = .ok (.if_icmp .gt 24, 3) := by decide +kernel
theorem dX0_paintRule_25 : decode cX0_paintRule 25 = .ok (.aload_n 0, 1) := by decide +kernel
theorem dX0_paintRule_26 : decode cX0_paintRule 26 = .ok (.getfield 28, 3) := by decide +kernel
theorem dX0_paintRule_29 : decode cX0_paintRule 29 = .ok (.iload_n 2, 1) := by decide +kernel
theorem dX0_paintRule_30 : decode cX0_paintRule 30 = .ok (.iaload, 1) := by decide +kernel
theorem dX0_paintRule_31 : decode cX0_paintRule 31 = .ok (.aload_n 0, 1) := by decide +kernel
theorem dX0_paintRule_32 : decode cX0_paintRule 32 = .ok (.getfield 13, 3) := by decide +kernel
theorem dX0_paintRule_35 : decode cX0_paintRule 35 = .ok (.iload_n 1, 1) := by decide +kernel
theorem dX0_paintRule_36 : decode cX0_paintRule 36 = .ok (.iaload, 1) := by decide +kernel
theorem dX0_paintRule_37 : decode cX0_paintRule 37 = .ok (.if_icmp .gt 9, 3) := by decide +kernel
theorem dX0_paintRule_40 : decode cX0_paintRule 40 = .ok (.aload_n 0, 1) := by decide +kernel
theorem dX0_paintRule_41 : decode cX0_paintRule 41 = .ok (.iload_n 1, 1) := by decide +kernel
theorem dX0_paintRule_42 : decode cX0_paintRule 42 = .ok (.iload_n 2, 1) := by decide +kernel
theorem dX0_paintRule_43 : decode cX0_paintRule 43 = .ok (.invokevirtual 106, 3) := by decide +kernel
theorem dX0_paintRule_46 : decode cX0_paintRule 46 = .ok (.iinc 2 1, 3) := by decide +kernel
theorem dX0_paintRule_49 : decode cX0_paintRule 49 = .ok (.goto (-47), 3) := by decide +kernel
theorem dX0_paintRule_52 : decode cX0_paintRule 52 = .ok (.return_, 1) := by decide +kernel
abbrev cX0_paintColumn : ByteArray := prog_1_method_23_code
def yX0_paintColumn : MethodName := ⟨RX0, "paintColumn", "(II)V"⟩
theorem dX0_paintColumn_0 : decode cX0_paintColumn 0 = .ok (.iconst 0, 1) := by decide +kernel
theorem dX0_paintColumn_1 : decode cX0_paintColumn 1 = .ok (.istore_n 3, 1) := by decide +kernel
theorem dX0_paintColumn_2 : decode cX0_paintColumn 2 = .ok (.iload_n 3, 1) := by decide +kernel
theorem dX0_paintColumn_3 : decode cX0_paintColumn 3 = .ok (.iconst 4, 1) := by decide +kernel
theorem dX0_paintColumn_4 : decode cX0_paintColumn 4 = .ok (.aload_n 0, 1) := by decide +kernel
theorem dX0_paintColumn_5 : decode cX0_paintColumn 5 = .ok (.getfield 77, 3) := by decide +kernel
theorem dX0_paintColumn_8 : decode cX0_paintColumn 8 = .ok (.imul, 1) := by decide +kernel
theorem dX0_paintColumn_9 : decode cX0_paintColumn 9 = .ok (.if_icmp .ge 99, 3) := by decide +kernel
theorem dX0_paintColumn_12 : decode cX0_paintColumn 12 = .ok (.aload_n 0, 1) := by decide +kernel
theorem dX0_paintColumn_13 : decode cX0_paintColumn 13 = .ok (.getfield 31, 3) := by decide +kernel
theorem dX0_paintColumn_16 : decode cX0_paintColumn 16 = .ok (.iload_n 3, 1) := by decide +kernel
theorem dX0_paintColumn_17 : decode cX0_paintColumn 17 = .ok (.iconst 2, 1) := by decide +kernel
theorem dX0_paintColumn_18 : decode cX0_paintColumn 18 = .ok (.ishr, 1) := by decide +kernel
theorem dX0_paintColumn_19 : decode cX0_paintColumn 19 = .ok (.iaload, 1) := by decide +kernel
theorem dX0_paintColumn_20 : decode cX0_paintColumn 20 = .ok (.istore 4, 2) := by decide +kernel
theorem dX0_paintColumn_22 : decode cX0_paintColumn 22 = .ok (.aload_n 0, 1) := by decide +kernel
theorem dX0_paintColumn_23 : decode cX0_paintColumn 23 = .ok (.getfield 16, 3) := by decide +kernel
theorem dX0_paintColumn_26 : decode cX0_paintColumn 26 = .ok (.iload_n 1, 1) := by decide +kernel
theorem dX0_paintColumn_27 : decode cX0_paintColumn 27 = .ok (.iaload, 1) := by decide +kernel
theorem dX0_paintColumn_28 : decode cX0_paintColumn 28 = .ok (.iload 4, 2) := by decide +kernel
theorem dX0_paintColumn_30 : decode cX0_paintColumn 30 = .ok (.if_icmp .gt 18, 3) := by decide +kernel
theorem dX0_paintColumn_33 : decode cX0_paintColumn 33 = .ok (.iload 4, 2) := by decide +kernel
theorem dX0_paintColumn_35 : decode cX0_paintColumn 35 = .ok (.aload_n 0, 1) := by decide +kernel
theorem dX0_paintColumn_36 : decode cX0_paintColumn 36 = .ok (.getfield 19, 3) := by decide +kernel
theorem dX0_paintColumn_39 : decode cX0_paintColumn 39 = .ok (.iload_n 1, 1) := by decide +kernel
theorem dX0_paintColumn_40 : decode cX0_paintColumn 40 = .ok (.iaload, 1) := by decide +kernel
theorem dX0_paintColumn_41 : decode cX0_paintColumn 41 = .ok (.if_icmp .gt 7, 3) := by decide +kernel
theorem dX0_paintColumn_44 : decode cX0_paintColumn 44 = .ok (.iconst 1, 1) := by decide +kernel
theorem dX0_paintColumn_45 : decode cX0_paintColumn 45 = .ok (.goto 4, 3) := by decide +kernel
theorem dX0_paintColumn_48 : decode cX0_paintColumn 48 = .ok (.iconst 0, 1) := by decide +kernel
theorem dX0_paintColumn_49 : decode cX0_paintColumn 49 = .ok (.istore 5, 2) := by decide +kernel
theorem dX0_paintColumn_51 : decode cX0_paintColumn 51 = .ok (.iload 5, 2) := by decide +kernel
theorem dX0_paintColumn_53 : decode cX0_paintColumn 53 = .ok (.ifCond .eq 49, 3) := by decide +kernel
theorem dX0_paintColumn_56 : decode cX0_paintColumn 56 = .ok (.aload_n 0, 1) := by decide +kernel
theorem dX0_paintColumn_57 : decode cX0_paintColumn 57 = .ok (.getfield 22, 3) := by decide +kernel
theorem dX0_paintColumn_60 : decode cX0_paintColumn 60 = .ok (.iload_n 1, 1) := by decide +kernel
theorem dX0_paintColumn_61 : decode cX0_paintColumn 61 = .ok (.iaload, 1) := by decide +kernel
theorem dX0_paintColumn_62 : decode cX0_paintColumn 62 = .ok (.iload_n 3, 1) := by decide +kernel
theorem dX0_paintColumn_63 : decode cX0_paintColumn 63 = .ok (.iconst 3, 1) := by decide +kernel
theorem dX0_paintColumn_64 : decode cX0_paintColumn 64 = .ok (.iand, 1) := by decide +kernel
theorem dX0_paintColumn_65 : decode cX0_paintColumn 65 = .ok (.iushr, 1) := by decide +kernel
theorem dX0_paintColumn_66 : decode cX0_paintColumn 66 = .ok (.iconst 1, 1) := by decide +kernel
theorem dX0_paintColumn_67 : decode cX0_paintColumn 67 = .ok (.iand, 1) := by decide +kernel
theorem dX0_paintColumn_68 : decode cX0_paintColumn 68 = .ok (.ifCond .eq 34, 3) := by decide +kernel
theorem dX0_paintColumn_71 : decode cX0_paintColumn 71 = .ok (.bipush 104, 2) := by decide +kernel
theorem dX0_paintColumn_73 : decode cX0_paintColumn 73 = .ok (.iload_n 2, 1) := by decide +kernel
theorem dX0_paintColumn_74 : decode cX0_paintColumn 74 = .ok (.imul, 1) := by decide +kernel
theorem dX0_paintColumn_75 : decode cX0_paintColumn 75 = .ok (.iload_n 3, 1) := by decide +kernel
theorem dX0_paintColumn_76 : decode cX0_paintColumn 76 = .ok (.iadd, 1) := by decide +kernel
theorem dX0_paintColumn_77 : decode cX0_paintColumn 77 = .ok (.istore 6, 2) := by decide +kernel
theorem dX0_paintColumn_79 : decode cX0_paintColumn 79 = .ok (.aload_n 0, 1) := by decide +kernel
theorem dX0_paintColumn_80 : decode cX0_paintColumn 80 = .ok (.getfield 38, 3) := by decide +kernel
theorem dX0_paintColumn_83 : decode cX0_paintColumn 83 = .ok (.iload 6, 2) := by decide +kernel
theorem dX0_paintColumn_85 : decode cX0_paintColumn 85 = .ok (.aload_n 0, 1) := by decide +kernel
theorem dX0_paintColumn_86 : decode cX0_paintColumn 86 = .ok (.getfield 34, 3) := by decide +kernel
theorem dX0_paintColumn_89 : decode cX0_paintColumn 89 = .ok (.iload 6, 2) := by decide +kernel
theorem dX0_paintColumn_91 : decode cX0_paintColumn 91 = .ok (.baload, 1) := by decide +kernel
theorem dX0_paintColumn_92 : decode cX0_paintColumn 92 = .ok (.bastore, 1) := by decide +kernel
theorem dX0_paintColumn_93 : decode cX0_paintColumn 93 = .ok (.aload_n 0, 1) := by decide +kernel
theorem dX0_paintColumn_94 : decode cX0_paintColumn 94 = .ok (.getfield 34, 3) := by decide +kernel
theorem dX0_paintColumn_97 : decode cX0_paintColumn 97 = .ok (.iload 6, 2) := by decide +kernel
theorem dX0_paintColumn_99 : decode cX0_paintColumn 99 = .ok (.iload_n 1, 1) := by decide +kernel
theorem dX0_paintColumn_100 : decode cX0_paintColumn 100 = .ok (.i2b, 1) := by decide +kernel
theorem dX0_paintColumn_101 : decode cX0_paintColumn 101 = .ok (.bastore, 1) := by decide +kernel
theorem dX0_paintColumn_102 : decode cX0_paintColumn 102 = .ok (.iinc 3 1, 3) := by decide +kernel
theorem dX0_paintColumn_105 : decode cX0_paintColumn 105 = .ok (.goto (-103), 3) := by decide +kernel
theorem dX0_paintColumn_108 : decode cX0_paintColumn 108 = .ok (.return_, 1) := by decide +kernel
abbrev cX0_intervalOf : ByteArray := prog_1_method_16_code
def yX0_intervalOf : MethodName := ⟨RX0, "intervalOf", "([III)I"⟩
theorem dX0_intervalOf_0 : decode cX0_intervalOf 0 = .ok (.iconst 0, 1) := by decide +kernel
theorem dX0_intervalOf_1 : decode cX0_intervalOf 1 = .ok (.istore_n 3, 1) := by decide +kernel
theorem dX0_intervalOf_2 : decode cX0_intervalOf 2 = .ok (.iload_n 1, 1) := by decide +kernel
theorem dX0_intervalOf_3 : decode cX0_intervalOf 3 = .ok (.iconst 1, 1) := by decide +kernel
theorem dX0_intervalOf_4 : decode cX0_intervalOf 4 = .ok (.isub, 1) := by decide +kernel
theorem dX0_intervalOf_5 : decode cX0_intervalOf 5 = .ok (.istore 4, 2) := by decide +kernel
theorem dX0_intervalOf_7 : decode cX0_intervalOf 7 = .ok (.iconst 0, 1) := by decide +kernel
theorem dX0_intervalOf_8 : decode cX0_intervalOf 8 = .ok (.istore 5, 2) := by decide +kernel
theorem dX0_intervalOf_10 : decode cX0_intervalOf 10 = .ok (.iload 5, 2) := by decide +kernel
theorem dX0_intervalOf_12 : decode cX0_intervalOf 12 = .ok (.bipush 6, 2) := by decide +kernel
theorem dX0_intervalOf_14 : decode cX0_intervalOf 14 = .ok (.if_icmp .ge 45, 3) := by decide +kernel
theorem dX0_intervalOf_17 : decode cX0_intervalOf 17 = .ok (.iload_n 3, 1) := by decide +kernel
theorem dX0_intervalOf_18 : decode cX0_intervalOf 18 = .ok (.iload 4, 2) := by decide +kernel
theorem dX0_intervalOf_20 : decode cX0_intervalOf 20 = .ok (.if_icmp .ge 39, 3) := by decide +kernel
theorem dX0_intervalOf_23 : decode cX0_intervalOf 23 = .ok (.iload_n 3, 1) := by decide +kernel
theorem dX0_intervalOf_24 : decode cX0_intervalOf 24 = .ok (.iload 4, 2) := by decide +kernel
theorem dX0_intervalOf_26 : decode cX0_intervalOf 26 = .ok (.iadd, 1) := by decide +kernel
theorem dX0_intervalOf_27 : decode cX0_intervalOf 27 = .ok (.iconst 1, 1) := by decide +kernel
theorem dX0_intervalOf_28 : decode cX0_intervalOf 28 = .ok (.iadd, 1) := by decide +kernel
theorem dX0_intervalOf_29 : decode cX0_intervalOf 29 = .ok (.iconst 2, 1) := by decide +kernel
theorem dX0_intervalOf_30 : decode cX0_intervalOf 30 = .ok (.idiv, 1) := by decide +kernel
theorem dX0_intervalOf_31 : decode cX0_intervalOf 31 = .ok (.istore 6, 2) := by decide +kernel
theorem dX0_intervalOf_33 : decode cX0_intervalOf 33 = .ok (.aload_n 0, 1) := by decide +kernel
theorem dX0_intervalOf_34 : decode cX0_intervalOf 34 = .ok (.iload 6, 2) := by decide +kernel
theorem dX0_intervalOf_36 : decode cX0_intervalOf 36 = .ok (.iaload, 1) := by decide +kernel
theorem dX0_intervalOf_37 : decode cX0_intervalOf 37 = .ok (.iload_n 2, 1) := by decide +kernel
theorem dX0_intervalOf_38 : decode cX0_intervalOf 38 = .ok (.if_icmp .gt 9, 3) := by decide +kernel
theorem dX0_intervalOf_41 : decode cX0_intervalOf 41 = .ok (.iload 6, 2) := by decide +kernel
theorem dX0_intervalOf_43 : decode cX0_intervalOf 43 = .ok (.istore_n 3, 1) := by decide +kernel
theorem dX0_intervalOf_44 : decode cX0_intervalOf 44 = .ok (.goto 9, 3) := by decide +kernel
theorem dX0_intervalOf_47 : decode cX0_intervalOf 47 = .ok (.iload 6, 2) := by decide +kernel
theorem dX0_intervalOf_49 : decode cX0_intervalOf 49 = .ok (.iconst 1, 1) := by decide +kernel
theorem dX0_intervalOf_50 : decode cX0_intervalOf 50 = .ok (.isub, 1) := by decide +kernel
theorem dX0_intervalOf_51 : decode cX0_intervalOf 51 = .ok (.istore 4, 2) := by decide +kernel
theorem dX0_intervalOf_53 : decode cX0_intervalOf 53 = .ok (.iinc 5 1, 3) := by decide +kernel
theorem dX0_intervalOf_56 : decode cX0_intervalOf 56 = .ok (.goto (-46), 3) := by decide +kernel
theorem dX0_intervalOf_59 : decode cX0_intervalOf 59 = .ok (.iload_n 3, 1) := by decide +kernel
theorem dX0_intervalOf_60 : decode cX0_intervalOf 60 = .ok (.ireturn, 1) := by decide +kernel
abbrev cX0_action : ByteArray := prog_1_method_7_code
def yX0_action : MethodName := ⟨RX0, "action", "(III)I"⟩
theorem dX0_action_0 : decode cX0_action 0 = .ok (.iload_n 1, 1) := by decide +kernel
theorem dX0_action_1 : decode cX0_action 1 = .ok (.iload_n 2, 1) := by decide +kernel
theorem dX0_action_2 : decode cX0_action 2 = .ok (.iload_n 3, 1) := by decide +kernel
theorem dX0_action_3 : decode cX0_action 3 = .ok (.invokestatic 63, 3) := by decide +kernel
theorem dX0_action_6 : decode cX0_action 6 = .ok (.ifCond .ne 6, 3) := by decide +kernel
theorem dX0_action_9 : decode cX0_action 9 = .ok (.bipush (-2), 2) := by decide +kernel
theorem dX0_action_11 : decode cX0_action 11 = .ok (.ireturn, 1) := by decide +kernel
theorem dX0_action_12 : decode cX0_action 12 = .ok (.aload_n 0, 1) := by decide +kernel
theorem dX0_action_13 : decode cX0_action 13 = .ok (.iload_n 1, 1) := by decide +kernel
theorem dX0_action_14 : decode cX0_action 14 = .ok (.iload_n 2, 1) := by decide +kernel
theorem dX0_action_15 : decode cX0_action 15 = .ok (.iload_n 3, 1) := by decide +kernel
theorem dX0_action_16 : decode cX0_action 16 = .ok (.invokevirtual 80, 3) := by decide +kernel
theorem dX0_action_19 : decode cX0_action 19 = .ok (.istore 4, 2) := by decide +kernel
theorem dX0_action_21 : decode cX0_action 21 = .ok (.iload 4, 2) := by decide +kernel
theorem dX0_action_23 : decode cX0_action 23 = .ok (.ifCond .ge 10, 3) := by decide +kernel
theorem dX0_action_26 : decode cX0_action 26 = .ok (.aload_n 0, 1) := by decide +kernel
theorem dX0_action_27 : decode cX0_action 27 = .ok (.getfield 60, 3) := by decide +kernel
theorem dX0_action_30 : decode cX0_action 30 = .ok (.goto 10, 3) := by decide +kernel
theorem dX0_action_33 : decode cX0_action 33 = .ok (.aload_n 0, 1) := by decide +kernel
theorem dX0_action_34 : decode cX0_action 34 = .ok (.getfield 25, 3) := by decide +kernel
theorem dX0_action_37 : decode cX0_action 37 = .ok (.iload 4, 2) := by decide +kernel
theorem dX0_action_39 : decode cX0_action 39 = .ok (.iaload, 1) := by decide +kernel
theorem dX0_action_40 : decode cX0_action 40 = .ok (.ireturn, 1) := by decide +kernel
abbrev cX0_decided : ByteArray := prog_1_method_8_code
def yX0_decided : MethodName := ⟨RX0, "decided", "(I)I"⟩
theorem dX0_decided_0 : decode cX0_decided 0 = .ok (.iload_n 1, 1) := by decide +kernel
theorem dX0_decided_1 : decode cX0_decided 1 = .ok (.iconst (-1), 1) := by decide +kernel
theorem dX0_decided_2 : decode cX0_decided 2 = .ok (.if_icmp .eq 14, 3) := by decide +kernel
theorem dX0_decided_5 : decode cX0_decided 5 = .ok (.aload_n 0, 1) := by decide +kernel
theorem dX0_decided_6 : decode cX0_decided 6 = .ok (.iload_n 1, 1) := by decide +kernel
theorem dX0_decided_7 : decode cX0_decided 7 = .ok (.invokevirtual 53, 3) := by decide +kernel
theorem dX0_decided_10 : decode cX0_decided 10 = .ok (.ifCond .ne 6, 3) := by decide +kernel
theorem dX0_decided_13 : decode cX0_decided 13 = .ok (.bipush (-2), 2) := by decide +kernel
theorem dX0_decided_15 : decode cX0_decided 15 = .ok (.ireturn, 1) := by decide +kernel
theorem dX0_decided_16 : decode cX0_decided 16 = .ok (.aload_n 0, 1) := by decide +kernel
theorem dX0_decided_17 : decode cX0_decided 17 = .ok (.invokevirtual 67, 3) := by decide +kernel
theorem dX0_decided_20 : decode cX0_decided 20 = .ok (.iconst 0, 1) := by decide +kernel
theorem dX0_decided_21 : decode cX0_decided 21 = .ok (.istore_n 2, 1) := by decide +kernel
theorem dX0_decided_22 : decode cX0_decided 22 = .ok (.iconst 0, 1) := by decide +kernel
theorem dX0_decided_23 : decode cX0_decided 23 = .ok (.istore_n 3, 1) := by decide +kernel
theorem dX0_decided_24 : decode cX0_decided 24 = .ok (.iload_n 3, 1) := by decide +kernel
theorem dX0_decided_25 : decode cX0_decided 25 = .ok (.aload_n 0, 1) := by decide +kernel
theorem dX0_decided_26 : decode cX0_decided 26 = .ok (.getfield 70, 3) := by decide +kernel
theorem dX0_decided_29 : decode cX0_decided 29 = .ok (.if_icmp .ge 46, 3) := by decide +kernel
theorem dX0_decided_32 : decode cX0_decided 32 = .ok (.iconst 0, 1) := by decide +kernel
theorem dX0_decided_33 : decode cX0_decided 33 = .ok (.istore 4, 2) := by decide +kernel
theorem dX0_decided_35 : decode cX0_decided 35 = .ok (.iload 4, 2) := by decide +kernel
theorem dX0_decided_37 : decode cX0_decided 37 = .ok (.aload_n 0, 1) := by decide +kernel
theorem dX0_decided_38 : decode cX0_decided 38 = .ok (.getfield 77, 3) := by decide +kernel
theorem dX0_decided_41 : decode cX0_decided 41 = .ok (.if_icmp .ge 28, 3) := by decide +kernel
theorem dX0_decided_44 : decode cX0_decided 44 = .ok (.iload_n 2, 1) := by decide +kernel
theorem dX0_decided_45 : decode cX0_decided 45 = .ok (.aload_n 0, 1) := by decide +kernel
theorem dX0_decided_46 : decode cX0_decided 46 = .ok (.iload_n 3, 1) := by decide +kernel
theorem dX0_decided_47 : decode cX0_decided 47 = .ok (.iload 4, 2) := by decide +kernel
theorem dX0_decided_49 : decode cX0_decided 49 = .ok (.iload_n 1, 1) := by decide +kernel
theorem dX0_decided_50 : decode cX0_decided 50 = .ok (.invokevirtual 84, 3) := by decide +kernel
theorem dX0_decided_53 : decode cX0_decided 53 = .ok (.aload_n 0, 1) := by decide +kernel
theorem dX0_decided_54 : decode cX0_decided 54 = .ok (.iload_n 3, 1) := by decide +kernel
theorem dX0_decided_55 : decode cX0_decided 55 = .ok (.iload 4, 2) := by decide +kernel
theorem dX0_decided_57 : decode cX0_decided 57 = .ok (.invokevirtual 87, 3) := by decide +kernel
theorem dX0_decided_60 : decode cX0_decided 60 = .ok (.imul, 1) := by decide +kernel
theorem dX0_decided_61 : decode cX0_decided 61 = .ok (.iadd, 1) := by decide +kernel
theorem dX0_decided_62 : decode cX0_decided 62 = .ok (.istore_n 2, 1) := by decide +kernel
theorem dX0_decided_63 : decode cX0_decided 63 = .ok (.iinc 4 1, 3) := by decide +kernel
theorem dX0_decided_66 : decode cX0_decided 66 = .ok (.goto (-31), 3) := by decide +kernel
theorem dX0_decided_69 : decode cX0_decided 69 = .ok (.iinc 3 1, 3) := by decide +kernel
theorem dX0_decided_72 : decode cX0_decided 72 = .ok (.goto (-48), 3) := by decide +kernel
theorem dX0_decided_75 : decode cX0_decided 75 = .ok (.iload_n 2, 1) := by decide +kernel
theorem dX0_decided_76 : decode cX0_decided 76 = .ok (.ireturn, 1) := by decide +kernel
abbrev cX0_fieldsOf : ByteArray := prog_1_method_18_code
def yX0_fieldsOf : MethodName := ⟨RX0, "fieldsOf", "(III)I"⟩
theorem dX0_fieldsOf_0 : decode cX0_fieldsOf 0 = .ok (.iconst 0, 1) := by decide +kernel
theorem dX0_fieldsOf_1 : decode cX0_fieldsOf 1 = .ok (.istore 4, 2) := by decide +kernel
theorem dX0_fieldsOf_3 : decode cX0_fieldsOf 3 = .ok (.iconst 0, 1) := by decide +kernel
theorem dX0_fieldsOf_4 : decode cX0_fieldsOf 4 = .ok (.istore 5, 2) := by decide +kernel
theorem dX0_fieldsOf_6 : decode cX0_fieldsOf 6 = .ok (.iload 5, 2) := by decide +kernel
theorem dX0_fieldsOf_8 : decode cX0_fieldsOf 8 = .ok (.iconst 4, 1) := by decide +kernel
theorem dX0_fieldsOf_9 : decode cX0_fieldsOf 9 = .ok (.if_icmp .ge 39, 3) := by decide +kernel
theorem dX0_fieldsOf_12 : decode cX0_fieldsOf 12 = .ok (.iload 4, 2) := by decide +kernel
theorem dX0_fieldsOf_14 : decode cX0_fieldsOf 14 = .ok (.aload_n 0, 1) := by decide +kernel
theorem dX0_fieldsOf_15 : decode cX0_fieldsOf 15 = .ok (.getfield 34, 3) := by decide +kernel
theorem dX0_fieldsOf_18 : decode cX0_fieldsOf 18 = .ok (.bipush 104, 2) := by decide +kernel
theorem dX0_fieldsOf_20 : decode cX0_fieldsOf 20 = .ok (.iload_n 1, 1) := by decide +kernel
theorem dX0_fieldsOf_21 : decode cX0_fieldsOf 21 = .ok (.imul, 1) := by decide +kernel
theorem dX0_fieldsOf_22 : decode cX0_fieldsOf 22 = .ok (.iconst 4, 1) := by decide +kernel
theorem dX0_fieldsOf_23 : decode cX0_fieldsOf 23 = .ok (.iload_n 2, 1) := by decide +kernel
theorem dX0_fieldsOf_24 : decode cX0_fieldsOf 24 = .ok (.imul, 1) := by decide +kernel
theorem dX0_fieldsOf_25 : decode cX0_fieldsOf 25 = .ok (.iadd, 1) := by decide +kernel
theorem dX0_fieldsOf_26 : decode cX0_fieldsOf 26 = .ok (.iload 5, 2) := by decide +kernel
theorem dX0_fieldsOf_28 : decode cX0_fieldsOf 28 = .ok (.iadd, 1) := by decide +kernel
theorem dX0_fieldsOf_29 : decode cX0_fieldsOf 29 = .ok (.baload, 1) := by decide +kernel
theorem dX0_fieldsOf_30 : decode cX0_fieldsOf 30 = .ok (.iload_n 3, 1) := by decide +kernel
theorem dX0_fieldsOf_31 : decode cX0_fieldsOf 31 = .ok (.if_icmp .ne 7, 3) := by decide +kernel
theorem dX0_fieldsOf_34 : decode cX0_fieldsOf 34 = .ok (.iconst 1, 1) := by decide +kernel
theorem dX0_fieldsOf_35 : decode cX0_fieldsOf 35 = .ok (.goto 4, 3) := by decide +kernel
theorem dX0_fieldsOf_38 : decode cX0_fieldsOf 38 = .ok (.iconst 0, 1) := by decide +kernel
theorem dX0_fieldsOf_39 : decode cX0_fieldsOf 39 = .ok (.iadd, 1) := by decide +kernel
theorem dX0_fieldsOf_40 : decode cX0_fieldsOf 40 = .ok (.istore 4, 2) := by decide +kernel
theorem dX0_fieldsOf_42 : decode cX0_fieldsOf 42 = .ok (.iinc 5 1, 3) := by decide +kernel
theorem dX0_fieldsOf_45 : decode cX0_fieldsOf 45 = .ok (.goto (-39), 3) := by decide +kernel
theorem dX0_fieldsOf_48 : decode cX0_fieldsOf 48 = .ok (.iload 4, 2) := by decide +kernel
theorem dX0_fieldsOf_50 : decode cX0_fieldsOf 50 = .ok (.ireturn, 1) := by decide +kernel
abbrev cX0_packetsOf : ByteArray := prog_1_method_17_code
def yX0_packetsOf : MethodName := ⟨RX0, "packetsOf", "(II)I"⟩
theorem dX0_packetsOf_0 : decode cX0_packetsOf 0 = .ok (.aload_n 0, 1) := by decide +kernel
theorem dX0_packetsOf_1 : decode cX0_packetsOf 1 = .ok (.getfield 28, 3) := by decide +kernel
theorem dX0_packetsOf_4 : decode cX0_packetsOf 4 = .ok (.iload_n 1, 1) := by decide +kernel
theorem dX0_packetsOf_5 : decode cX0_packetsOf 5 = .ok (.iconst 1, 1) := by decide +kernel
theorem dX0_packetsOf_6 : decode cX0_packetsOf 6 = .ok (.iadd, 1) := by decide +kernel
theorem dX0_packetsOf_7 : decode cX0_packetsOf 7 = .ok (.iaload, 1) := by decide +kernel
theorem dX0_packetsOf_8 : decode cX0_packetsOf 8 = .ok (.aload_n 0, 1) := by decide +kernel
theorem dX0_packetsOf_9 : decode cX0_packetsOf 9 = .ok (.getfield 28, 3) := by decide +kernel
theorem dX0_packetsOf_12 : decode cX0_packetsOf 12 = .ok (.iload_n 1, 1) := by decide +kernel
theorem dX0_packetsOf_13 : decode cX0_packetsOf 13 = .ok (.iaload, 1) := by decide +kernel
theorem dX0_packetsOf_14 : decode cX0_packetsOf 14 = .ok (.isub, 1) := by decide +kernel
theorem dX0_packetsOf_15 : decode cX0_packetsOf 15 = .ok (.aload_n 0, 1) := by decide +kernel
theorem dX0_packetsOf_16 : decode cX0_packetsOf 16 = .ok (.getfield 31, 3) := by decide +kernel
theorem dX0_packetsOf_19 : decode cX0_packetsOf 19 = .ok (.iload_n 2, 1) := by decide +kernel
theorem dX0_packetsOf_20 : decode cX0_packetsOf 20 = .ok (.iconst 1, 1) := by decide +kernel
theorem dX0_packetsOf_21 : decode cX0_packetsOf 21 = .ok (.iadd, 1) := by decide +kernel
theorem dX0_packetsOf_22 : decode cX0_packetsOf 22 = .ok (.iaload, 1) := by decide +kernel
theorem dX0_packetsOf_23 : decode cX0_packetsOf 23 = .ok (.aload_n 0, 1) := by decide +kernel
theorem dX0_packetsOf_24 : decode cX0_packetsOf 24 = .ok (.getfield 31, 3) := by decide +kernel
theorem dX0_packetsOf_27 : decode cX0_packetsOf 27 = .ok (.iload_n 2, 1) := by decide +kernel
theorem dX0_packetsOf_28 : decode cX0_packetsOf 28 = .ok (.iaload, 1) := by decide +kernel
theorem dX0_packetsOf_29 : decode cX0_packetsOf 29 = .ok (.isub, 1) := by decide +kernel
theorem dX0_packetsOf_30 : decode cX0_packetsOf 30 = .ok (.imul, 1) := by decide +kernel
theorem dX0_packetsOf_31 : decode cX0_packetsOf 31 = .ok (.ireturn, 1) := by decide +kernel
abbrev cX0_having : ByteArray := prog_1_method_9_code
def yX0_having : MethodName := ⟨RX0, "having", "(I)I"⟩
theorem dX0_having_0 : decode cX0_having 0 = .ok (.iconst 0, 1) := by decide +kernel
theorem dX0_having_1 : decode cX0_having 1 = .ok (.istore_n 2, 1) := by decide +kernel
theorem dX0_having_2 : decode cX0_having 2 = .ok (.iconst (-1), 1) := by decide +kernel
theorem dX0_having_3 : decode cX0_having 3 = .ok (.istore_n 3, 1) := by decide +kernel
theorem dX0_having_4 : decode cX0_having 4 = .ok (.iload_n 3, 1) := by decide +kernel
theorem dX0_having_5 : decode cX0_having 5 = .ok (.aload_n 0, 1) := by decide +kernel
theorem dX0_having_6 : decode cX0_having 6 = .ok (.getfield 41, 3) := by decide +kernel
theorem dX0_having_9 : decode cX0_having 9 = .ok (.if_icmp .ge 44, 3) := by decide +kernel
theorem dX0_having_12 : decode cX0_having 12 = .ok (.iload_n 3, 1) := by decide +kernel
theorem dX0_having_13 : decode cX0_having 13 = .ok (.ifCond .ge 10, 3) := by decide +kernel
theorem dX0_having_16 : decode cX0_having 16 = .ok (.aload_n 0, 1) := by decide +kernel
theorem dX0_having_17 : decode cX0_having 17 = .ok (.getfield 60, 3) := by decide +kernel
theorem dX0_having_20 : decode cX0_having 20 = .ok (.goto 9, 3) := by decide +kernel
theorem dX0_having_23 : decode cX0_having 23 = .ok (.aload_n 0, 1) := by decide +kernel
theorem dX0_having_24 : decode cX0_having 24 = .ok (.getfield 25, 3) := by decide +kernel
theorem dX0_having_27 : decode cX0_having 27 = .ok (.iload_n 3, 1) := by decide +kernel
theorem dX0_having_28 : decode cX0_having 28 = .ok (.iaload, 1) := by decide +kernel
theorem dX0_having_29 : decode cX0_having 29 = .ok (.istore 4, 2) := by decide +kernel
theorem dX0_having_31 : decode cX0_having 31 = .ok (.iload 4, 2) := by decide +kernel
theorem dX0_having_33 : decode cX0_having 33 = .ok (.iload_n 1, 1) := by decide +kernel
theorem dX0_having_34 : decode cX0_having 34 = .ok (.iconst 3, 1) := by decide +kernel
theorem dX0_having_35 : decode cX0_having 35 = .ok (.iand, 1) := by decide +kernel
theorem dX0_having_36 : decode cX0_having 36 = .ok (.if_icmp .ne 11, 3) := by decide +kernel
theorem dX0_having_39 : decode cX0_having 39 = .ok (.iload_n 2, 1) := by decide +kernel
theorem dX0_having_40 : decode cX0_having 40 = .ok (.aload_n 0, 1) := by decide +kernel
theorem dX0_having_41 : decode cX0_having 41 = .ok (.iload_n 3, 1) := by decide +kernel
theorem dX0_having_42 : decode cX0_having 42 = .ok (.invokevirtual 91, 3) := by decide +kernel
theorem dX0_having_45 : decode cX0_having 45 = .ok (.iadd, 1) := by decide +kernel
theorem dX0_having_46 : decode cX0_having 46 = .ok (.istore_n 2, 1) := by decide +kernel
theorem dX0_having_47 : decode cX0_having 47 = .ok (.iinc 3 1, 3) := by decide +kernel
theorem dX0_having_50 : decode cX0_having 50 = .ok (.goto (-46), 3) := by decide +kernel
theorem dX0_having_53 : decode cX0_having 53 = .ok (.iload_n 2, 1) := by decide +kernel
theorem dX0_having_54 : decode cX0_having 54 = .ok (.ireturn, 1) := by decide +kernel
abbrev cX0_use : ByteArray := prog_1_method_10_code
def yX0_use : MethodName := ⟨RX0, "use", "(I)I"⟩
theorem dX0_use_0 : decode cX0_use 0 = .ok (.aload_n 0, 1) := by decide +kernel
theorem dX0_use_1 : decode cX0_use 1 = .ok (.iload_n 1, 1) := by decide +kernel
theorem dX0_use_2 : decode cX0_use 2 = .ok (.invokevirtual 53, 3) := by decide +kernel
theorem dX0_use_5 : decode cX0_use 5 = .ok (.ifCond .ne 6, 3) := by decide +kernel
theorem dX0_use_8 : decode cX0_use 8 = .ok (.bipush (-2), 2) := by decide +kernel
theorem dX0_use_10 : decode cX0_use 10 = .ok (.ireturn, 1) := by decide +kernel
theorem dX0_use_11 : decode cX0_use 11 = .ok (.aload_n 0, 1) := by decide +kernel
theorem dX0_use_12 : decode cX0_use 12 = .ok (.invokevirtual 67, 3) := by decide +kernel
theorem dX0_use_15 : decode cX0_use 15 = .ok (.iconst 0, 1) := by decide +kernel
theorem dX0_use_16 : decode cX0_use 16 = .ok (.istore_n 2, 1) := by decide +kernel
theorem dX0_use_17 : decode cX0_use 17 = .ok (.iconst 0, 1) := by decide +kernel
theorem dX0_use_18 : decode cX0_use 18 = .ok (.istore_n 3, 1) := by decide +kernel
theorem dX0_use_19 : decode cX0_use 19 = .ok (.iconst 0, 1) := by decide +kernel
theorem dX0_use_20 : decode cX0_use 20 = .ok (.istore 4, 2) := by decide +kernel
theorem dX0_use_22 : decode cX0_use 22 = .ok (.iload 4, 2) := by decide +kernel
theorem dX0_use_24 : decode cX0_use 24 = .ok (.bipush 104, 2) := by decide +kernel
theorem dX0_use_26 : decode cX0_use 26 = .ok (.aload_n 0, 1) := by decide +kernel
theorem dX0_use_27 : decode cX0_use 27 = .ok (.getfield 70, 3) := by decide +kernel
theorem dX0_use_30 : decode cX0_use 30 = .ok (.imul, 1) := by decide +kernel
theorem dX0_use_31 : decode cX0_use 31 = .ok (.if_icmp .ge 88, 3) := by decide +kernel
theorem dX0_use_34 : decode cX0_use 34 = .ok (.iload 4, 2) := by decide +kernel
theorem dX0_use_36 : decode cX0_use 36 = .ok (.bipush 104, 2) := by decide +kernel
theorem dX0_use_38 : decode cX0_use 38 = .ok (.irem, 1) := by decide +kernel
theorem dX0_use_39 : decode cX0_use 39 = .ok (.iconst 4, 1) := by decide +kernel
theorem dX0_use_40 : decode cX0_use 40 = .ok (.aload_n 0, 1) := by decide +kernel
theorem dX0_use_41 : decode cX0_use 41 = .ok (.getfield 77, 3) := by decide +kernel
theorem dX0_use_44 : decode cX0_use 44 = .ok (.imul, 1) := by decide +kernel
theorem dX0_use_45 : decode cX0_use 45 = .ok (.if_icmp .ge 68, 3) := by decide +kernel
theorem dX0_use_48 : decode cX0_use 48 = .ok (.aload_n 0, 1) := by decide +kernel
theorem dX0_use_49 : decode cX0_use 49 = .ok (.getfield 34, 3) := by decide +kernel
theorem dX0_use_52 : decode cX0_use 52 = .ok (.iload 4, 2) := by decide +kernel
theorem dX0_use_54 : decode cX0_use 54 = .ok (.baload, 1) := by decide +kernel
theorem dX0_use_55 : decode cX0_use 55 = .ok (.iload_n 1, 1) := by decide +kernel
theorem dX0_use_56 : decode cX0_use 56 = .ok (.if_icmp .ne 57, 3) := by decide +kernel
theorem dX0_use_59 : decode cX0_use 59 = .ok (.aload_n 0, 1) := by decide +kernel
theorem dX0_use_60 : decode cX0_use 60 = .ok (.getfield 38, 3) := by decide +kernel
theorem dX0_use_63 : decode cX0_use 63 = .ok (.iload 4, 2) := by decide +kernel
theorem dX0_use_65 : decode cX0_use 65 = .ok (.baload, 1) := by decide +kernel
theorem dX0_use_66 : decode cX0_use 66 = .ok (.ifCond .ge 10, 3) := by decide +kernel
theorem dX0_use_69 : decode cX0_use 69 = .ok (.aload_n 0, 1) := by decide +kernel
theorem dX0_use_70 : decode cX0_use 70 = .ok (.getfield 60, 3) := by decide +kernel
theorem dX0_use_73 : decode cX0_use 73 = .ok (.goto 15, 3) := by decide +kernel
theorem dX0_use_76 : decode cX0_use 76 = .ok (.aload_n 0, 1) := by decide +kernel
theorem dX0_use_77 : decode cX0_use 77 = .ok (.getfield 25, 3) := by decide +kernel
theorem dX0_use_80 : decode cX0_use 80 = .ok (.aload_n 0, 1) := by decide +kernel
theorem dX0_use_81 : decode cX0_use 81 = .ok (.getfield 38, 3) := by decide +kernel
theorem dX0_use_84 : decode cX0_use 84 = .ok (.iload 4, 2) := by decide +kernel
theorem dX0_use_86 : decode cX0_use 86 = .ok (.baload, 1) := by decide +kernel
theorem dX0_use_87 : decode cX0_use 87 = .ok (.iaload, 1) := by decide +kernel
theorem dX0_use_88 : decode cX0_use 88 = .ok (.istore 5, 2) := by decide +kernel
theorem dX0_use_90 : decode cX0_use 90 = .ok (.iconst 1, 1) := by decide +kernel
theorem dX0_use_91 : decode cX0_use 91 = .ok (.istore_n 2, 1) := by decide +kernel
theorem dX0_use_92 : decode cX0_use 92 = .ok (.iload_n 3, 1) := by decide +kernel
theorem dX0_use_93 : decode cX0_use 93 = .ok (.ifCond .ne 14, 3) := by decide +kernel
theorem dX0_use_96 : decode cX0_use 96 = .ok (.iload 5, 2) := by decide +kernel
theorem dX0_use_98 : decode cX0_use 98 = .ok (.aload_n 0, 1) := by decide +kernel
theorem dX0_use_99 : decode cX0_use 99 = .ok (.getfield 25, 3) := by decide +kernel
theorem dX0_use_102 : decode cX0_use 102 = .ok (.iload_n 1, 1) := by decide +kernel
theorem dX0_use_103 : decode cX0_use 103 = .ok (.iaload, 1) := by decide +kernel
theorem dX0_use_104 : decode cX0_use 104 = .ok (.if_icmp .eq 7, 3) := by decide +kernel
theorem dX0_use_107 : decode cX0_use 107 = .ok (.iconst 1, 1) := by decide +kernel
theorem dX0_use_108 : decode cX0_use 108 = .ok (.goto 4, 3) := by decide +kernel
theorem dX0_use_111 : decode cX0_use 111 = .ok (.iconst 0, 1) := by decide +kernel
theorem dX0_use_112 : decode cX0_use 112 = .ok (.istore_n 3, 1) := by decide +kernel
theorem dX0_use_113 : decode cX0_use 113 = .ok (.iinc 4 1, 3) := by decide +kernel
theorem dX0_use_116 : decode cX0_use 116 = .ok (.goto (-94), 3) := by decide +kernel
theorem dX0_use_119 : decode cX0_use 119 = .ok (.iload_n 2, 1) := by decide +kernel
theorem dX0_use_120 : decode cX0_use 120 = .ok (.ifCond .ne 7, 3) := by decide +kernel
theorem dX0_use_123 : decode cX0_use 123 = .ok (.iconst 1, 1) := by decide +kernel
theorem dX0_use_124 : decode cX0_use 124 = .ok (.goto 12, 3) := by decide +kernel
theorem dX0_use_127 : decode cX0_use 127 = .ok (.iload_n 3, 1) := by decide +kernel
theorem dX0_use_128 : decode cX0_use 128 = .ok (.ifCond .eq 7, 3) := by decide +kernel
theorem dX0_use_131 : decode cX0_use 131 = .ok (.iconst 0, 1) := by decide +kernel
theorem dX0_use_132 : decode cX0_use 132 = .ok (.goto 4, 3) := by decide +kernel
theorem dX0_use_135 : decode cX0_use 135 = .ok (.iconst 2, 1) := by decide +kernel
theorem dX0_use_136 : decode cX0_use 136 = .ok (.ireturn, 1) := by decide +kernel
abbrev cX0_witness : ByteArray := prog_1_method_11_code
def yX0_witness : MethodName := ⟨RX0, "witness", "(I)I"⟩
theorem dX0_witness_0 : decode cX0_witness 0 = .ok (.iload_n 1, 1) := by decide +kernel
theorem dX0_witness_1 : decode cX0_witness 1 = .ok (.iconst (-1), 1) := by decide +kernel
theorem dX0_witness_2 : decode cX0_witness 2 = .ok (.if_icmp .eq 14, 3) := by decide +kernel
theorem dX0_witness_5 : decode cX0_witness 5 = .ok (.aload_n 0, 1) := by decide +kernel
theorem dX0_witness_6 : decode cX0_witness 6 = .ok (.iload_n 1, 1) := by decide +kernel
theorem dX0_witness_7 : decode cX0_witness 7 = .ok (.invokevirtual 53, 3) := by decide +kernel
theorem dX0_witness_10 : decode cX0_witness 10 = .ok (.ifCond .ne 6, 3) := by decide +kernel
theorem dX0_witness_13 : decode cX0_witness 13 = .ok (.bipush (-2), 2) := by decide +kernel
theorem dX0_witness_15 : decode cX0_witness 15 = .ok (.ireturn, 1) := by decide +kernel
theorem dX0_witness_16 : decode cX0_witness 16 = .ok (.aload_n 0, 1) := by decide +kernel
theorem dX0_witness_17 : decode cX0_witness 17 = .ok (.invokevirtual 67, 3) := by decide +kernel
theorem dX0_witness_20 : decode cX0_witness 20 = .ok (.iconst 0, 1) := by decide +kernel
theorem dX0_witness_21 : decode cX0_witness 21 = .ok (.istore_n 2, 1) := by decide +kernel
theorem dX0_witness_22 : decode cX0_witness 22 = .ok (.iload_n 2, 1) := by decide +kernel
theorem dX0_witness_23 : decode cX0_witness 23 = .ok (.aload_n 0, 1) := by decide +kernel
theorem dX0_witness_24 : decode cX0_witness 24 = .ok (.getfield 70, 3) := by decide +kernel
theorem dX0_witness_27 : decode cX0_witness 27 = .ok (.if_icmp .ge 68, 3) := by decide +kernel
theorem dX0_witness_30 : decode cX0_witness 30 = .ok (.iconst 0, 1) := by decide +kernel
theorem dX0_witness_31 : decode cX0_witness 31 = .ok (.istore_n 3, 1) := by decide +kernel
theorem dX0_witness_32 : decode cX0_witness 32 = .ok (.iload_n 3, 1) := by decide +kernel
theorem dX0_witness_33 : decode cX0_witness 33 = .ok (.iconst 4, 1) := by decide +kernel
theorem dX0_witness_34 : decode cX0_witness 34 = .ok (.aload_n 0, 1) := by decide +kernel
theorem dX0_witness_35 : decode cX0_witness 35 = .ok (.getfield 77, 3) := by decide +kernel
theorem dX0_witness_38 : decode cX0_witness 38 = .ok (.imul, 1) := by decide +kernel
theorem dX0_witness_39 : decode cX0_witness 39 = .ok (.if_icmp .ge 50, 3) := by decide +kernel
theorem dX0_witness_42 : decode cX0_witness 42 = .ok (.aload_n 0, 1) := by decide +kernel
theorem dX0_witness_43 : decode cX0_witness 43 = .ok (.getfield 34, 3) := by decide +kernel
theorem dX0_witness_46 : decode cX0_witness 46 = .ok (.bipush 104, 2) := by decide +kernel
theorem dX0_witness_48 : decode cX0_witness 48 = .ok (.iload_n 2, 1) := by decide +kernel
theorem dX0_witness_49 : decode cX0_witness 49 = .ok (.imul, 1) := by decide +kernel
theorem dX0_witness_50 : decode cX0_witness 50 = .ok (.iload_n 3, 1) := by decide +kernel
theorem dX0_witness_51 : decode cX0_witness 51 = .ok (.iadd, 1) := by decide +kernel
theorem dX0_witness_52 : decode cX0_witness 52 = .ok (.baload, 1) := by decide +kernel
theorem dX0_witness_53 : decode cX0_witness 53 = .ok (.iload_n 1, 1) := by decide +kernel
theorem dX0_witness_54 : decode cX0_witness 54 = .ok (.if_icmp .ne 29, 3) := by decide +kernel
theorem dX0_witness_57 : decode cX0_witness 57 = .ok (.sipush 128, 3) := by decide +kernel
theorem dX0_witness_60 : decode cX0_witness 60 = .ok (.aload_n 0, 1) := by decide +kernel
theorem dX0_witness_61 : decode cX0_witness 61 = .ok (.getfield 28, 3) := by decide +kernel
theorem dX0_witness_64 : decode cX0_witness 64 = .ok (.iload_n 2, 1) := by decide +kernel
theorem dX0_witness_65 : decode cX0_witness 65 = .ok (.iaload, 1) := by decide +kernel
theorem dX0_witness_66 : decode cX0_witness 66 = .ok (.imul, 1) := by decide +kernel
theorem dX0_witness_67 : decode cX0_witness 67 = .ok (.iconst 4, 1) := by decide +kernel
theorem dX0_witness_68 : decode cX0_witness 68 = .ok (.aload_n 0, 1) := by decide +kernel
theorem dX0_witness_69 : decode cX0_witness 69 = .ok (.getfield 31, 3) := by decide +kernel
theorem dX0_witness_72 : decode cX0_witness 72 = .ok (.iload_n 3, 1) := by decide +kernel
theorem dX0_witness_73 : decode cX0_witness 73 = .ok (.iconst 2, 1) := by decide +kernel
theorem dX0_witness_74 : decode cX0_witness 74 = .ok (.ishr, 1) := by decide +kernel
theorem dX0_witness_75 : decode cX0_witness 75 = .ok (.iaload, 1) := by decide +kernel
theorem dX0_witness_76 : decode cX0_witness 76 = .ok (.imul, 1) := by decide +kernel
theorem dX0_witness_77 : decode cX0_witness 77 = .ok (.iadd, 1) := by decide +kernel
theorem dX0_witness_78 : decode cX0_witness 78 = .ok (.iload_n 3, 1) := by decide +kernel
theorem dX0_witness_79 : decode cX0_witness 79 = .ok (.iconst 3, 1) := by decide +kernel
theorem dX0_witness_80 : decode cX0_witness 80 = .ok (.iand, 1) := by decide +kernel
theorem dX0_witness_81 : decode cX0_witness 81 = .ok (.iadd, 1) := by decide +kernel
theorem dX0_witness_82 : decode cX0_witness 82 = .ok (.ireturn, 1) := by decide +kernel
theorem dX0_witness_83 : decode cX0_witness 83 = .ok (.iinc 3 1, 3) := by decide +kernel
theorem dX0_witness_86 : decode cX0_witness 86 = .ok (.goto (-54), 3) := by decide +kernel
theorem dX0_witness_89 : decode cX0_witness 89 = .ok (.iinc 2 1, 3) := by decide +kernel
theorem dX0_witness_92 : decode cX0_witness 92 = .ok (.goto (-70), 3) := by decide +kernel
theorem dX0_witness_95 : decode cX0_witness 95 = .ok (.iconst (-1), 1) := by decide +kernel
theorem dX0_witness_96 : decode cX0_witness 96 = .ok (.ireturn, 1) := by decide +kernel
theorem q17 : (Jvm.Cond.initialized "PolicyTable") ∈ lw_all := lw_g (lw_at lw_m0 1 rfl) rfl
theorem q20 : (Jvm.Cond.instantiable "PolicyTable" (15 : Nat)) ∈ lw_all := lw_g (lw_at lw_m0 4 rfl) rfl
theorem q22 : (Jvm.Cond.instanceMethod ({ cls := "PolicyTable", name := "<init>", desc := "()V" } : Jvm.MethodName)) ∈ lw_all := lw_g (lw_at lw_m0 6 rfl) rfl
theorem q23 : (Jvm.Cond.code ({ cls := "PolicyTable", name := "<init>", desc := "()V" } : Jvm.MethodName) prog_1_method_1_code (1 : Nat) (Option.none : Option Jvm.ClassFile.FieldType)) ∈ lw_all := lw_g (lw_at lw_m0 7 rfl) rfl
theorem q24 : (Jvm.Cond.methodLink "PolicyTable" (1 : Nat) ({ cls := "java/lang/Object", name := "<init>", desc := "()V" } : Jvm.MethodName)) ∈ lw_all := lw_g (lw_at lw_m0 8 rfl) rfl
theorem q27 : (Jvm.Cond.fieldLink "PolicyTable" (41 : Nat) "PolicyTable" "rules" "I") ∈ lw_all := lw_g (lw_at lw_m0 11 rfl) rfl
theorem q28 : (Jvm.Cond.fieldLink "PolicyTable" (60 : Nat) "PolicyTable" "fallback" "I") ∈ lw_all := lw_g (lw_at lw_m0 12 rfl) rfl
theorem q29 : (Jvm.Cond.fieldLink "PolicyTable" (7 : Nat) "PolicyTable" "sourceLow" "[I") ∈ lw_all := lw_g (lw_at lw_m0 13 rfl) rfl
theorem q30 : (Jvm.Cond.fieldLink "PolicyTable" (13 : Nat) "PolicyTable" "sourceHigh" "[I") ∈ lw_all := lw_g (lw_at lw_m0 14 rfl) rfl
theorem q31 : (Jvm.Cond.fieldLink "PolicyTable" (16 : Nat) "PolicyTable" "destLow" "[I") ∈ lw_all := lw_g (lw_at lw_m0 15 rfl) rfl
theorem q32 : (Jvm.Cond.fieldLink "PolicyTable" (19 : Nat) "PolicyTable" "destHigh" "[I") ∈ lw_all := lw_g (lw_at lw_m0 16 rfl) rfl
theorem q33 : (Jvm.Cond.fieldLink "PolicyTable" (22 : Nat) "PolicyTable" "sortSet" "[I") ∈ lw_all := lw_g (lw_at lw_m0 17 rfl) rfl
theorem q34 : (Jvm.Cond.fieldLink "PolicyTable" (25 : Nat) "PolicyTable" "actionOf" "[I") ∈ lw_all := lw_g (lw_at lw_m0 18 rfl) rfl
theorem q35 : (Jvm.Cond.fieldLink "PolicyTable" (49 : Nat) "PolicyTable" "painted" "Z") ∈ lw_all := lw_g (lw_at lw_m0 19 rfl) rfl
theorem q36 : (Jvm.Cond.fieldLink "PolicyTable" (70 : Nat) "PolicyTable" "columns" "I") ∈ lw_all := lw_g (lw_at lw_m0 20 rfl) rfl
theorem q37 : (Jvm.Cond.fieldLink "PolicyTable" (77 : Nat) "PolicyTable" "rowCount" "I") ∈ lw_all := lw_g (lw_at lw_m0 21 rfl) rfl
theorem q38 : (Jvm.Cond.fieldLink "PolicyTable" (28 : Nat) "PolicyTable" "columnFrom" "[I") ∈ lw_all := lw_g (lw_at lw_m0 22 rfl) rfl
theorem q39 : (Jvm.Cond.fieldLink "PolicyTable" (31 : Nat) "PolicyTable" "rowFrom" "[I") ∈ lw_all := lw_g (lw_at lw_m0 23 rfl) rfl
theorem q40 : (Jvm.Cond.fieldLink "PolicyTable" (34 : Nat) "PolicyTable" "first" "[B") ∈ lw_all := lw_g (lw_at lw_m0 24 rfl) rfl
theorem q41 : (Jvm.Cond.fieldLink "PolicyTable" (38 : Nat) "PolicyTable" "second" "[B") ∈ lw_all := lw_g (lw_at lw_m0 25 rfl) rfl
theorem q42 : (Jvm.Cond.lays "PolicyTable" "PolicyTable" "rules" "I") ∈ lw_all := lw_g (lw_at lw_m0 26 rfl) rfl
theorem q43 : (Jvm.Cond.soleField "PolicyTable" "rules") ∈ lw_all := lw_g (lw_at lw_m0 27 rfl) rfl
theorem q44 : (Jvm.Cond.lays "PolicyTable" "PolicyTable" "fallback" "I") ∈ lw_all := lw_g (lw_at lw_m0 28 rfl) rfl
theorem q45 : (Jvm.Cond.soleField "PolicyTable" "fallback") ∈ lw_all := lw_g (lw_at lw_m0 29 rfl) rfl
theorem q46 : (Jvm.Cond.laysFinal "PolicyTable" "PolicyTable" "sourceLow" "[I") ∈ lw_all := lw_g (lw_at lw_m0 30 rfl) rfl
theorem q47 : (Jvm.Cond.soleField "PolicyTable" "sourceLow") ∈ lw_all := lw_g (lw_at lw_m0 31 rfl) rfl
theorem q48 : (Jvm.Cond.laysFinal "PolicyTable" "PolicyTable" "sourceHigh" "[I") ∈ lw_all := lw_g (lw_at lw_m0 32 rfl) rfl
theorem q49 : (Jvm.Cond.soleField "PolicyTable" "sourceHigh") ∈ lw_all := lw_g (lw_at lw_m0 33 rfl) rfl
theorem q50 : (Jvm.Cond.laysFinal "PolicyTable" "PolicyTable" "destLow" "[I") ∈ lw_all := lw_g (lw_at lw_m0 34 rfl) rfl
theorem q51 : (Jvm.Cond.soleField "PolicyTable" "destLow") ∈ lw_all := lw_g (lw_at lw_m0 35 rfl) rfl
theorem q52 : (Jvm.Cond.laysFinal "PolicyTable" "PolicyTable" "destHigh" "[I") ∈ lw_all := lw_g (lw_at lw_m0 36 rfl) rfl
theorem q53 : (Jvm.Cond.soleField "PolicyTable" "destHigh") ∈ lw_all := lw_g (lw_at lw_m0 37 rfl) rfl
theorem q54 : (Jvm.Cond.laysFinal "PolicyTable" "PolicyTable" "sortSet" "[I") ∈ lw_all := lw_g (lw_at lw_m0 38 rfl) rfl
theorem q55 : (Jvm.Cond.soleField "PolicyTable" "sortSet") ∈ lw_all := lw_g (lw_at lw_m0 39 rfl) rfl
theorem q56 : (Jvm.Cond.laysFinal "PolicyTable" "PolicyTable" "actionOf" "[I") ∈ lw_all := lw_g (lw_at lw_m0 40 rfl) rfl
theorem q57 : (Jvm.Cond.soleField "PolicyTable" "actionOf") ∈ lw_all := lw_g (lw_at lw_m0 41 rfl) rfl
theorem q58 : (Jvm.Cond.lays "PolicyTable" "PolicyTable" "painted" "Z") ∈ lw_all := lw_g (lw_at lw_m0 42 rfl) rfl
theorem q59 : (Jvm.Cond.soleField "PolicyTable" "painted") ∈ lw_all := lw_g (lw_at lw_m0 43 rfl) rfl
theorem q60 : (Jvm.Cond.lays "PolicyTable" "PolicyTable" "columns" "I") ∈ lw_all := lw_g (lw_at lw_m0 44 rfl) rfl
theorem q61 : (Jvm.Cond.soleField "PolicyTable" "columns") ∈ lw_all := lw_g (lw_at lw_m0 45 rfl) rfl
theorem q62 : (Jvm.Cond.lays "PolicyTable" "PolicyTable" "rowCount" "I") ∈ lw_all := lw_g (lw_at lw_m0 46 rfl) rfl
theorem q63 : (Jvm.Cond.soleField "PolicyTable" "rowCount") ∈ lw_all := lw_g (lw_at lw_m0 47 rfl) rfl
theorem q64 : (Jvm.Cond.laysFinal "PolicyTable" "PolicyTable" "columnFrom" "[I") ∈ lw_all := lw_g (lw_at lw_m0 48 rfl) rfl
theorem q65 : (Jvm.Cond.soleField "PolicyTable" "columnFrom") ∈ lw_all := lw_g (lw_at lw_m0 49 rfl) rfl
theorem q66 : (Jvm.Cond.laysFinal "PolicyTable" "PolicyTable" "rowFrom" "[I") ∈ lw_all := lw_g (lw_at lw_m0 50 rfl) rfl
theorem q67 : (Jvm.Cond.soleField "PolicyTable" "rowFrom") ∈ lw_all := lw_g (lw_at lw_m0 51 rfl) rfl
theorem q68 : (Jvm.Cond.laysFinal "PolicyTable" "PolicyTable" "first" "[B") ∈ lw_all := lw_g (lw_at lw_m0 52 rfl) rfl
theorem q69 : (Jvm.Cond.soleField "PolicyTable" "first") ∈ lw_all := lw_g (lw_at lw_m0 53 rfl) rfl
theorem q70 : (Jvm.Cond.laysFinal "PolicyTable" "PolicyTable" "second" "[B") ∈ lw_all := lw_g (lw_at lw_m0 54 rfl) rfl
theorem q71 : (Jvm.Cond.soleField "PolicyTable" "second") ∈ lw_all := lw_g (lw_at lw_m0 55 rfl) rfl
theorem q72 : (Jvm.Cond.superclass "PolicyTable" "java/lang/Object") ∈ lw_all := lw_g (lw_at lw_m0 56 rfl) rfl
theorem q76 : (Jvm.Cond.instanceMethod ({ cls := "PolicyTable", name := "insert", desc := "(IIII)I" } : Jvm.MethodName)) ∈ lw_all := lw_g (lw_at lw_m0 60 rfl) rfl
theorem q77 : (Jvm.Cond.selects "PolicyTable" ({ cls := "PolicyTable", name := "insert", desc := "(IIII)I" } : Jvm.MethodName) ({ cls := "PolicyTable", name := "insert", desc := "(IIII)I" } : Jvm.MethodName)) ∈ lw_all := lw_g (lw_at lw_m0 61 rfl) rfl
theorem q78 : (Jvm.Cond.code ({ cls := "PolicyTable", name := "insert", desc := "(IIII)I" } : Jvm.MethodName) prog_1_method_2_code (7 : Nat) (Option.some Jvm.ClassFile.FieldType.int)) ∈ lw_all := lw_g (lw_at lw_m0 62 rfl) rfl
theorem q79 : (Jvm.Cond.methodLink "PolicyTable" (45 : Nat) ({ cls := "PolicyTable", name := "copyRule", desc := "(II)V" } : Jvm.MethodName)) ∈ lw_all := lw_g (lw_at lw_m0 63 rfl) rfl
theorem q80 : (Jvm.Cond.privateMethod ({ cls := "PolicyTable", name := "copyRule", desc := "(II)V" } : Jvm.MethodName)) ∈ lw_tbl := lw_at lw_m0 64 rfl
theorem q81 : (Jvm.Cond.instanceMethod ({ cls := "PolicyTable", name := "copyRule", desc := "(II)V" } : Jvm.MethodName)) ∈ lw_all := lw_g (lw_at lw_m0 65 rfl) rfl
theorem q82 : (Jvm.Cond.code ({ cls := "PolicyTable", name := "copyRule", desc := "(II)V" } : Jvm.MethodName) prog_1_method_14_code (3 : Nat) (Option.none : Option Jvm.ClassFile.FieldType)) ∈ lw_all := lw_g (lw_at lw_m0 66 rfl) rfl
theorem q84 : (Jvm.Cond.instanceMethod ({ cls := "PolicyTable", name := "remove", desc := "(I)I" } : Jvm.MethodName)) ∈ lw_all := lw_g (lw_at lw_m0 68 rfl) rfl
theorem q85 : (Jvm.Cond.selects "PolicyTable" ({ cls := "PolicyTable", name := "remove", desc := "(I)I" } : Jvm.MethodName) ({ cls := "PolicyTable", name := "remove", desc := "(I)I" } : Jvm.MethodName)) ∈ lw_all := lw_g (lw_at lw_m0 69 rfl) rfl
theorem q86 : (Jvm.Cond.code ({ cls := "PolicyTable", name := "remove", desc := "(I)I" } : Jvm.MethodName) prog_1_method_3_code (3 : Nat) (Option.some Jvm.ClassFile.FieldType.int)) ∈ lw_all := lw_g (lw_at lw_m0 70 rfl) rfl
theorem q87 : (Jvm.Cond.methodLink "PolicyTable" (53 : Nat) ({ cls := "PolicyTable", name := "isRule", desc := "(I)Z" } : Jvm.MethodName)) ∈ lw_all := lw_g (lw_at lw_m0 71 rfl) rfl
theorem q88 : (Jvm.Cond.privateMethod ({ cls := "PolicyTable", name := "isRule", desc := "(I)Z" } : Jvm.MethodName)) ∈ lw_tbl := lw_at lw_m0 72 rfl
theorem q89 : (Jvm.Cond.instanceMethod ({ cls := "PolicyTable", name := "isRule", desc := "(I)Z" } : Jvm.MethodName)) ∈ lw_all := lw_g (lw_at lw_m0 73 rfl) rfl
theorem q90 : (Jvm.Cond.code ({ cls := "PolicyTable", name := "isRule", desc := "(I)Z" } : Jvm.MethodName) prog_1_method_12_code (2 : Nat) (Option.some Jvm.ClassFile.FieldType.boolean)) ∈ lw_all := lw_g (lw_at lw_m0 74 rfl) rfl
theorem q92 : (Jvm.Cond.instanceMethod ({ cls := "PolicyTable", name := "shift", desc := "(II)I" } : Jvm.MethodName)) ∈ lw_all := lw_g (lw_at lw_m0 76 rfl) rfl
theorem q93 : (Jvm.Cond.selects "PolicyTable" ({ cls := "PolicyTable", name := "shift", desc := "(II)I" } : Jvm.MethodName) ({ cls := "PolicyTable", name := "shift", desc := "(II)I" } : Jvm.MethodName)) ∈ lw_all := lw_g (lw_at lw_m0 77 rfl) rfl
theorem q94 : (Jvm.Cond.code ({ cls := "PolicyTable", name := "shift", desc := "(II)I" } : Jvm.MethodName) prog_1_method_4_code (4 : Nat) (Option.some Jvm.ClassFile.FieldType.int)) ∈ lw_all := lw_g (lw_at lw_m0 78 rfl) rfl
theorem q95 : (Jvm.Cond.methodLink "PolicyTable" (57 : Nat) ({ cls := "PolicyTable", name := "exchange", desc := "(II)V" } : Jvm.MethodName)) ∈ lw_all := lw_g (lw_at lw_m0 79 rfl) rfl
theorem q96 : (Jvm.Cond.privateMethod ({ cls := "PolicyTable", name := "exchange", desc := "(II)V" } : Jvm.MethodName)) ∈ lw_tbl := lw_at lw_m0 80 rfl
theorem q97 : (Jvm.Cond.instanceMethod ({ cls := "PolicyTable", name := "exchange", desc := "(II)V" } : Jvm.MethodName)) ∈ lw_all := lw_g (lw_at lw_m0 81 rfl) rfl
theorem q98 : (Jvm.Cond.code ({ cls := "PolicyTable", name := "exchange", desc := "(II)V" } : Jvm.MethodName) prog_1_method_15_code (9 : Nat) (Option.none : Option Jvm.ClassFile.FieldType)) ∈ lw_all := lw_g (lw_at lw_m0 82 rfl) rfl
theorem q100 : (Jvm.Cond.instanceMethod ({ cls := "PolicyTable", name := "otherwise", desc := "(I)I" } : Jvm.MethodName)) ∈ lw_all := lw_g (lw_at lw_m0 84 rfl) rfl
theorem q101 : (Jvm.Cond.selects "PolicyTable" ({ cls := "PolicyTable", name := "otherwise", desc := "(I)I" } : Jvm.MethodName) ({ cls := "PolicyTable", name := "otherwise", desc := "(I)I" } : Jvm.MethodName)) ∈ lw_all := lw_g (lw_at lw_m0 85 rfl) rfl
theorem q102 : (Jvm.Cond.code ({ cls := "PolicyTable", name := "otherwise", desc := "(I)I" } : Jvm.MethodName) prog_1_method_5_code (3 : Nat) (Option.some Jvm.ClassFile.FieldType.int)) ∈ lw_all := lw_g (lw_at lw_m0 86 rfl) rfl
theorem q104 : (Jvm.Cond.instanceMethod ({ cls := "PolicyTable", name := "decide", desc := "(III)I" } : Jvm.MethodName)) ∈ lw_all := lw_g (lw_at lw_m0 88 rfl) rfl
theorem q105 : (Jvm.Cond.selects "PolicyTable" ({ cls := "PolicyTable", name := "decide", desc := "(III)I" } : Jvm.MethodName) ({ cls := "PolicyTable", name := "decide", desc := "(III)I" } : Jvm.MethodName)) ∈ lw_all := lw_g (lw_at lw_m0 89 rfl) rfl
theorem q106 : (Jvm.Cond.code ({ cls := "PolicyTable", name := "decide", desc := "(III)I" } : Jvm.MethodName) prog_1_method_6_code (6 : Nat) (Option.some Jvm.ClassFile.FieldType.int)) ∈ lw_all := lw_g (lw_at lw_m0 90 rfl) rfl
theorem q107 : (Jvm.Cond.methodLink "PolicyTable" (63 : Nat) ({ cls := "PolicyTable", name := "isPacket", desc := "(III)Z" } : Jvm.MethodName)) ∈ lw_all := lw_g (lw_at lw_m0 91 rfl) rfl
theorem q108 : (Jvm.Cond.static ({ cls := "PolicyTable", name := "isPacket", desc := "(III)Z" } : Jvm.MethodName)) ∈ lw_all := lw_g (lw_at lw_m0 92 rfl) rfl
theorem q109 : (Jvm.Cond.code ({ cls := "PolicyTable", name := "isPacket", desc := "(III)Z" } : Jvm.MethodName) prog_1_method_13_code (3 : Nat) (Option.some Jvm.ClassFile.FieldType.boolean)) ∈ lw_all := lw_g (lw_at lw_m0 93 rfl) rfl
theorem q110 : (Jvm.Cond.methodLink "PolicyTable" (67 : Nat) ({ cls := "PolicyTable", name := "paint", desc := "()V" } : Jvm.MethodName)) ∈ lw_all := lw_g (lw_at lw_m0 94 rfl) rfl
theorem q111 : (Jvm.Cond.privateMethod ({ cls := "PolicyTable", name := "paint", desc := "()V" } : Jvm.MethodName)) ∈ lw_tbl := lw_at lw_m0 95 rfl
theorem q112 : (Jvm.Cond.instanceMethod ({ cls := "PolicyTable", name := "paint", desc := "()V" } : Jvm.MethodName)) ∈ lw_all := lw_g (lw_at lw_m0 96 rfl) rfl
theorem q113 : (Jvm.Cond.code ({ cls := "PolicyTable", name := "paint", desc := "()V" } : Jvm.MethodName) prog_1_method_19_code (2 : Nat) (Option.none : Option Jvm.ClassFile.FieldType)) ∈ lw_all := lw_g (lw_at lw_m0 97 rfl) rfl
theorem q114 : (Jvm.Cond.methodLink "PolicyTable" (95 : Nat) ({ cls := "PolicyTable", name := "findEdges", desc := "()V" } : Jvm.MethodName)) ∈ lw_all := lw_g (lw_at lw_m0 98 rfl) rfl
theorem q115 : (Jvm.Cond.privateMethod ({ cls := "PolicyTable", name := "findEdges", desc := "()V" } : Jvm.MethodName)) ∈ lw_tbl := lw_at lw_m0 99 rfl
theorem q116 : (Jvm.Cond.instanceMethod ({ cls := "PolicyTable", name := "findEdges", desc := "()V" } : Jvm.MethodName)) ∈ lw_all := lw_g (lw_at lw_m0 100 rfl) rfl
theorem q117 : (Jvm.Cond.code ({ cls := "PolicyTable", name := "findEdges", desc := "()V" } : Jvm.MethodName) prog_1_method_20_code (2 : Nat) (Option.none : Option Jvm.ClassFile.FieldType)) ∈ lw_all := lw_g (lw_at lw_m0 101 rfl) rfl
theorem q118 : (Jvm.Cond.methodLink "PolicyTable" (102 : Nat) ({ cls := "PolicyTable", name := "isEdge", desc := "([I[II)Z" } : Jvm.MethodName)) ∈ lw_all := lw_g (lw_at lw_m0 102 rfl) rfl
theorem q119 : (Jvm.Cond.privateMethod ({ cls := "PolicyTable", name := "isEdge", desc := "([I[II)Z" } : Jvm.MethodName)) ∈ lw_tbl := lw_at lw_m0 103 rfl
theorem q120 : (Jvm.Cond.instanceMethod ({ cls := "PolicyTable", name := "isEdge", desc := "([I[II)Z" } : Jvm.MethodName)) ∈ lw_all := lw_g (lw_at lw_m0 104 rfl) rfl
theorem q121 : (Jvm.Cond.code ({ cls := "PolicyTable", name := "isEdge", desc := "([I[II)Z" } : Jvm.MethodName) prog_1_method_21_code (5 : Nat) (Option.some Jvm.ClassFile.FieldType.boolean)) ∈ lw_all := lw_g (lw_at lw_m0 105 rfl) rfl
theorem q122 : (Jvm.Cond.methodLink "PolicyTable" (98 : Nat) ({ cls := "PolicyTable", name := "paintRule", desc := "(I)V" } : Jvm.MethodName)) ∈ lw_all := lw_g (lw_at lw_m0 106 rfl) rfl
theorem q123 : (Jvm.Cond.privateMethod ({ cls := "PolicyTable", name := "paintRule", desc := "(I)V" } : Jvm.MethodName)) ∈ lw_tbl := lw_at lw_m0 107 rfl
theorem q124 : (Jvm.Cond.instanceMethod ({ cls := "PolicyTable", name := "paintRule", desc := "(I)V" } : Jvm.MethodName)) ∈ lw_all := lw_g (lw_at lw_m0 108 rfl) rfl
theorem q125 : (Jvm.Cond.code ({ cls := "PolicyTable", name := "paintRule", desc := "(I)V" } : Jvm.MethodName) prog_1_method_22_code (3 : Nat) (Option.none : Option Jvm.ClassFile.FieldType)) ∈ lw_all := lw_g (lw_at lw_m0 109 rfl) rfl
theorem q126 : (Jvm.Cond.methodLink "PolicyTable" (106 : Nat) ({ cls := "PolicyTable", name := "paintColumn", desc := "(II)V" } : Jvm.MethodName)) ∈ lw_all := lw_g (lw_at lw_m0 110 rfl) rfl
theorem q127 : (Jvm.Cond.privateMethod ({ cls := "PolicyTable", name := "paintColumn", desc := "(II)V" } : Jvm.MethodName)) ∈ lw_tbl := lw_at lw_m0 111 rfl
theorem q128 : (Jvm.Cond.instanceMethod ({ cls := "PolicyTable", name := "paintColumn", desc := "(II)V" } : Jvm.MethodName)) ∈ lw_all := lw_g (lw_at lw_m0 112 rfl) rfl
theorem q129 : (Jvm.Cond.code ({ cls := "PolicyTable", name := "paintColumn", desc := "(II)V" } : Jvm.MethodName) prog_1_method_23_code (7 : Nat) (Option.none : Option Jvm.ClassFile.FieldType)) ∈ lw_all := lw_g (lw_at lw_m0 113 rfl) rfl
theorem q130 : (Jvm.Cond.methodLink "PolicyTable" (73 : Nat) ({ cls := "PolicyTable", name := "intervalOf", desc := "([III)I" } : Jvm.MethodName)) ∈ lw_all := lw_g (lw_at lw_m0 114 rfl) rfl
theorem q131 : (Jvm.Cond.static ({ cls := "PolicyTable", name := "intervalOf", desc := "([III)I" } : Jvm.MethodName)) ∈ lw_all := lw_g (lw_at lw_m0 115 rfl) rfl
theorem q132 : (Jvm.Cond.code ({ cls := "PolicyTable", name := "intervalOf", desc := "([III)I" } : Jvm.MethodName) prog_1_method_16_code (7 : Nat) (Option.some Jvm.ClassFile.FieldType.int)) ∈ lw_all := lw_g (lw_at lw_m0 116 rfl) rfl
theorem q134 : (Jvm.Cond.instanceMethod ({ cls := "PolicyTable", name := "action", desc := "(III)I" } : Jvm.MethodName)) ∈ lw_all := lw_g (lw_at lw_m0 118 rfl) rfl
theorem q135 : (Jvm.Cond.selects "PolicyTable" ({ cls := "PolicyTable", name := "action", desc := "(III)I" } : Jvm.MethodName) ({ cls := "PolicyTable", name := "action", desc := "(III)I" } : Jvm.MethodName)) ∈ lw_all := lw_g (lw_at lw_m0 119 rfl) rfl
theorem q136 : (Jvm.Cond.code ({ cls := "PolicyTable", name := "action", desc := "(III)I" } : Jvm.MethodName) prog_1_method_7_code (5 : Nat) (Option.some Jvm.ClassFile.FieldType.int)) ∈ lw_all := lw_g (lw_at lw_m0 120 rfl) rfl
theorem q137 : (Jvm.Cond.methodLink "PolicyTable" (80 : Nat) ({ cls := "PolicyTable", name := "decide", desc := "(III)I" } : Jvm.MethodName)) ∈ lw_all := lw_g (lw_at lw_m0 121 rfl) rfl
theorem q139 : (Jvm.Cond.instanceMethod ({ cls := "PolicyTable", name := "decided", desc := "(I)I" } : Jvm.MethodName)) ∈ lw_all := lw_g (lw_at lw_m0 123 rfl) rfl
theorem q140 : (Jvm.Cond.selects "PolicyTable" ({ cls := "PolicyTable", name := "decided", desc := "(I)I" } : Jvm.MethodName) ({ cls := "PolicyTable", name := "decided", desc := "(I)I" } : Jvm.MethodName)) ∈ lw_all := lw_g (lw_at lw_m0 124 rfl) rfl
theorem q141 : (Jvm.Cond.code ({ cls := "PolicyTable", name := "decided", desc := "(I)I" } : Jvm.MethodName) prog_1_method_8_code (5 : Nat) (Option.some Jvm.ClassFile.FieldType.int)) ∈ lw_all := lw_g (lw_at lw_m0 125 rfl) rfl
theorem q142 : (Jvm.Cond.methodLink "PolicyTable" (84 : Nat) ({ cls := "PolicyTable", name := "fieldsOf", desc := "(III)I" } : Jvm.MethodName)) ∈ lw_all := lw_g (lw_at lw_m0 126 rfl) rfl
theorem q143 : (Jvm.Cond.privateMethod ({ cls := "PolicyTable", name := "fieldsOf", desc := "(III)I" } : Jvm.MethodName)) ∈ lw_tbl := lw_at lw_m0 127 rfl
theorem q144 : (Jvm.Cond.instanceMethod ({ cls := "PolicyTable", name := "fieldsOf", desc := "(III)I" } : Jvm.MethodName)) ∈ lw_all := lw_g (lw_at lw_m0 128 rfl) rfl
theorem q145 : (Jvm.Cond.code ({ cls := "PolicyTable", name := "fieldsOf", desc := "(III)I" } : Jvm.MethodName) prog_1_method_18_code (6 : Nat) (Option.some Jvm.ClassFile.FieldType.int)) ∈ lw_all := lw_g (lw_at lw_m0 129 rfl) rfl
theorem q146 : (Jvm.Cond.methodLink "PolicyTable" (87 : Nat) ({ cls := "PolicyTable", name := "packetsOf", desc := "(II)I" } : Jvm.MethodName)) ∈ lw_all := lw_g (lw_at lw_m0 130 rfl) rfl
theorem q147 : (Jvm.Cond.privateMethod ({ cls := "PolicyTable", name := "packetsOf", desc := "(II)I" } : Jvm.MethodName)) ∈ lw_tbl := lw_at lw_m0 131 rfl
theorem q148 : (Jvm.Cond.instanceMethod ({ cls := "PolicyTable", name := "packetsOf", desc := "(II)I" } : Jvm.MethodName)) ∈ lw_all := lw_g (lw_at lw_m0 132 rfl) rfl
theorem q149 : (Jvm.Cond.code ({ cls := "PolicyTable", name := "packetsOf", desc := "(II)I" } : Jvm.MethodName) prog_1_method_17_code (3 : Nat) (Option.some Jvm.ClassFile.FieldType.int)) ∈ lw_all := lw_g (lw_at lw_m0 133 rfl) rfl
theorem q151 : (Jvm.Cond.instanceMethod ({ cls := "PolicyTable", name := "having", desc := "(I)I" } : Jvm.MethodName)) ∈ lw_all := lw_g (lw_at lw_m0 135 rfl) rfl
theorem q152 : (Jvm.Cond.selects "PolicyTable" ({ cls := "PolicyTable", name := "having", desc := "(I)I" } : Jvm.MethodName) ({ cls := "PolicyTable", name := "having", desc := "(I)I" } : Jvm.MethodName)) ∈ lw_all := lw_g (lw_at lw_m0 136 rfl) rfl
theorem q153 : (Jvm.Cond.code ({ cls := "PolicyTable", name := "having", desc := "(I)I" } : Jvm.MethodName) prog_1_method_9_code (5 : Nat) (Option.some Jvm.ClassFile.FieldType.int)) ∈ lw_all := lw_g (lw_at lw_m0 137 rfl) rfl
theorem q154 : (Jvm.Cond.methodLink "PolicyTable" (91 : Nat) ({ cls := "PolicyTable", name := "decided", desc := "(I)I" } : Jvm.MethodName)) ∈ lw_all := lw_g (lw_at lw_m0 138 rfl) rfl
theorem q156 : (Jvm.Cond.instanceMethod ({ cls := "PolicyTable", name := "use", desc := "(I)I" } : Jvm.MethodName)) ∈ lw_all := lw_g (lw_at lw_m0 140 rfl) rfl
theorem q157 : (Jvm.Cond.selects "PolicyTable" ({ cls := "PolicyTable", name := "use", desc := "(I)I" } : Jvm.MethodName) ({ cls := "PolicyTable", name := "use", desc := "(I)I" } : Jvm.MethodName)) ∈ lw_all := lw_g (lw_at lw_m0 141 rfl) rfl
theorem q158 : (Jvm.Cond.code ({ cls := "PolicyTable", name := "use", desc := "(I)I" } : Jvm.MethodName) prog_1_method_10_code (6 : Nat) (Option.some Jvm.ClassFile.FieldType.int)) ∈ lw_all := lw_g (lw_at lw_m0 142 rfl) rfl
theorem q160 : (Jvm.Cond.instanceMethod ({ cls := "PolicyTable", name := "witness", desc := "(I)I" } : Jvm.MethodName)) ∈ lw_all := lw_g (lw_at lw_m0 144 rfl) rfl
theorem q161 : (Jvm.Cond.selects "PolicyTable" ({ cls := "PolicyTable", name := "witness", desc := "(I)I" } : Jvm.MethodName) ({ cls := "PolicyTable", name := "witness", desc := "(I)I" } : Jvm.MethodName)) ∈ lw_all := lw_g (lw_at lw_m0 145 rfl) rfl
theorem q162 : (Jvm.Cond.code ({ cls := "PolicyTable", name := "witness", desc := "(I)I" } : Jvm.MethodName) prog_1_method_11_code (4 : Nat) (Option.some Jvm.ClassFile.FieldType.int)) ∈ lw_all := lw_g (lw_at lw_m0 146 rfl) rfl
theorem in_X0 : ∀ w ∈ wsX00, w ∈ lw_all := lw_in wsX00 [42, 44, 46, 48, 50, 52, 54, 56, 58, 60, 62, 64, 66, 68, 70] (by decide +kernel) (by decide +kernel)
end
section
/-! PolicyTableModel -/
set_option maxRecDepth 100000
def RX1 : String := "PolicyTableModel"
def TX1 : u_T := fun k => match k with
  | 0 => ("PolicyTableModel", "rules", "I", false)
  | 1 => ("PolicyTableModel", "sources", "[I", true)
  | 2 => ("PolicyTableModel", "destinations", "[I", true)
  | 3 => ("PolicyTableModel", "kinds", "[I", true)
  | _ => ("PolicyTableModel", "byDefault", "I", false)
def tyX1 : Nat → FieldType := fun k => match k with
  | 0 => .int
  | 1 => .array .int
  | 2 => .array .int
  | 3 => .array .int
  | _ => .int
abbrev wsX10 : List Cond := u_ws RX1 TX1 5
theorem nmX1 : ∀ a, a < 5 → ∀ b, b < 5 → a ≠ b → (TX1 a).2.1 ≠ (TX1 b).2.1 := by decide +kernel
theorem tyX1_ok : ∀ k, k < 5 → parseFieldDescriptor (TX1 k).2.2.1 = some (tyX1 k) := by decide +kernel
abbrev cX1_init : ByteArray := prog_3_method_1_code
def yX1_init : MethodName := ⟨RX1, "<init>", "()V"⟩
theorem dX1_init_0 : decode cX1_init 0 = .ok (.aload_n 0, 1) := by decide +kernel
theorem dX1_init_1 : decode cX1_init 1 = .ok (.invokespecial 1, 3) := by decide +kernel
theorem dX1_init_4 : decode cX1_init 4 = .ok (.aload_n 0, 1) := by decide +kernel
theorem dX1_init_5 : decode cX1_init 5 = .ok (.bipush 12, 2) := by decide +kernel
theorem dX1_init_7 : decode cX1_init 7 = .ok (.newarray .int, 2) := by decide +kernel
theorem dX1_init_9 : decode cX1_init 9 = .ok (.putfield 7, 3) := by decide +kernel
theorem dX1_init_12 : decode cX1_init 12 = .ok (.aload_n 0, 1) := by decide +kernel
theorem dX1_init_13 : decode cX1_init 13 = .ok (.bipush 12, 2) := by decide +kernel
theorem dX1_init_15 : decode cX1_init 15 = .ok (.newarray .int, 2) := by decide +kernel
theorem dX1_init_17 : decode cX1_init 17 = .ok (.putfield 13, 3) := by decide +kernel
theorem dX1_init_20 : decode cX1_init 20 = .ok (.aload_n 0, 1) := by decide +kernel
theorem dX1_init_21 : decode cX1_init 21 = .ok (.bipush 12, 2) := by decide +kernel
theorem dX1_init_23 : decode cX1_init 23 = .ok (.newarray .int, 2) := by decide +kernel
theorem dX1_init_25 : decode cX1_init 25 = .ok (.putfield 16, 3) := by decide +kernel
theorem dX1_init_28 : decode cX1_init 28 = .ok (.return_, 1) := by decide +kernel
abbrev cX1_insert : ByteArray := prog_3_method_4_code
def yX1_insert : MethodName := ⟨RX1, "insert", "(IIII)I"⟩
theorem dX1_insert_0 : decode cX1_insert 0 = .ok (.iload_n 1, 1) := by decide +kernel
theorem dX1_insert_1 : decode cX1_insert 1 = .ok (.ifCond .lt 20, 3) := by decide +kernel
theorem dX1_insert_4 : decode cX1_insert 4 = .ok (.iload_n 1, 1) := by decide +kernel
theorem dX1_insert_5 : decode cX1_insert 5 = .ok (.aload_n 0, 1) := by decide +kernel
theorem dX1_insert_6 : decode cX1_insert 6 = .ok (.getfield 19, 3) := by decide +kernel
theorem dX1_insert_9 : decode cX1_insert 9 = .ok (.if_icmp .gt 12, 3) := by decide +kernel
theorem dX1_insert_12 : decode cX1_insert 12 = .ok (.aload_n 0, 1) := by decide +kernel
theorem dX1_insert_13 : decode cX1_insert 13 = .ok (.getfield 19, 3) := by decide +kernel
theorem dX1_insert_16 : decode cX1_insert 16 = .ok (.bipush 12, 2) := by decide +kernel
theorem dX1_insert_18 : decode cX1_insert 18 = .ok (.if_icmp .ne 5, 3) := by decide +kernel
theorem dX1_insert_21 : decode cX1_insert 21 = .ok (.iconst (-1), 1) := by decide +kernel
theorem dX1_insert_22 : decode cX1_insert 22 = .ok (.ireturn, 1) := by decide +kernel
theorem dX1_insert_23 : decode cX1_insert 23 = .ok (.iload_n 2, 1) := by decide +kernel
theorem dX1_insert_24 : decode cX1_insert 24 = .ok (.ifCond .lt 33, 3) := by decide +kernel
theorem dX1_insert_27 : decode cX1_insert 27 = .ok (.iload_n 2, 1) := by decide +kernel
theorem dX1_insert_28 : decode cX1_insert 28 = .ok (.sipush 1023, 3) := by decide +kernel
theorem dX1_insert_31 : decode cX1_insert 31 = .ok (.if_icmp .gt 26, 3) := by decide +kernel
theorem dX1_insert_34 : decode cX1_insert 34 = .ok (.iload_n 3, 1) := by decide +kernel
theorem dX1_insert_35 : decode cX1_insert 35 = .ok (.ifCond .lt 22, 3) := by decide +kernel
theorem dX1_insert_38 : decode cX1_insert 38 = .ok (.iload_n 3, 1) := by decide +kernel
theorem dX1_insert_39 : decode cX1_insert 39 = .ok (.sipush 1023, 3) := by decide +kernel
theorem dX1_insert_42 : decode cX1_insert 42 = .ok (.if_icmp .gt 15, 3) := by decide +kernel
theorem dX1_insert_45 : decode cX1_insert 45 = .ok (.iload 4, 2) := by decide +kernel
theorem dX1_insert_47 : decode cX1_insert 47 = .ok (.ifCond .lt 10, 3) := by decide +kernel
theorem dX1_insert_50 : decode cX1_insert 50 = .ok (.iload 4, 2) := by decide +kernel
theorem dX1_insert_52 : decode cX1_insert 52 = .ok (.bipush 63, 2) := by decide +kernel
theorem dX1_insert_54 : decode cX1_insert 54 = .ok (.if_icmp .le 5, 3) := by decide +kernel
theorem dX1_insert_57 : decode cX1_insert 57 = .ok (.iconst (-1), 1) := by decide +kernel
theorem dX1_insert_58 : decode cX1_insert 58 = .ok (.ireturn, 1) := by decide +kernel
theorem dX1_insert_59 : decode cX1_insert 59 = .ok (.aload_n 0, 1) := by decide +kernel
theorem dX1_insert_60 : decode cX1_insert 60 = .ok (.getfield 19, 3) := by decide +kernel
theorem dX1_insert_63 : decode cX1_insert 63 = .ok (.istore 5, 2) := by decide +kernel
theorem dX1_insert_65 : decode cX1_insert 65 = .ok (.iload 5, 2) := by decide +kernel
theorem dX1_insert_67 : decode cX1_insert 67 = .ok (.iload_n 1, 1) := by decide +kernel
theorem dX1_insert_68 : decode cX1_insert 68 = .ok (.if_icmp .le 19, 3) := by decide +kernel
theorem dX1_insert_71 : decode cX1_insert 71 = .ok (.aload_n 0, 1) := by decide +kernel
theorem dX1_insert_72 : decode cX1_insert 72 = .ok (.iload 5, 2) := by decide +kernel
theorem dX1_insert_74 : decode cX1_insert 74 = .ok (.iload 5, 2) := by decide +kernel
theorem dX1_insert_76 : decode cX1_insert 76 = .ok (.iconst 1, 1) := by decide +kernel
theorem dX1_insert_77 : decode cX1_insert 77 = .ok (.isub, 1) := by decide +kernel
theorem dX1_insert_78 : decode cX1_insert 78 = .ok (.invokevirtual 23, 3) := by decide +kernel
theorem dX1_insert_81 : decode cX1_insert 81 = .ok (.iinc 5 (-1), 3) := by decide +kernel
theorem dX1_insert_84 : decode cX1_insert 84 = .ok (.goto (-19), 3) := by decide +kernel
theorem dX1_insert_87 : decode cX1_insert 87 = .ok (.aload_n 0, 1) := by decide +kernel
theorem dX1_insert_88 : decode cX1_insert 88 = .ok (.iload_n 1, 1) := by decide +kernel
theorem dX1_insert_89 : decode cX1_insert 89 = .ok (.iload_n 2, 1) := by decide +kernel
theorem dX1_insert_90 : decode cX1_insert 90 = .ok (.iload_n 3, 1) := by decide +kernel
theorem dX1_insert_91 : decode cX1_insert 91 = .ok (.iload 4, 2) := by decide +kernel
theorem dX1_insert_93 : decode cX1_insert 93 = .ok (.invokevirtual 27, 3) := by decide +kernel
theorem dX1_insert_96 : decode cX1_insert 96 = .ok (.aload_n 0, 1) := by decide +kernel
theorem dX1_insert_97 : decode cX1_insert 97 = .ok (.dup, 1) := by decide +kernel
theorem dX1_insert_98 : decode cX1_insert 98 = .ok (.getfield 19, 3) := by decide +kernel
theorem dX1_insert_101 : decode cX1_insert 101 = .ok (.iconst 1, 1) := by decide +kernel
theorem dX1_insert_102 : decode cX1_insert 102 = .ok (.iadd, 1) := by decide +kernel
theorem dX1_insert_103 : decode cX1_insert 103 = .ok (.putfield 19, 3) := by decide +kernel
theorem dX1_insert_106 : decode cX1_insert 106 = .ok (.aload_n 0, 1) := by decide +kernel
theorem dX1_insert_107 : decode cX1_insert 107 = .ok (.getfield 19, 3) := by decide +kernel
theorem dX1_insert_110 : decode cX1_insert 110 = .ok (.ireturn, 1) := by decide +kernel
abbrev cX1_copy : ByteArray := prog_3_method_2_code
def yX1_copy : MethodName := ⟨RX1, "copy", "(II)V"⟩
theorem dX1_copy_0 : decode cX1_copy 0 = .ok (.aload_n 0, 1) := by decide +kernel
theorem dX1_copy_1 : decode cX1_copy 1 = .ok (.getfield 7, 3) := by decide +kernel
theorem dX1_copy_4 : decode cX1_copy 4 = .ok (.iload_n 1, 1) := by decide +kernel
theorem dX1_copy_5 : decode cX1_copy 5 = .ok (.aload_n 0, 1) := by decide +kernel
theorem dX1_copy_6 : decode cX1_copy 6 = .ok (.getfield 7, 3) := by decide +kernel
theorem dX1_copy_9 : decode cX1_copy 9 = .ok (.iload_n 2, 1) := by decide +kernel
theorem dX1_copy_10 : decode cX1_copy 10 = .ok (.iaload, 1) := by decide +kernel
theorem dX1_copy_11 : decode cX1_copy 11 = .ok (.iastore, 1) := by decide +kernel
theorem dX1_copy_12 : decode cX1_copy 12 = .ok (.aload_n 0, 1) := by decide +kernel
theorem dX1_copy_13 : decode cX1_copy 13 = .ok (.getfield 13, 3) := by decide +kernel
theorem dX1_copy_16 : decode cX1_copy 16 = .ok (.iload_n 1, 1) := by decide +kernel
theorem dX1_copy_17 : decode cX1_copy 17 = .ok (.aload_n 0, 1) := by decide +kernel
theorem dX1_copy_18 : decode cX1_copy 18 = .ok (.getfield 13, 3) := by decide +kernel
theorem dX1_copy_21 : decode cX1_copy 21 = .ok (.iload_n 2, 1) := by decide +kernel
theorem dX1_copy_22 : decode cX1_copy 22 = .ok (.iaload, 1) := by decide +kernel
theorem dX1_copy_23 : decode cX1_copy 23 = .ok (.iastore, 1) := by decide +kernel
theorem dX1_copy_24 : decode cX1_copy 24 = .ok (.aload_n 0, 1) := by decide +kernel
theorem dX1_copy_25 : decode cX1_copy 25 = .ok (.getfield 16, 3) := by decide +kernel
theorem dX1_copy_28 : decode cX1_copy 28 = .ok (.iload_n 1, 1) := by decide +kernel
theorem dX1_copy_29 : decode cX1_copy 29 = .ok (.aload_n 0, 1) := by decide +kernel
theorem dX1_copy_30 : decode cX1_copy 30 = .ok (.getfield 16, 3) := by decide +kernel
theorem dX1_copy_33 : decode cX1_copy 33 = .ok (.iload_n 2, 1) := by decide +kernel
theorem dX1_copy_34 : decode cX1_copy 34 = .ok (.iaload, 1) := by decide +kernel
theorem dX1_copy_35 : decode cX1_copy 35 = .ok (.iastore, 1) := by decide +kernel
theorem dX1_copy_36 : decode cX1_copy 36 = .ok (.return_, 1) := by decide +kernel
abbrev cX1_write : ByteArray := prog_3_method_3_code
def yX1_write : MethodName := ⟨RX1, "write", "(IIII)V"⟩
theorem dX1_write_0 : decode cX1_write 0 = .ok (.aload_n 0, 1) := by decide +kernel
theorem dX1_write_1 : decode cX1_write 1 = .ok (.getfield 7, 3) := by decide +kernel
theorem dX1_write_4 : decode cX1_write 4 = .ok (.iload_n 1, 1) := by decide +kernel
theorem dX1_write_5 : decode cX1_write 5 = .ok (.iload_n 2, 1) := by decide +kernel
theorem dX1_write_6 : decode cX1_write 6 = .ok (.iastore, 1) := by decide +kernel
theorem dX1_write_7 : decode cX1_write 7 = .ok (.aload_n 0, 1) := by decide +kernel
theorem dX1_write_8 : decode cX1_write 8 = .ok (.getfield 13, 3) := by decide +kernel
theorem dX1_write_11 : decode cX1_write 11 = .ok (.iload_n 1, 1) := by decide +kernel
theorem dX1_write_12 : decode cX1_write 12 = .ok (.iload_n 3, 1) := by decide +kernel
theorem dX1_write_13 : decode cX1_write 13 = .ok (.iastore, 1) := by decide +kernel
theorem dX1_write_14 : decode cX1_write 14 = .ok (.aload_n 0, 1) := by decide +kernel
theorem dX1_write_15 : decode cX1_write 15 = .ok (.getfield 16, 3) := by decide +kernel
theorem dX1_write_18 : decode cX1_write 18 = .ok (.iload_n 1, 1) := by decide +kernel
theorem dX1_write_19 : decode cX1_write 19 = .ok (.iload 4, 2) := by decide +kernel
theorem dX1_write_21 : decode cX1_write 21 = .ok (.iastore, 1) := by decide +kernel
theorem dX1_write_22 : decode cX1_write 22 = .ok (.return_, 1) := by decide +kernel
abbrev cX1_remove : ByteArray := prog_3_method_6_code
def yX1_remove : MethodName := ⟨RX1, "remove", "(I)I"⟩
theorem dX1_remove_0 : decode cX1_remove 0 = .ok (.aload_n 0, 1) := by decide +kernel
theorem dX1_remove_1 : decode cX1_remove 1 = .ok (.iload_n 1, 1) := by decide +kernel
theorem dX1_remove_2 : decode cX1_remove 2 = .ok (.invokevirtual 31, 3) := by decide +kernel
theorem dX1_remove_5 : decode cX1_remove 5 = .ok (.ifCond .eq 5, 3) := by decide +kernel
theorem dX1_remove_8 : decode cX1_remove 8 = .ok (.iconst (-1), 1) := by decide +kernel
theorem dX1_remove_9 : decode cX1_remove 9 = .ok (.ireturn, 1) := by decide +kernel
theorem dX1_remove_10 : decode cX1_remove 10 = .ok (.aload_n 0, 1) := by decide +kernel
theorem dX1_remove_11 : decode cX1_remove 11 = .ok (.dup, 1) := by decide +kernel
theorem dX1_remove_12 : decode cX1_remove 12 = .ok (.getfield 19, 3) := by decide +kernel
theorem dX1_remove_15 : decode cX1_remove 15 = .ok (.iconst 1, 1) := by decide +kernel
theorem dX1_remove_16 : decode cX1_remove 16 = .ok (.isub, 1) := by decide +kernel
theorem dX1_remove_17 : decode cX1_remove 17 = .ok (.putfield 19, 3) := by decide +kernel
theorem dX1_remove_20 : decode cX1_remove 20 = .ok (.iload_n 1, 1) := by decide +kernel
theorem dX1_remove_21 : decode cX1_remove 21 = .ok (.istore_n 2, 1) := by decide +kernel
theorem dX1_remove_22 : decode cX1_remove 22 = .ok (.iload_n 2, 1) := by decide +kernel
theorem dX1_remove_23 : decode cX1_remove 23 = .ok (.aload_n 0, 1) := by decide +kernel
theorem dX1_remove_24 : decode cX1_remove 24 = .ok (.getfield 19, 3) := by decide +kernel
theorem dX1_remove_27 : decode cX1_remove 27 = .ok (.if_icmp .ge 17, 3) := by decide +kernel
theorem dX1_remove_30 : decode cX1_remove 30 = .ok (.aload_n 0, 1) := by decide +kernel
theorem dX1_remove_31 : decode cX1_remove 31 = .ok (.iload_n 2, 1) := by decide +kernel
theorem dX1_remove_32 : decode cX1_remove 32 = .ok (.iload_n 2, 1) := by decide +kernel
theorem dX1_remove_33 : decode cX1_remove 33 = .ok (.iconst 1, 1) := by decide +kernel
theorem dX1_remove_34 : decode cX1_remove 34 = .ok (.iadd, 1) := by decide +kernel
theorem dX1_remove_35 : decode cX1_remove 35 = .ok (.invokevirtual 23, 3) := by decide +kernel
theorem dX1_remove_38 : decode cX1_remove 38 = .ok (.iinc 2 1, 3) := by decide +kernel
theorem dX1_remove_41 : decode cX1_remove 41 = .ok (.goto (-19), 3) := by decide +kernel
theorem dX1_remove_44 : decode cX1_remove 44 = .ok (.aload_n 0, 1) := by decide +kernel
theorem dX1_remove_45 : decode cX1_remove 45 = .ok (.getfield 19, 3) := by decide +kernel
theorem dX1_remove_48 : decode cX1_remove 48 = .ok (.ireturn, 1) := by decide +kernel
abbrev cX1_missing : ByteArray := prog_3_method_5_code
def yX1_missing : MethodName := ⟨RX1, "missing", "(I)Z"⟩
theorem dX1_missing_0 : decode cX1_missing 0 = .ok (.iload_n 1, 1) := by decide +kernel
theorem dX1_missing_1 : decode cX1_missing 1 = .ok (.ifCond .lt 11, 3) := by decide +kernel
theorem dX1_missing_4 : decode cX1_missing 4 = .ok (.iload_n 1, 1) := by decide +kernel
theorem dX1_missing_5 : decode cX1_missing 5 = .ok (.aload_n 0, 1) := by decide +kernel
theorem dX1_missing_6 : decode cX1_missing 6 = .ok (.getfield 19, 3) := by decide +kernel
theorem dX1_missing_9 : decode cX1_missing 9 = .ok (.if_icmp .lt 7, 3) := by decide +kernel
theorem dX1_missing_12 : decode cX1_missing 12 = .ok (.iconst 1, 1) := by decide +kernel
theorem dX1_missing_13 : decode cX1_missing 13 = .ok (.goto 4, 3) := by decide +kernel
theorem dX1_missing_16 : decode cX1_missing 16 = .ok (.iconst 0, 1) := by decide +kernel
theorem dX1_missing_17 : decode cX1_missing 17 = .ok (.ireturn, 1) := by decide +kernel
abbrev cX1_shift : ByteArray := prog_3_method_7_code
def yX1_shift : MethodName := ⟨RX1, "shift", "(II)I"⟩
theorem dX1_shift_0 : decode cX1_shift 0 = .ok (.aload_n 0, 1) := by decide +kernel
theorem dX1_shift_1 : decode cX1_shift 1 = .ok (.iload_n 1, 1) := by decide +kernel
theorem dX1_shift_2 : decode cX1_shift 2 = .ok (.invokevirtual 31, 3) := by decide +kernel
theorem dX1_shift_5 : decode cX1_shift 5 = .ok (.ifCond .ne 11, 3) := by decide +kernel
theorem dX1_shift_8 : decode cX1_shift 8 = .ok (.aload_n 0, 1) := by decide +kernel
theorem dX1_shift_9 : decode cX1_shift 9 = .ok (.iload_n 2, 1) := by decide +kernel
theorem dX1_shift_10 : decode cX1_shift 10 = .ok (.invokevirtual 31, 3) := by decide +kernel
theorem dX1_shift_13 : decode cX1_shift 13 = .ok (.ifCond .eq 5, 3) := by decide +kernel
theorem dX1_shift_16 : decode cX1_shift 16 = .ok (.iconst (-1), 1) := by decide +kernel
theorem dX1_shift_17 : decode cX1_shift 17 = .ok (.ireturn, 1) := by decide +kernel
theorem dX1_shift_18 : decode cX1_shift 18 = .ok (.aload_n 0, 1) := by decide +kernel
theorem dX1_shift_19 : decode cX1_shift 19 = .ok (.getfield 7, 3) := by decide +kernel
theorem dX1_shift_22 : decode cX1_shift 22 = .ok (.iload_n 1, 1) := by decide +kernel
theorem dX1_shift_23 : decode cX1_shift 23 = .ok (.iaload, 1) := by decide +kernel
theorem dX1_shift_24 : decode cX1_shift 24 = .ok (.istore_n 3, 1) := by decide +kernel
theorem dX1_shift_25 : decode cX1_shift 25 = .ok (.aload_n 0, 1) := by decide +kernel
theorem dX1_shift_26 : decode cX1_shift 26 = .ok (.getfield 13, 3) := by decide +kernel
theorem dX1_shift_29 : decode cX1_shift 29 = .ok (.iload_n 1, 1) := by decide +kernel
theorem dX1_shift_30 : decode cX1_shift 30 = .ok (.iaload, 1) := by decide +kernel
theorem dX1_shift_31 : decode cX1_shift 31 = .ok (.istore 4, 2) := by decide +kernel
theorem dX1_shift_33 : decode cX1_shift 33 = .ok (.aload_n 0, 1) := by decide +kernel
theorem dX1_shift_34 : decode cX1_shift 34 = .ok (.getfield 16, 3) := by decide +kernel
theorem dX1_shift_37 : decode cX1_shift 37 = .ok (.iload_n 1, 1) := by decide +kernel
theorem dX1_shift_38 : decode cX1_shift 38 = .ok (.iaload, 1) := by decide +kernel
theorem dX1_shift_39 : decode cX1_shift 39 = .ok (.istore 5, 2) := by decide +kernel
theorem dX1_shift_41 : decode cX1_shift 41 = .ok (.aload_n 0, 1) := by decide +kernel
theorem dX1_shift_42 : decode cX1_shift 42 = .ok (.iload_n 1, 1) := by decide +kernel
theorem dX1_shift_43 : decode cX1_shift 43 = .ok (.invokevirtual 35, 3) := by decide +kernel
theorem dX1_shift_46 : decode cX1_shift 46 = .ok (.pop, 1) := by decide +kernel
theorem dX1_shift_47 : decode cX1_shift 47 = .ok (.aload_n 0, 1) := by decide +kernel
theorem dX1_shift_48 : decode cX1_shift 48 = .ok (.iload_n 2, 1) := by decide +kernel
theorem dX1_shift_49 : decode cX1_shift 49 = .ok (.iload_n 3, 1) := by decide +kernel
theorem dX1_shift_50 : decode cX1_shift 50 = .ok (.iload 4, 2) := by decide +kernel
theorem dX1_shift_52 : decode cX1_shift 52 = .ok (.iload 5, 2) := by decide +kernel
theorem dX1_shift_54 : decode cX1_shift 54 = .ok (.invokevirtual 39, 3) := by decide +kernel
theorem dX1_shift_57 : decode cX1_shift 57 = .ok (.pop, 1) := by decide +kernel
theorem dX1_shift_58 : decode cX1_shift 58 = .ok (.iconst 0, 1) := by decide +kernel
theorem dX1_shift_59 : decode cX1_shift 59 = .ok (.ireturn, 1) := by decide +kernel
abbrev cX1_otherwise : ByteArray := prog_3_method_8_code
def yX1_otherwise : MethodName := ⟨RX1, "otherwise", "(I)I"⟩
theorem dX1_otherwise_0 : decode cX1_otherwise 0 = .ok (.aload_n 0, 1) := by decide +kernel
theorem dX1_otherwise_1 : decode cX1_otherwise 1 = .ok (.getfield 43, 3) := by decide +kernel
theorem dX1_otherwise_4 : decode cX1_otherwise 4 = .ok (.istore_n 2, 1) := by decide +kernel
theorem dX1_otherwise_5 : decode cX1_otherwise 5 = .ok (.aload_n 0, 1) := by decide +kernel
theorem dX1_otherwise_6 : decode cX1_otherwise 6 = .ok (.iload_n 1, 1) := by decide +kernel
theorem dX1_otherwise_7 : decode cX1_otherwise 7 = .ok (.iconst 3, 1) := by decide +kernel
theorem dX1_otherwise_8 : decode cX1_otherwise 8 = .ok (.iand, 1) := by decide +kernel
theorem dX1_otherwise_9 : decode cX1_otherwise 9 = .ok (.putfield 43, 3) := by decide +kernel
theorem dX1_otherwise_12 : decode cX1_otherwise 12 = .ok (.iload_n 2, 1) := by decide +kernel
theorem dX1_otherwise_13 : decode cX1_otherwise 13 = .ok (.ireturn, 1) := by decide +kernel
abbrev cX1_decide : ByteArray := prog_3_method_13_code
def yX1_decide : MethodName := ⟨RX1, "decide", "(III)I"⟩
theorem dX1_decide_0 : decode cX1_decide 0 = .ok (.iload_n 1, 1) := by decide +kernel
theorem dX1_decide_1 : decode cX1_decide 1 = .ok (.iload_n 2, 1) := by decide +kernel
theorem dX1_decide_2 : decode cX1_decide 2 = .ok (.iload_n 3, 1) := by decide +kernel
theorem dX1_decide_3 : decode cX1_decide 3 = .ok (.invokestatic 50, 3) := by decide +kernel
theorem dX1_decide_6 : decode cX1_decide 6 = .ok (.ifCond .eq 6, 3) := by decide +kernel
theorem dX1_decide_9 : decode cX1_decide 9 = .ok (.bipush (-2), 2) := by decide +kernel
theorem dX1_decide_11 : decode cX1_decide 11 = .ok (.ireturn, 1) := by decide +kernel
theorem dX1_decide_12 : decode cX1_decide 12 = .ok (.aload_n 0, 1) := by decide +kernel
theorem dX1_decide_13 : decode cX1_decide 13 = .ok (.sipush 128, 3) := by decide +kernel
theorem dX1_decide_16 : decode cX1_decide 16 = .ok (.iload_n 1, 1) := by decide +kernel
theorem dX1_decide_17 : decode cX1_decide 17 = .ok (.imul, 1) := by decide +kernel
theorem dX1_decide_18 : decode cX1_decide 18 = .ok (.iconst 4, 1) := by decide +kernel
theorem dX1_decide_19 : decode cX1_decide 19 = .ok (.iload_n 2, 1) := by decide +kernel
theorem dX1_decide_20 : decode cX1_decide 20 = .ok (.imul, 1) := by decide +kernel
theorem dX1_decide_21 : decode cX1_decide 21 = .ok (.iadd, 1) := by decide +kernel
theorem dX1_decide_22 : decode cX1_decide 22 = .ok (.iload_n 3, 1) := by decide +kernel
theorem dX1_decide_23 : decode cX1_decide 23 = .ok (.iadd, 1) := by decide +kernel
theorem dX1_decide_24 : decode cX1_decide 24 = .ok (.iconst (-1), 1) := by decide +kernel
theorem dX1_decide_25 : decode cX1_decide 25 = .ok (.invokevirtual 54, 3) := by decide +kernel
theorem dX1_decide_28 : decode cX1_decide 28 = .ok (.ireturn, 1) := by decide +kernel
abbrev cX1_noPacket : ByteArray := prog_3_method_12_code
def yX1_noPacket : MethodName := ⟨RX1, "noPacket", "(III)Z"⟩
theorem dX1_noPacket_0 : decode cX1_noPacket 0 = .ok (.iload_n 0, 1) := by decide +kernel
theorem dX1_noPacket_1 : decode cX1_noPacket 1 = .ok (.ifCond .lt 28, 3) := by decide +kernel
theorem dX1_noPacket_4 : decode cX1_noPacket 4 = .ok (.iload_n 0, 1) := by decide +kernel
theorem dX1_noPacket_5 : decode cX1_noPacket 5 = .ok (.bipush 31, 2) := by decide +kernel
theorem dX1_noPacket_7 : decode cX1_noPacket 7 = .ok (.if_icmp .gt 22, 3) := by decide +kernel
theorem dX1_noPacket_10 : decode cX1_noPacket 10 = .ok (.iload_n 1, 1) := by decide +kernel
theorem dX1_noPacket_11 : decode cX1_noPacket 11 = .ok (.ifCond .lt 18, 3) := by decide +kernel
theorem dX1_noPacket_14 : decode cX1_noPacket 14 = .ok (.iload_n 1, 1) := by decide +kernel
theorem dX1_noPacket_15 : decode cX1_noPacket 15 = .ok (.bipush 31, 2) := by decide +kernel
theorem dX1_noPacket_17 : decode cX1_noPacket 17 = .ok (.if_icmp .gt 12, 3) := by decide +kernel
theorem dX1_noPacket_20 : decode cX1_noPacket 20 = .ok (.iload_n 2, 1) := by decide +kernel
theorem dX1_noPacket_21 : decode cX1_noPacket 21 = .ok (.ifCond .lt 8, 3) := by decide +kernel
theorem dX1_noPacket_24 : decode cX1_noPacket 24 = .ok (.iload_n 2, 1) := by decide +kernel
theorem dX1_noPacket_25 : decode cX1_noPacket 25 = .ok (.iconst 3, 1) := by decide +kernel
theorem dX1_noPacket_26 : decode cX1_noPacket 26 = .ok (.if_icmp .le 7, 3) := by decide +kernel
theorem dX1_noPacket_29 : decode cX1_noPacket 29 = .ok (.iconst 1, 1) := by decide +kernel
theorem dX1_noPacket_30 : decode cX1_noPacket 30 = .ok (.goto 4, 3) := by decide +kernel
theorem dX1_noPacket_33 : decode cX1_noPacket 33 = .ok (.iconst 0, 1) := by decide +kernel
theorem dX1_noPacket_34 : decode cX1_noPacket 34 = .ok (.ireturn, 1) := by decide +kernel
abbrev cX1_deciding : ByteArray := prog_3_method_10_code
def yX1_deciding : MethodName := ⟨RX1, "deciding", "(II)I"⟩
theorem dX1_deciding_0 : decode cX1_deciding 0 = .ok (.iconst 0, 1) := by decide +kernel
theorem dX1_deciding_1 : decode cX1_deciding 1 = .ok (.istore_n 3, 1) := by decide +kernel
theorem dX1_deciding_2 : decode cX1_deciding 2 = .ok (.iload_n 3, 1) := by decide +kernel
theorem dX1_deciding_3 : decode cX1_deciding 3 = .ok (.aload_n 0, 1) := by decide +kernel
theorem dX1_deciding_4 : decode cX1_deciding 4 = .ok (.getfield 19, 3) := by decide +kernel
theorem dX1_deciding_7 : decode cX1_deciding 7 = .ok (.if_icmp .ge 25, 3) := by decide +kernel
theorem dX1_deciding_10 : decode cX1_deciding 10 = .ok (.iload_n 3, 1) := by decide +kernel
theorem dX1_deciding_11 : decode cX1_deciding 11 = .ok (.iload_n 2, 1) := by decide +kernel
theorem dX1_deciding_12 : decode cX1_deciding 12 = .ok (.if_icmp .eq 14, 3) := by decide +kernel
theorem dX1_deciding_15 : decode cX1_deciding 15 = .ok (.aload_n 0, 1) := by decide +kernel
theorem dX1_deciding_16 : decode cX1_deciding 16 = .ok (.iload_n 3, 1) := by decide +kernel
theorem dX1_deciding_17 : decode cX1_deciding 17 = .ok (.iload_n 1, 1) := by decide +kernel
theorem dX1_deciding_18 : decode cX1_deciding 18 = .ok (.invokevirtual 46, 3) := by decide +kernel
theorem dX1_deciding_21 : decode cX1_deciding 21 = .ok (.ifCond .eq 5, 3) := by decide +kernel
theorem dX1_deciding_24 : decode cX1_deciding 24 = .ok (.iload_n 3, 1) := by decide +kernel
theorem dX1_deciding_25 : decode cX1_deciding 25 = .ok (.ireturn, 1) := by decide +kernel
theorem dX1_deciding_26 : decode cX1_deciding 26 = .ok (.iinc 3 1, 3) := by decide +kernel
theorem dX1_deciding_29 : decode cX1_deciding 29 = .ok (.goto (-27), 3) := by decide +kernel
theorem dX1_deciding_32 : decode cX1_deciding 32 = .ok (.iconst (-1), 1) := by decide +kernel
theorem dX1_deciding_33 : decode cX1_deciding 33 = .ok (.ireturn, 1) := by decide +kernel
abbrev cX1_matches : ByteArray := prog_3_method_9_code
def yX1_matches : MethodName := ⟨RX1, "matches", "(II)Z"⟩
theorem dX1_matches_0 : decode cX1_matches 0 = .ok (.iload_n 2, 1) := by decide +kernel
theorem dX1_matches_1 : decode cX1_matches 1 = .ok (.sipush 128, 3) := by decide +kernel
theorem dX1_matches_4 : decode cX1_matches 4 = .ok (.idiv, 1) := by decide +kernel
theorem dX1_matches_5 : decode cX1_matches 5 = .ok (.istore_n 3, 1) := by decide +kernel
theorem dX1_matches_6 : decode cX1_matches 6 = .ok (.iload_n 2, 1) := by decide +kernel
theorem dX1_matches_7 : decode cX1_matches 7 = .ok (.iconst 4, 1) := by decide +kernel
theorem dX1_matches_8 : decode cX1_matches 8 = .ok (.idiv, 1) := by decide +kernel
theorem dX1_matches_9 : decode cX1_matches 9 = .ok (.bipush 32, 2) := by decide +kernel
theorem dX1_matches_11 : decode cX1_matches 11 = .ok (.irem, 1) := by decide +kernel
theorem dX1_matches_12 : decode cX1_matches 12 = .ok (.istore 4, 2) := by decide +kernel
theorem dX1_matches_14 : decode cX1_matches 14 = .ok (.iload_n 3, 1) := by decide +kernel
theorem dX1_matches_15 : decode cX1_matches 15 = .ok (.aload_n 0, 1) := by decide +kernel
theorem dX1_matches_16 : decode cX1_matches 16 = .ok (.getfield 7, 3) := by decide +kernel
theorem dX1_matches_19 : decode cX1_matches 19 = .ok (.iload_n 1, 1) := by decide +kernel
theorem dX1_matches_20 : decode cX1_matches 20 = .ok (.iaload, 1) := by decide +kernel
theorem dX1_matches_21 : decode cX1_matches 21 = .ok (.bipush 32, 2) := by decide +kernel
theorem dX1_matches_23 : decode cX1_matches 23 = .ok (.idiv, 1) := by decide +kernel
theorem dX1_matches_24 : decode cX1_matches 24 = .ok (.if_icmp .lt 20, 3) := by decide +kernel
theorem dX1_matches_27 : decode cX1_matches 27 = .ok (.iload_n 3, 1) := by decide +kernel
theorem dX1_matches_28 : decode cX1_matches 28 = .ok (.aload_n 0, 1) := by decide +kernel
theorem dX1_matches_29 : decode cX1_matches 29 = .ok (.getfield 7, 3) := by decide +kernel
theorem dX1_matches_32 : decode cX1_matches 32 = .ok (.iload_n 1, 1) := by decide +kernel
theorem dX1_matches_33 : decode cX1_matches 33 = .ok (.iaload, 1) := by decide +kernel
theorem dX1_matches_34 : decode cX1_matches 34 = .ok (.bipush 32, 2) := by decide +kernel
theorem dX1_matches_36 : decode cX1_matches 36 = .ok (.irem, 1) := by decide +kernel
theorem dX1_matches_37 : decode cX1_matches 37 = .ok (.if_icmp .gt 7, 3) := by decide +kernel
theorem dX1_matches_40 : decode cX1_matches 40 = .ok (.iconst 1, 1) := by decide +kernel
theorem dX1_matches_41 : decode cX1_matches 41 = .ok (.goto 4, 3) := by decide +kernel
theorem dX1_matches_44 : decode cX1_matches 44 = .ok (.iconst 0, 1) := by decide +kernel
theorem dX1_matches_45 : decode cX1_matches 45 = .ok (.istore 5, 2) := by decide +kernel
theorem dX1_matches_47 : decode cX1_matches 47 = .ok (.iload 4, 2) := by decide +kernel
theorem dX1_matches_49 : decode cX1_matches 49 = .ok (.aload_n 0, 1) := by decide +kernel
theorem dX1_matches_50 : decode cX1_matches 50 = .ok (.getfield 13, 3) := by decide +kernel
theorem dX1_matches_53 : decode cX1_matches 53 = .ok (.iload_n 1, 1) := by decide +kernel
theorem dX1_matches_54 : decode cX1_matches 54 = .ok (.iaload, 1) := by decide +kernel
theorem dX1_matches_55 : decode cX1_matches 55 = .ok (.bipush 32, 2) := by decide +kernel
theorem dX1_matches_57 : decode cX1_matches 57 = .ok (.idiv, 1) := by decide +kernel
theorem dX1_matches_58 : decode cX1_matches 58 = .ok (.if_icmp .lt 21, 3) := by decide +kernel
theorem dX1_matches_61 : decode cX1_matches 61 = .ok (.iload 4, 2) := by decide +kernel
theorem dX1_matches_63 : decode cX1_matches 63 = .ok (.aload_n 0, 1) := by decide +kernel
theorem dX1_matches_64 : decode cX1_matches 64 = .ok (.getfield 13, 3) := by decide +kernel
theorem dX1_matches_67 : decode cX1_matches 67 = .ok (.iload_n 1, 1) := by decide +kernel
theorem dX1_matches_68 : decode cX1_matches 68 = .ok (.iaload, 1) := by decide +kernel
theorem dX1_matches_69 : decode cX1_matches 69 = .ok (.bipush 32, 2) := by decide +kernel
theorem dX1_matches_71 : decode cX1_matches 71 = .ok (.irem, 1) := by decide +kernel
theorem dX1_matches_72 : decode cX1_matches 72 = .ok (.if_icmp .gt 7, 3) := by decide +kernel
theorem dX1_matches_75 : decode cX1_matches 75 = .ok (.iconst 1, 1) := by decide +kernel
theorem dX1_matches_76 : decode cX1_matches 76 = .ok (.goto 4, 3) := by decide +kernel
theorem dX1_matches_79 : decode cX1_matches 79 = .ok (.iconst 0, 1) := by decide +kernel
theorem dX1_matches_80 : decode cX1_matches 80 = .ok (.istore 6, 2) := by decide +kernel
theorem dX1_matches_82 : decode cX1_matches 82 = .ok (.iload 5, 2) := by decide +kernel
theorem dX1_matches_84 : decode cX1_matches 84 = .ok (.ifCond .eq 28, 3) := by decide +kernel
theorem dX1_matches_87 : decode cX1_matches 87 = .ok (.iload 6, 2) := by decide +kernel
theorem dX1_matches_89 : decode cX1_matches 89 = .ok (.ifCond .eq 23, 3) := by decide +kernel
theorem dX1_matches_92 : decode cX1_matches 92 = .ok (.aload_n 0, 1) := by decide +kernel
theorem dX1_matches_93 : decode cX1_matches 93 = .ok (.getfield 16, 3) := by decide +kernel
theorem dX1_matches_96 : decode cX1_matches 96 = .ok (.iload_n 1, 1) := by decide +kernel
theorem dX1_matches_97 : decode cX1_matches 97 = .ok (.iaload, 1) := by decide +kernel
theorem dX1_matches_98 : decode cX1_matches 98 = .ok (.iload_n 2, 1) := by decide +kernel
theorem dX1_matches_99 : decode cX1_matches 99 = .ok (.iconst 4, 1) := by decide +kernel
theorem dX1_matches_100 : decode cX1_matches 100 = .ok (.irem, 1) := by decide +kernel
theorem dX1_matches_101 : decode cX1_matches 101 = .ok (.ishr, 1) := by decide +kernel
theorem dX1_matches_102 : decode cX1_matches 102 = .ok (.iconst 1, 1) := by decide +kernel
theorem dX1_matches_103 : decode cX1_matches 103 = .ok (.iand, 1) := by decide +kernel
theorem dX1_matches_104 : decode cX1_matches 104 = .ok (.iconst 1, 1) := by decide +kernel
theorem dX1_matches_105 : decode cX1_matches 105 = .ok (.if_icmp .ne 7, 3) := by decide +kernel
theorem dX1_matches_108 : decode cX1_matches 108 = .ok (.iconst 1, 1) := by decide +kernel
theorem dX1_matches_109 : decode cX1_matches 109 = .ok (.goto 4, 3) := by decide +kernel
theorem dX1_matches_112 : decode cX1_matches 112 = .ok (.iconst 0, 1) := by decide +kernel
theorem dX1_matches_113 : decode cX1_matches 113 = .ok (.ireturn, 1) := by decide +kernel
abbrev cX1_action : ByteArray := prog_3_method_14_code
def yX1_action : MethodName := ⟨RX1, "action", "(III)I"⟩
theorem dX1_action_0 : decode cX1_action 0 = .ok (.aload_n 0, 1) := by decide +kernel
theorem dX1_action_1 : decode cX1_action 1 = .ok (.iload_n 1, 1) := by decide +kernel
theorem dX1_action_2 : decode cX1_action 2 = .ok (.iload_n 2, 1) := by decide +kernel
theorem dX1_action_3 : decode cX1_action 3 = .ok (.iload_n 3, 1) := by decide +kernel
theorem dX1_action_4 : decode cX1_action 4 = .ok (.invokevirtual 58, 3) := by decide +kernel
theorem dX1_action_7 : decode cX1_action 7 = .ok (.istore 4, 2) := by decide +kernel
theorem dX1_action_9 : decode cX1_action 9 = .ok (.iload 4, 2) := by decide +kernel
theorem dX1_action_11 : decode cX1_action 11 = .ok (.bipush (-2), 2) := by decide +kernel
theorem dX1_action_13 : decode cX1_action 13 = .ok (.if_icmp .ne 8, 3) := by decide +kernel
theorem dX1_action_16 : decode cX1_action 16 = .ok (.bipush (-2), 2) := by decide +kernel
theorem dX1_action_18 : decode cX1_action 18 = .ok (.goto 9, 3) := by decide +kernel
theorem dX1_action_21 : decode cX1_action 21 = .ok (.aload_n 0, 1) := by decide +kernel
theorem dX1_action_22 : decode cX1_action 22 = .ok (.iload 4, 2) := by decide +kernel
theorem dX1_action_24 : decode cX1_action 24 = .ok (.invokevirtual 62, 3) := by decide +kernel
theorem dX1_action_27 : decode cX1_action 27 = .ok (.ireturn, 1) := by decide +kernel
abbrev cX1_actionOf : ByteArray := prog_3_method_11_code
def yX1_actionOf : MethodName := ⟨RX1, "actionOf", "(I)I"⟩
theorem dX1_actionOf_0 : decode cX1_actionOf 0 = .ok (.iload_n 1, 1) := by decide +kernel
theorem dX1_actionOf_1 : decode cX1_actionOf 1 = .ok (.ifCond .ge 10, 3) := by decide +kernel
theorem dX1_actionOf_4 : decode cX1_actionOf 4 = .ok (.aload_n 0, 1) := by decide +kernel
theorem dX1_actionOf_5 : decode cX1_actionOf 5 = .ok (.getfield 43, 3) := by decide +kernel
theorem dX1_actionOf_8 : decode cX1_actionOf 8 = .ok (.goto 12, 3) := by decide +kernel
theorem dX1_actionOf_11 : decode cX1_actionOf 11 = .ok (.aload_n 0, 1) := by decide +kernel
theorem dX1_actionOf_12 : decode cX1_actionOf 12 = .ok (.getfield 16, 3) := by decide +kernel
theorem dX1_actionOf_15 : decode cX1_actionOf 15 = .ok (.iload_n 1, 1) := by decide +kernel
theorem dX1_actionOf_16 : decode cX1_actionOf 16 = .ok (.iaload, 1) := by decide +kernel
theorem dX1_actionOf_17 : decode cX1_actionOf 17 = .ok (.bipush 16, 2) := by decide +kernel
theorem dX1_actionOf_19 : decode cX1_actionOf 19 = .ok (.idiv, 1) := by decide +kernel
theorem dX1_actionOf_20 : decode cX1_actionOf 20 = .ok (.ireturn, 1) := by decide +kernel
abbrev cX1_decided : ByteArray := prog_3_method_15_code
def yX1_decided : MethodName := ⟨RX1, "decided", "(I)I"⟩
theorem dX1_decided_0 : decode cX1_decided 0 = .ok (.iload_n 1, 1) := by decide +kernel
theorem dX1_decided_1 : decode cX1_decided 1 = .ok (.iconst (-1), 1) := by decide +kernel
theorem dX1_decided_2 : decode cX1_decided 2 = .ok (.if_icmp .eq 14, 3) := by decide +kernel
theorem dX1_decided_5 : decode cX1_decided 5 = .ok (.aload_n 0, 1) := by decide +kernel
theorem dX1_decided_6 : decode cX1_decided 6 = .ok (.iload_n 1, 1) := by decide +kernel
theorem dX1_decided_7 : decode cX1_decided 7 = .ok (.invokevirtual 31, 3) := by decide +kernel
theorem dX1_decided_10 : decode cX1_decided 10 = .ok (.ifCond .eq 6, 3) := by decide +kernel
theorem dX1_decided_13 : decode cX1_decided 13 = .ok (.bipush (-2), 2) := by decide +kernel
theorem dX1_decided_15 : decode cX1_decided 15 = .ok (.ireturn, 1) := by decide +kernel
theorem dX1_decided_16 : decode cX1_decided 16 = .ok (.iconst 0, 1) := by decide +kernel
theorem dX1_decided_17 : decode cX1_decided 17 = .ok (.istore_n 2, 1) := by decide +kernel
theorem dX1_decided_18 : decode cX1_decided 18 = .ok (.iconst 0, 1) := by decide +kernel
theorem dX1_decided_19 : decode cX1_decided 19 = .ok (.istore_n 3, 1) := by decide +kernel
theorem dX1_decided_20 : decode cX1_decided 20 = .ok (.iload_n 3, 1) := by decide +kernel
theorem dX1_decided_21 : decode cX1_decided 21 = .ok (.sipush 4096, 3) := by decide +kernel
theorem dX1_decided_24 : decode cX1_decided 24 = .ok (.if_icmp .ge 22, 3) := by decide +kernel
theorem dX1_decided_27 : decode cX1_decided 27 = .ok (.aload_n 0, 1) := by decide +kernel
theorem dX1_decided_28 : decode cX1_decided 28 = .ok (.iload_n 3, 1) := by decide +kernel
theorem dX1_decided_29 : decode cX1_decided 29 = .ok (.iconst (-1), 1) := by decide +kernel
theorem dX1_decided_30 : decode cX1_decided 30 = .ok (.invokevirtual 54, 3) := by decide +kernel
theorem dX1_decided_33 : decode cX1_decided 33 = .ok (.iload_n 1, 1) := by decide +kernel
theorem dX1_decided_34 : decode cX1_decided 34 = .ok (.if_icmp .ne 6, 3) := by decide +kernel
theorem dX1_decided_37 : decode cX1_decided 37 = .ok (.iinc 2 1, 3) := by decide +kernel
theorem dX1_decided_40 : decode cX1_decided 40 = .ok (.iinc 3 1, 3) := by decide +kernel
theorem dX1_decided_43 : decode cX1_decided 43 = .ok (.goto (-23), 3) := by decide +kernel
theorem dX1_decided_46 : decode cX1_decided 46 = .ok (.iload_n 2, 1) := by decide +kernel
theorem dX1_decided_47 : decode cX1_decided 47 = .ok (.ireturn, 1) := by decide +kernel
abbrev cX1_having : ByteArray := prog_3_method_16_code
def yX1_having : MethodName := ⟨RX1, "having", "(I)I"⟩
theorem dX1_having_0 : decode cX1_having 0 = .ok (.iconst 0, 1) := by decide +kernel
theorem dX1_having_1 : decode cX1_having 1 = .ok (.istore_n 2, 1) := by decide +kernel
theorem dX1_having_2 : decode cX1_having 2 = .ok (.iconst 0, 1) := by decide +kernel
theorem dX1_having_3 : decode cX1_having 3 = .ok (.istore_n 3, 1) := by decide +kernel
theorem dX1_having_4 : decode cX1_having 4 = .ok (.iload_n 3, 1) := by decide +kernel
theorem dX1_having_5 : decode cX1_having 5 = .ok (.sipush 4096, 3) := by decide +kernel
theorem dX1_having_8 : decode cX1_having 8 = .ok (.if_icmp .ge 32, 3) := by decide +kernel
theorem dX1_having_11 : decode cX1_having 11 = .ok (.aload_n 0, 1) := by decide +kernel
theorem dX1_having_12 : decode cX1_having 12 = .ok (.iload_n 3, 1) := by decide +kernel
theorem dX1_having_13 : decode cX1_having 13 = .ok (.iconst (-1), 1) := by decide +kernel
theorem dX1_having_14 : decode cX1_having 14 = .ok (.invokevirtual 54, 3) := by decide +kernel
theorem dX1_having_17 : decode cX1_having 17 = .ok (.istore 4, 2) := by decide +kernel
theorem dX1_having_19 : decode cX1_having 19 = .ok (.aload_n 0, 1) := by decide +kernel
theorem dX1_having_20 : decode cX1_having 20 = .ok (.iload 4, 2) := by decide +kernel
theorem dX1_having_22 : decode cX1_having 22 = .ok (.invokevirtual 62, 3) := by decide +kernel
theorem dX1_having_25 : decode cX1_having 25 = .ok (.iload_n 1, 1) := by decide +kernel
theorem dX1_having_26 : decode cX1_having 26 = .ok (.iconst 3, 1) := by decide +kernel
theorem dX1_having_27 : decode cX1_having 27 = .ok (.iand, 1) := by decide +kernel
theorem dX1_having_28 : decode cX1_having 28 = .ok (.if_icmp .ne 6, 3) := by decide +kernel
theorem dX1_having_31 : decode cX1_having 31 = .ok (.iinc 2 1, 3) := by decide +kernel
theorem dX1_having_34 : decode cX1_having 34 = .ok (.iinc 3 1, 3) := by decide +kernel
theorem dX1_having_37 : decode cX1_having 37 = .ok (.goto (-33), 3) := by decide +kernel
theorem dX1_having_40 : decode cX1_having 40 = .ok (.iload_n 2, 1) := by decide +kernel
theorem dX1_having_41 : decode cX1_having 41 = .ok (.ireturn, 1) := by decide +kernel
abbrev cX1_use : ByteArray := prog_3_method_17_code
def yX1_use : MethodName := ⟨RX1, "use", "(I)I"⟩
theorem dX1_use_0 : decode cX1_use 0 = .ok (.aload_n 0, 1) := by decide +kernel
theorem dX1_use_1 : decode cX1_use 1 = .ok (.iload_n 1, 1) := by decide +kernel
theorem dX1_use_2 : decode cX1_use 2 = .ok (.invokevirtual 31, 3) := by decide +kernel
theorem dX1_use_5 : decode cX1_use 5 = .ok (.ifCond .eq 6, 3) := by decide +kernel
theorem dX1_use_8 : decode cX1_use 8 = .ok (.bipush (-2), 2) := by decide +kernel
theorem dX1_use_10 : decode cX1_use 10 = .ok (.ireturn, 1) := by decide +kernel
theorem dX1_use_11 : decode cX1_use 11 = .ok (.iconst 1, 1) := by decide +kernel
theorem dX1_use_12 : decode cX1_use 12 = .ok (.istore_n 2, 1) := by decide +kernel
theorem dX1_use_13 : decode cX1_use 13 = .ok (.iconst 0, 1) := by decide +kernel
theorem dX1_use_14 : decode cX1_use 14 = .ok (.istore_n 3, 1) := by decide +kernel
theorem dX1_use_15 : decode cX1_use 15 = .ok (.iload_n 3, 1) := by decide +kernel
theorem dX1_use_16 : decode cX1_use 16 = .ok (.sipush 4096, 3) := by decide +kernel
theorem dX1_use_19 : decode cX1_use 19 = .ok (.if_icmp .ge 45, 3) := by decide +kernel
theorem dX1_use_22 : decode cX1_use 22 = .ok (.aload_n 0, 1) := by decide +kernel
theorem dX1_use_23 : decode cX1_use 23 = .ok (.iload_n 3, 1) := by decide +kernel
theorem dX1_use_24 : decode cX1_use 24 = .ok (.iconst (-1), 1) := by decide +kernel
theorem dX1_use_25 : decode cX1_use 25 = .ok (.invokevirtual 54, 3) := by decide +kernel
theorem dX1_use_28 : decode cX1_use 28 = .ok (.iload_n 1, 1) := by decide +kernel
theorem dX1_use_29 : decode cX1_use 29 = .ok (.if_icmp .ne 29, 3) := by decide +kernel
theorem dX1_use_32 : decode cX1_use 32 = .ok (.iconst 0, 1) := by decide +kernel
theorem dX1_use_33 : decode cX1_use 33 = .ok (.istore_n 2, 1) := by decide +kernel
theorem dX1_use_34 : decode cX1_use 34 = .ok (.aload_n 0, 1) := by decide +kernel
theorem dX1_use_35 : decode cX1_use 35 = .ok (.iload_n 3, 1) := by decide +kernel
theorem dX1_use_36 : decode cX1_use 36 = .ok (.iload_n 1, 1) := by decide +kernel
theorem dX1_use_37 : decode cX1_use 37 = .ok (.invokevirtual 54, 3) := by decide +kernel
theorem dX1_use_40 : decode cX1_use 40 = .ok (.istore 4, 2) := by decide +kernel
theorem dX1_use_42 : decode cX1_use 42 = .ok (.aload_n 0, 1) := by decide +kernel
theorem dX1_use_43 : decode cX1_use 43 = .ok (.iload 4, 2) := by decide +kernel
theorem dX1_use_45 : decode cX1_use 45 = .ok (.invokevirtual 62, 3) := by decide +kernel
theorem dX1_use_48 : decode cX1_use 48 = .ok (.aload_n 0, 1) := by decide +kernel
theorem dX1_use_49 : decode cX1_use 49 = .ok (.iload_n 1, 1) := by decide +kernel
theorem dX1_use_50 : decode cX1_use 50 = .ok (.invokevirtual 62, 3) := by decide +kernel
theorem dX1_use_53 : decode cX1_use 53 = .ok (.if_icmp .eq 5, 3) := by decide +kernel
theorem dX1_use_56 : decode cX1_use 56 = .ok (.iconst 0, 1) := by decide +kernel
theorem dX1_use_57 : decode cX1_use 57 = .ok (.ireturn, 1) := by decide +kernel
theorem dX1_use_58 : decode cX1_use 58 = .ok (.iinc 3 1, 3) := by decide +kernel
theorem dX1_use_61 : decode cX1_use 61 = .ok (.goto (-46), 3) := by decide +kernel
theorem dX1_use_64 : decode cX1_use 64 = .ok (.iload_n 2, 1) := by decide +kernel
theorem dX1_use_65 : decode cX1_use 65 = .ok (.ifCond .eq 7, 3) := by decide +kernel
theorem dX1_use_68 : decode cX1_use 68 = .ok (.iconst 1, 1) := by decide +kernel
theorem dX1_use_69 : decode cX1_use 69 = .ok (.goto 4, 3) := by decide +kernel
theorem dX1_use_72 : decode cX1_use 72 = .ok (.iconst 2, 1) := by decide +kernel
theorem dX1_use_73 : decode cX1_use 73 = .ok (.ireturn, 1) := by decide +kernel
abbrev cX1_witness : ByteArray := prog_3_method_18_code
def yX1_witness : MethodName := ⟨RX1, "witness", "(I)I"⟩
theorem dX1_witness_0 : decode cX1_witness 0 = .ok (.iload_n 1, 1) := by decide +kernel
theorem dX1_witness_1 : decode cX1_witness 1 = .ok (.iconst (-1), 1) := by decide +kernel
theorem dX1_witness_2 : decode cX1_witness 2 = .ok (.if_icmp .eq 14, 3) := by decide +kernel
theorem dX1_witness_5 : decode cX1_witness 5 = .ok (.aload_n 0, 1) := by decide +kernel
theorem dX1_witness_6 : decode cX1_witness 6 = .ok (.iload_n 1, 1) := by decide +kernel
theorem dX1_witness_7 : decode cX1_witness 7 = .ok (.invokevirtual 31, 3) := by decide +kernel
theorem dX1_witness_10 : decode cX1_witness 10 = .ok (.ifCond .eq 6, 3) := by decide +kernel
theorem dX1_witness_13 : decode cX1_witness 13 = .ok (.bipush (-2), 2) := by decide +kernel
theorem dX1_witness_15 : decode cX1_witness 15 = .ok (.ireturn, 1) := by decide +kernel
theorem dX1_witness_16 : decode cX1_witness 16 = .ok (.iconst 0, 1) := by decide +kernel
theorem dX1_witness_17 : decode cX1_witness 17 = .ok (.istore_n 2, 1) := by decide +kernel
theorem dX1_witness_18 : decode cX1_witness 18 = .ok (.iload_n 2, 1) := by decide +kernel
theorem dX1_witness_19 : decode cX1_witness 19 = .ok (.sipush 4096, 3) := by decide +kernel
theorem dX1_witness_22 : decode cX1_witness 22 = .ok (.if_icmp .ge 21, 3) := by decide +kernel
theorem dX1_witness_25 : decode cX1_witness 25 = .ok (.aload_n 0, 1) := by decide +kernel
theorem dX1_witness_26 : decode cX1_witness 26 = .ok (.iload_n 2, 1) := by decide +kernel
theorem dX1_witness_27 : decode cX1_witness 27 = .ok (.iconst (-1), 1) := by decide +kernel
theorem dX1_witness_28 : decode cX1_witness 28 = .ok (.invokevirtual 54, 3) := by decide +kernel
theorem dX1_witness_31 : decode cX1_witness 31 = .ok (.iload_n 1, 1) := by decide +kernel
theorem dX1_witness_32 : decode cX1_witness 32 = .ok (.if_icmp .ne 5, 3) := by decide +kernel
theorem dX1_witness_35 : decode cX1_witness 35 = .ok (.iload_n 2, 1) := by decide +kernel
theorem dX1_witness_36 : decode cX1_witness 36 = .ok (.ireturn, 1) := by decide +kernel
theorem dX1_witness_37 : decode cX1_witness 37 = .ok (.iinc 2 1, 3) := by decide +kernel
theorem dX1_witness_40 : decode cX1_witness 40 = .ok (.goto (-22), 3) := by decide +kernel
theorem dX1_witness_43 : decode cX1_witness 43 = .ok (.iconst (-1), 1) := by decide +kernel
theorem dX1_witness_44 : decode cX1_witness 44 = .ok (.ireturn, 1) := by decide +kernel
theorem q18 : (Jvm.Cond.initialized "PolicyTableModel") ∈ lw_all := lw_g (lw_at lw_m0 2 rfl) rfl
theorem q164 : (Jvm.Cond.instantiable "PolicyTableModel" (5 : Nat)) ∈ lw_all := lw_g (lw_at lw_m0 148 rfl) rfl
theorem q166 : (Jvm.Cond.instanceMethod ({ cls := "PolicyTableModel", name := "<init>", desc := "()V" } : Jvm.MethodName)) ∈ lw_all := lw_g (lw_at lw_m0 150 rfl) rfl
theorem q167 : (Jvm.Cond.code ({ cls := "PolicyTableModel", name := "<init>", desc := "()V" } : Jvm.MethodName) prog_3_method_1_code (1 : Nat) (Option.none : Option Jvm.ClassFile.FieldType)) ∈ lw_all := lw_g (lw_at lw_m0 151 rfl) rfl
theorem q168 : (Jvm.Cond.methodLink "PolicyTableModel" (1 : Nat) ({ cls := "java/lang/Object", name := "<init>", desc := "()V" } : Jvm.MethodName)) ∈ lw_all := lw_g (lw_at lw_m0 152 rfl) rfl
theorem q169 : (Jvm.Cond.fieldLink "PolicyTableModel" (19 : Nat) "PolicyTableModel" "rules" "I") ∈ lw_all := lw_g (lw_at lw_m0 153 rfl) rfl
theorem q170 : (Jvm.Cond.fieldLink "PolicyTableModel" (7 : Nat) "PolicyTableModel" "sources" "[I") ∈ lw_all := lw_g (lw_at lw_m0 154 rfl) rfl
theorem q171 : (Jvm.Cond.fieldLink "PolicyTableModel" (13 : Nat) "PolicyTableModel" "destinations" "[I") ∈ lw_all := lw_g (lw_at lw_m0 155 rfl) rfl
theorem q172 : (Jvm.Cond.fieldLink "PolicyTableModel" (16 : Nat) "PolicyTableModel" "kinds" "[I") ∈ lw_all := lw_g (lw_at lw_m0 156 rfl) rfl
theorem q173 : (Jvm.Cond.fieldLink "PolicyTableModel" (43 : Nat) "PolicyTableModel" "byDefault" "I") ∈ lw_all := lw_g (lw_at lw_m0 157 rfl) rfl
theorem q174 : (Jvm.Cond.lays "PolicyTableModel" "PolicyTableModel" "rules" "I") ∈ lw_all := lw_g (lw_at lw_m0 158 rfl) rfl
theorem q175 : (Jvm.Cond.soleField "PolicyTableModel" "rules") ∈ lw_all := lw_g (lw_at lw_m0 159 rfl) rfl
theorem q176 : (Jvm.Cond.laysFinal "PolicyTableModel" "PolicyTableModel" "sources" "[I") ∈ lw_all := lw_g (lw_at lw_m0 160 rfl) rfl
theorem q177 : (Jvm.Cond.soleField "PolicyTableModel" "sources") ∈ lw_all := lw_g (lw_at lw_m0 161 rfl) rfl
theorem q178 : (Jvm.Cond.laysFinal "PolicyTableModel" "PolicyTableModel" "destinations" "[I") ∈ lw_all := lw_g (lw_at lw_m0 162 rfl) rfl
theorem q179 : (Jvm.Cond.soleField "PolicyTableModel" "destinations") ∈ lw_all := lw_g (lw_at lw_m0 163 rfl) rfl
theorem q180 : (Jvm.Cond.laysFinal "PolicyTableModel" "PolicyTableModel" "kinds" "[I") ∈ lw_all := lw_g (lw_at lw_m0 164 rfl) rfl
theorem q181 : (Jvm.Cond.soleField "PolicyTableModel" "kinds") ∈ lw_all := lw_g (lw_at lw_m0 165 rfl) rfl
theorem q182 : (Jvm.Cond.lays "PolicyTableModel" "PolicyTableModel" "byDefault" "I") ∈ lw_all := lw_g (lw_at lw_m0 166 rfl) rfl
theorem q183 : (Jvm.Cond.soleField "PolicyTableModel" "byDefault") ∈ lw_all := lw_g (lw_at lw_m0 167 rfl) rfl
theorem q184 : (Jvm.Cond.superclass "PolicyTableModel" "java/lang/Object") ∈ lw_all := lw_g (lw_at lw_m0 168 rfl) rfl
theorem q186 : (Jvm.Cond.instanceMethod ({ cls := "PolicyTableModel", name := "insert", desc := "(IIII)I" } : Jvm.MethodName)) ∈ lw_all := lw_g (lw_at lw_m0 170 rfl) rfl
theorem q187 : (Jvm.Cond.selects "PolicyTableModel" ({ cls := "PolicyTableModel", name := "insert", desc := "(IIII)I" } : Jvm.MethodName) ({ cls := "PolicyTableModel", name := "insert", desc := "(IIII)I" } : Jvm.MethodName)) ∈ lw_all := lw_g (lw_at lw_m0 171 rfl) rfl
theorem q188 : (Jvm.Cond.code ({ cls := "PolicyTableModel", name := "insert", desc := "(IIII)I" } : Jvm.MethodName) prog_3_method_4_code (6 : Nat) (Option.some Jvm.ClassFile.FieldType.int)) ∈ lw_all := lw_g (lw_at lw_m0 172 rfl) rfl
theorem q189 : (Jvm.Cond.methodLink "PolicyTableModel" (23 : Nat) ({ cls := "PolicyTableModel", name := "copy", desc := "(II)V" } : Jvm.MethodName)) ∈ lw_all := lw_g (lw_at lw_m0 173 rfl) rfl
theorem q190 : (Jvm.Cond.privateMethod ({ cls := "PolicyTableModel", name := "copy", desc := "(II)V" } : Jvm.MethodName)) ∈ lw_tbl := lw_at lw_m0 174 rfl
theorem q191 : (Jvm.Cond.instanceMethod ({ cls := "PolicyTableModel", name := "copy", desc := "(II)V" } : Jvm.MethodName)) ∈ lw_all := lw_g (lw_at lw_m0 175 rfl) rfl
theorem q192 : (Jvm.Cond.code ({ cls := "PolicyTableModel", name := "copy", desc := "(II)V" } : Jvm.MethodName) prog_3_method_2_code (3 : Nat) (Option.none : Option Jvm.ClassFile.FieldType)) ∈ lw_all := lw_g (lw_at lw_m0 176 rfl) rfl
theorem q193 : (Jvm.Cond.methodLink "PolicyTableModel" (27 : Nat) ({ cls := "PolicyTableModel", name := "write", desc := "(IIII)V" } : Jvm.MethodName)) ∈ lw_all := lw_g (lw_at lw_m0 177 rfl) rfl
theorem q194 : (Jvm.Cond.privateMethod ({ cls := "PolicyTableModel", name := "write", desc := "(IIII)V" } : Jvm.MethodName)) ∈ lw_tbl := lw_at lw_m0 178 rfl
theorem q195 : (Jvm.Cond.instanceMethod ({ cls := "PolicyTableModel", name := "write", desc := "(IIII)V" } : Jvm.MethodName)) ∈ lw_all := lw_g (lw_at lw_m0 179 rfl) rfl
theorem q196 : (Jvm.Cond.code ({ cls := "PolicyTableModel", name := "write", desc := "(IIII)V" } : Jvm.MethodName) prog_3_method_3_code (5 : Nat) (Option.none : Option Jvm.ClassFile.FieldType)) ∈ lw_all := lw_g (lw_at lw_m0 180 rfl) rfl
theorem q198 : (Jvm.Cond.instanceMethod ({ cls := "PolicyTableModel", name := "remove", desc := "(I)I" } : Jvm.MethodName)) ∈ lw_all := lw_g (lw_at lw_m0 182 rfl) rfl
theorem q199 : (Jvm.Cond.selects "PolicyTableModel" ({ cls := "PolicyTableModel", name := "remove", desc := "(I)I" } : Jvm.MethodName) ({ cls := "PolicyTableModel", name := "remove", desc := "(I)I" } : Jvm.MethodName)) ∈ lw_all := lw_g (lw_at lw_m0 183 rfl) rfl
theorem q200 : (Jvm.Cond.code ({ cls := "PolicyTableModel", name := "remove", desc := "(I)I" } : Jvm.MethodName) prog_3_method_6_code (3 : Nat) (Option.some Jvm.ClassFile.FieldType.int)) ∈ lw_all := lw_g (lw_at lw_m0 184 rfl) rfl
theorem q201 : (Jvm.Cond.methodLink "PolicyTableModel" (31 : Nat) ({ cls := "PolicyTableModel", name := "missing", desc := "(I)Z" } : Jvm.MethodName)) ∈ lw_all := lw_g (lw_at lw_m0 185 rfl) rfl
theorem q202 : (Jvm.Cond.privateMethod ({ cls := "PolicyTableModel", name := "missing", desc := "(I)Z" } : Jvm.MethodName)) ∈ lw_tbl := lw_at lw_m0 186 rfl
theorem q203 : (Jvm.Cond.instanceMethod ({ cls := "PolicyTableModel", name := "missing", desc := "(I)Z" } : Jvm.MethodName)) ∈ lw_all := lw_g (lw_at lw_m0 187 rfl) rfl
theorem q204 : (Jvm.Cond.code ({ cls := "PolicyTableModel", name := "missing", desc := "(I)Z" } : Jvm.MethodName) prog_3_method_5_code (2 : Nat) (Option.some Jvm.ClassFile.FieldType.boolean)) ∈ lw_all := lw_g (lw_at lw_m0 188 rfl) rfl
theorem q206 : (Jvm.Cond.instanceMethod ({ cls := "PolicyTableModel", name := "shift", desc := "(II)I" } : Jvm.MethodName)) ∈ lw_all := lw_g (lw_at lw_m0 190 rfl) rfl
theorem q207 : (Jvm.Cond.selects "PolicyTableModel" ({ cls := "PolicyTableModel", name := "shift", desc := "(II)I" } : Jvm.MethodName) ({ cls := "PolicyTableModel", name := "shift", desc := "(II)I" } : Jvm.MethodName)) ∈ lw_all := lw_g (lw_at lw_m0 191 rfl) rfl
theorem q208 : (Jvm.Cond.code ({ cls := "PolicyTableModel", name := "shift", desc := "(II)I" } : Jvm.MethodName) prog_3_method_7_code (6 : Nat) (Option.some Jvm.ClassFile.FieldType.int)) ∈ lw_all := lw_g (lw_at lw_m0 192 rfl) rfl
theorem q209 : (Jvm.Cond.methodLink "PolicyTableModel" (35 : Nat) ({ cls := "PolicyTableModel", name := "remove", desc := "(I)I" } : Jvm.MethodName)) ∈ lw_all := lw_g (lw_at lw_m0 193 rfl) rfl
theorem q210 : (Jvm.Cond.methodLink "PolicyTableModel" (39 : Nat) ({ cls := "PolicyTableModel", name := "insert", desc := "(IIII)I" } : Jvm.MethodName)) ∈ lw_all := lw_g (lw_at lw_m0 194 rfl) rfl
theorem q212 : (Jvm.Cond.instanceMethod ({ cls := "PolicyTableModel", name := "otherwise", desc := "(I)I" } : Jvm.MethodName)) ∈ lw_all := lw_g (lw_at lw_m0 196 rfl) rfl
theorem q213 : (Jvm.Cond.selects "PolicyTableModel" ({ cls := "PolicyTableModel", name := "otherwise", desc := "(I)I" } : Jvm.MethodName) ({ cls := "PolicyTableModel", name := "otherwise", desc := "(I)I" } : Jvm.MethodName)) ∈ lw_all := lw_g (lw_at lw_m0 197 rfl) rfl
theorem q214 : (Jvm.Cond.code ({ cls := "PolicyTableModel", name := "otherwise", desc := "(I)I" } : Jvm.MethodName) prog_3_method_8_code (3 : Nat) (Option.some Jvm.ClassFile.FieldType.int)) ∈ lw_all := lw_g (lw_at lw_m0 198 rfl) rfl
theorem q216 : (Jvm.Cond.instanceMethod ({ cls := "PolicyTableModel", name := "decide", desc := "(III)I" } : Jvm.MethodName)) ∈ lw_all := lw_g (lw_at lw_m0 200 rfl) rfl
theorem q217 : (Jvm.Cond.selects "PolicyTableModel" ({ cls := "PolicyTableModel", name := "decide", desc := "(III)I" } : Jvm.MethodName) ({ cls := "PolicyTableModel", name := "decide", desc := "(III)I" } : Jvm.MethodName)) ∈ lw_all := lw_g (lw_at lw_m0 201 rfl) rfl
theorem q218 : (Jvm.Cond.code ({ cls := "PolicyTableModel", name := "decide", desc := "(III)I" } : Jvm.MethodName) prog_3_method_13_code (4 : Nat) (Option.some Jvm.ClassFile.FieldType.int)) ∈ lw_all := lw_g (lw_at lw_m0 202 rfl) rfl
theorem q219 : (Jvm.Cond.methodLink "PolicyTableModel" (50 : Nat) ({ cls := "PolicyTableModel", name := "noPacket", desc := "(III)Z" } : Jvm.MethodName)) ∈ lw_all := lw_g (lw_at lw_m0 203 rfl) rfl
theorem q220 : (Jvm.Cond.static ({ cls := "PolicyTableModel", name := "noPacket", desc := "(III)Z" } : Jvm.MethodName)) ∈ lw_all := lw_g (lw_at lw_m0 204 rfl) rfl
theorem q221 : (Jvm.Cond.code ({ cls := "PolicyTableModel", name := "noPacket", desc := "(III)Z" } : Jvm.MethodName) prog_3_method_12_code (3 : Nat) (Option.some Jvm.ClassFile.FieldType.boolean)) ∈ lw_all := lw_g (lw_at lw_m0 205 rfl) rfl
theorem q222 : (Jvm.Cond.methodLink "PolicyTableModel" (54 : Nat) ({ cls := "PolicyTableModel", name := "deciding", desc := "(II)I" } : Jvm.MethodName)) ∈ lw_all := lw_g (lw_at lw_m0 206 rfl) rfl
theorem q223 : (Jvm.Cond.privateMethod ({ cls := "PolicyTableModel", name := "deciding", desc := "(II)I" } : Jvm.MethodName)) ∈ lw_tbl := lw_at lw_m0 207 rfl
theorem q224 : (Jvm.Cond.instanceMethod ({ cls := "PolicyTableModel", name := "deciding", desc := "(II)I" } : Jvm.MethodName)) ∈ lw_all := lw_g (lw_at lw_m0 208 rfl) rfl
theorem q225 : (Jvm.Cond.code ({ cls := "PolicyTableModel", name := "deciding", desc := "(II)I" } : Jvm.MethodName) prog_3_method_10_code (4 : Nat) (Option.some Jvm.ClassFile.FieldType.int)) ∈ lw_all := lw_g (lw_at lw_m0 209 rfl) rfl
theorem q226 : (Jvm.Cond.methodLink "PolicyTableModel" (46 : Nat) ({ cls := "PolicyTableModel", name := "matches", desc := "(II)Z" } : Jvm.MethodName)) ∈ lw_all := lw_g (lw_at lw_m0 210 rfl) rfl
theorem q227 : (Jvm.Cond.privateMethod ({ cls := "PolicyTableModel", name := "matches", desc := "(II)Z" } : Jvm.MethodName)) ∈ lw_tbl := lw_at lw_m0 211 rfl
theorem q228 : (Jvm.Cond.instanceMethod ({ cls := "PolicyTableModel", name := "matches", desc := "(II)Z" } : Jvm.MethodName)) ∈ lw_all := lw_g (lw_at lw_m0 212 rfl) rfl
theorem q229 : (Jvm.Cond.code ({ cls := "PolicyTableModel", name := "matches", desc := "(II)Z" } : Jvm.MethodName) prog_3_method_9_code (7 : Nat) (Option.some Jvm.ClassFile.FieldType.boolean)) ∈ lw_all := lw_g (lw_at lw_m0 213 rfl) rfl
theorem q231 : (Jvm.Cond.instanceMethod ({ cls := "PolicyTableModel", name := "action", desc := "(III)I" } : Jvm.MethodName)) ∈ lw_all := lw_g (lw_at lw_m0 215 rfl) rfl
theorem q232 : (Jvm.Cond.selects "PolicyTableModel" ({ cls := "PolicyTableModel", name := "action", desc := "(III)I" } : Jvm.MethodName) ({ cls := "PolicyTableModel", name := "action", desc := "(III)I" } : Jvm.MethodName)) ∈ lw_all := lw_g (lw_at lw_m0 216 rfl) rfl
theorem q233 : (Jvm.Cond.code ({ cls := "PolicyTableModel", name := "action", desc := "(III)I" } : Jvm.MethodName) prog_3_method_14_code (5 : Nat) (Option.some Jvm.ClassFile.FieldType.int)) ∈ lw_all := lw_g (lw_at lw_m0 217 rfl) rfl
theorem q234 : (Jvm.Cond.methodLink "PolicyTableModel" (58 : Nat) ({ cls := "PolicyTableModel", name := "decide", desc := "(III)I" } : Jvm.MethodName)) ∈ lw_all := lw_g (lw_at lw_m0 218 rfl) rfl
theorem q235 : (Jvm.Cond.methodLink "PolicyTableModel" (62 : Nat) ({ cls := "PolicyTableModel", name := "actionOf", desc := "(I)I" } : Jvm.MethodName)) ∈ lw_all := lw_g (lw_at lw_m0 219 rfl) rfl
theorem q236 : (Jvm.Cond.privateMethod ({ cls := "PolicyTableModel", name := "actionOf", desc := "(I)I" } : Jvm.MethodName)) ∈ lw_tbl := lw_at lw_m0 220 rfl
theorem q237 : (Jvm.Cond.instanceMethod ({ cls := "PolicyTableModel", name := "actionOf", desc := "(I)I" } : Jvm.MethodName)) ∈ lw_all := lw_g (lw_at lw_m0 221 rfl) rfl
theorem q238 : (Jvm.Cond.code ({ cls := "PolicyTableModel", name := "actionOf", desc := "(I)I" } : Jvm.MethodName) prog_3_method_11_code (2 : Nat) (Option.some Jvm.ClassFile.FieldType.int)) ∈ lw_all := lw_g (lw_at lw_m0 222 rfl) rfl
theorem q240 : (Jvm.Cond.instanceMethod ({ cls := "PolicyTableModel", name := "decided", desc := "(I)I" } : Jvm.MethodName)) ∈ lw_all := lw_g (lw_at lw_m0 224 rfl) rfl
theorem q241 : (Jvm.Cond.selects "PolicyTableModel" ({ cls := "PolicyTableModel", name := "decided", desc := "(I)I" } : Jvm.MethodName) ({ cls := "PolicyTableModel", name := "decided", desc := "(I)I" } : Jvm.MethodName)) ∈ lw_all := lw_g (lw_at lw_m0 225 rfl) rfl
theorem q242 : (Jvm.Cond.code ({ cls := "PolicyTableModel", name := "decided", desc := "(I)I" } : Jvm.MethodName) prog_3_method_15_code (4 : Nat) (Option.some Jvm.ClassFile.FieldType.int)) ∈ lw_all := lw_g (lw_at lw_m0 226 rfl) rfl
theorem q244 : (Jvm.Cond.instanceMethod ({ cls := "PolicyTableModel", name := "having", desc := "(I)I" } : Jvm.MethodName)) ∈ lw_all := lw_g (lw_at lw_m0 228 rfl) rfl
theorem q245 : (Jvm.Cond.selects "PolicyTableModel" ({ cls := "PolicyTableModel", name := "having", desc := "(I)I" } : Jvm.MethodName) ({ cls := "PolicyTableModel", name := "having", desc := "(I)I" } : Jvm.MethodName)) ∈ lw_all := lw_g (lw_at lw_m0 229 rfl) rfl
theorem q246 : (Jvm.Cond.code ({ cls := "PolicyTableModel", name := "having", desc := "(I)I" } : Jvm.MethodName) prog_3_method_16_code (5 : Nat) (Option.some Jvm.ClassFile.FieldType.int)) ∈ lw_all := lw_g (lw_at lw_m0 230 rfl) rfl
theorem q248 : (Jvm.Cond.instanceMethod ({ cls := "PolicyTableModel", name := "use", desc := "(I)I" } : Jvm.MethodName)) ∈ lw_all := lw_g (lw_at lw_m0 232 rfl) rfl
theorem q249 : (Jvm.Cond.selects "PolicyTableModel" ({ cls := "PolicyTableModel", name := "use", desc := "(I)I" } : Jvm.MethodName) ({ cls := "PolicyTableModel", name := "use", desc := "(I)I" } : Jvm.MethodName)) ∈ lw_all := lw_g (lw_at lw_m0 233 rfl) rfl
theorem q250 : (Jvm.Cond.code ({ cls := "PolicyTableModel", name := "use", desc := "(I)I" } : Jvm.MethodName) prog_3_method_17_code (5 : Nat) (Option.some Jvm.ClassFile.FieldType.int)) ∈ lw_all := lw_g (lw_at lw_m0 234 rfl) rfl
theorem q252 : (Jvm.Cond.instanceMethod ({ cls := "PolicyTableModel", name := "witness", desc := "(I)I" } : Jvm.MethodName)) ∈ lw_all := lw_g (lw_at lw_m0 236 rfl) rfl
theorem q253 : (Jvm.Cond.selects "PolicyTableModel" ({ cls := "PolicyTableModel", name := "witness", desc := "(I)I" } : Jvm.MethodName) ({ cls := "PolicyTableModel", name := "witness", desc := "(I)I" } : Jvm.MethodName)) ∈ lw_all := lw_g (lw_at lw_m0 237 rfl) rfl
theorem q254 : (Jvm.Cond.code ({ cls := "PolicyTableModel", name := "witness", desc := "(I)I" } : Jvm.MethodName) prog_3_method_18_code (3 : Nat) (Option.some Jvm.ClassFile.FieldType.int)) ∈ lw_all := lw_g (lw_at lw_m0 238 rfl) rfl
theorem in_X1 : ∀ w ∈ wsX10, w ∈ lw_all := lw_in wsX10 [174, 176, 178, 180, 182] (by decide +kernel) (by decide +kernel)
end
section
/-! the law's own entry -/
set_option maxRecDepth 100000
abbrev cL_law : ByteArray := code
theorem dL_law_0 : decode cL_law 0 = .ok (.new 7, 3) := by decide +kernel
theorem dL_law_3 : decode cL_law 3 = .ok (.dup, 1) := by decide +kernel
theorem dL_law_4 : decode cL_law 4 = .ok (.invokespecial 9, 3) := by decide +kernel
theorem dL_law_7 : decode cL_law 7 = .ok (.astore_n 1, 1) := by decide +kernel
theorem dL_law_8 : decode cL_law 8 = .ok (.new 10, 3) := by decide +kernel
theorem dL_law_11 : decode cL_law 11 = .ok (.dup, 1) := by decide +kernel
theorem dL_law_12 : decode cL_law 12 = .ok (.invokespecial 12, 3) := by decide +kernel
theorem dL_law_15 : decode cL_law 15 = .ok (.astore_n 2, 1) := by decide +kernel
theorem dL_law_16 : decode cL_law 16 = .ok (.iconst 0, 1) := by decide +kernel
theorem dL_law_17 : decode cL_law 17 = .ok (.istore_n 3, 1) := by decide +kernel
theorem dL_law_18 : decode cL_law 18 = .ok (.iload_n 3, 1) := by decide +kernel
theorem dL_law_19 : decode cL_law 19 = .ok (.aload_n 0, 1) := by decide +kernel
theorem dL_law_20 : decode cL_law 20 = .ok (.arraylength, 1) := by decide +kernel
theorem dL_law_21 : decode cL_law 21 = .ok (.iconst 5, 1) := by decide +kernel
theorem dL_law_22 : decode cL_law 22 = .ok (.isub, 1) := by decide +kernel
theorem dL_law_23 : decode cL_law 23 = .ok (.if_icmp .gt 381, 3) := by decide +kernel
theorem dL_law_26 : decode cL_law 26 = .ok (.aload_n 0, 1) := by decide +kernel
theorem dL_law_27 : decode cL_law 27 = .ok (.iload_n 3, 1) := by decide +kernel
theorem dL_law_28 : decode cL_law 28 = .ok (.iaload, 1) := by decide +kernel
theorem dL_law_29 : decode cL_law 29 = .ok (.bipush 15, 2) := by decide +kernel
theorem dL_law_31 : decode cL_law 31 = .ok (.iand, 1) := by decide +kernel
theorem dL_law_32 : decode cL_law 32 = .ok (.tableswitch 366 0 9 #[56, 109, 132, 165, 188, 231, 274, 297, 320, 343], 56) := by decide +kernel
theorem dL_law_88 : decode cL_law 88 = .ok (.aload_n 1, 1) := by decide +kernel
theorem dL_law_89 : decode cL_law 89 = .ok (.aload_n 0, 1) := by decide +kernel
theorem dL_law_90 : decode cL_law 90 = .ok (.iload_n 3, 1) := by decide +kernel
theorem dL_law_91 : decode cL_law 91 = .ok (.iconst 1, 1) := by decide +kernel
theorem dL_law_92 : decode cL_law 92 = .ok (.iadd, 1) := by decide +kernel
theorem dL_law_93 : decode cL_law 93 = .ok (.iaload, 1) := by decide +kernel
theorem dL_law_94 : decode cL_law 94 = .ok (.aload_n 0, 1) := by decide +kernel
theorem dL_law_95 : decode cL_law 95 = .ok (.iload_n 3, 1) := by decide +kernel
theorem dL_law_96 : decode cL_law 96 = .ok (.iconst 2, 1) := by decide +kernel
theorem dL_law_97 : decode cL_law 97 = .ok (.iadd, 1) := by decide +kernel
theorem dL_law_98 : decode cL_law 98 = .ok (.iaload, 1) := by decide +kernel
theorem dL_law_99 : decode cL_law 99 = .ok (.aload_n 0, 1) := by decide +kernel
theorem dL_law_100 : decode cL_law 100 = .ok (.iload_n 3, 1) := by decide +kernel
theorem dL_law_101 : decode cL_law 101 = .ok (.iconst 3, 1) := by decide +kernel
theorem dL_law_102 : decode cL_law 102 = .ok (.iadd, 1) := by decide +kernel
theorem dL_law_103 : decode cL_law 103 = .ok (.iaload, 1) := by decide +kernel
theorem dL_law_104 : decode cL_law 104 = .ok (.aload_n 0, 1) := by decide +kernel
theorem dL_law_105 : decode cL_law 105 = .ok (.iload_n 3, 1) := by decide +kernel
theorem dL_law_106 : decode cL_law 106 = .ok (.iconst 4, 1) := by decide +kernel
theorem dL_law_107 : decode cL_law 107 = .ok (.iadd, 1) := by decide +kernel
theorem dL_law_108 : decode cL_law 108 = .ok (.iaload, 1) := by decide +kernel
theorem dL_law_109 : decode cL_law 109 = .ok (.invokevirtual 13, 3) := by decide +kernel
theorem dL_law_112 : decode cL_law 112 = .ok (.aload_n 2, 1) := by decide +kernel
theorem dL_law_113 : decode cL_law 113 = .ok (.aload_n 0, 1) := by decide +kernel
theorem dL_law_114 : decode cL_law 114 = .ok (.iload_n 3, 1) := by decide +kernel
theorem dL_law_115 : decode cL_law 115 = .ok (.iconst 1, 1) := by decide +kernel
theorem dL_law_116 : decode cL_law 116 = .ok (.iadd, 1) := by decide +kernel
theorem dL_law_117 : decode cL_law 117 = .ok (.iaload, 1) := by decide +kernel
theorem dL_law_118 : decode cL_law 118 = .ok (.aload_n 0, 1) := by decide +kernel
theorem dL_law_119 : decode cL_law 119 = .ok (.iload_n 3, 1) := by decide +kernel
theorem dL_law_120 : decode cL_law 120 = .ok (.iconst 2, 1) := by decide +kernel
theorem dL_law_121 : decode cL_law 121 = .ok (.iadd, 1) := by decide +kernel
theorem dL_law_122 : decode cL_law 122 = .ok (.iaload, 1) := by decide +kernel
theorem dL_law_123 : decode cL_law 123 = .ok (.aload_n 0, 1) := by decide +kernel
theorem dL_law_124 : decode cL_law 124 = .ok (.iload_n 3, 1) := by decide +kernel
theorem dL_law_125 : decode cL_law 125 = .ok (.iconst 3, 1) := by decide +kernel
theorem dL_law_126 : decode cL_law 126 = .ok (.iadd, 1) := by decide +kernel
theorem dL_law_127 : decode cL_law 127 = .ok (.iaload, 1) := by decide +kernel
theorem dL_law_128 : decode cL_law 128 = .ok (.aload_n 0, 1) := by decide +kernel
theorem dL_law_129 : decode cL_law 129 = .ok (.iload_n 3, 1) := by decide +kernel
theorem dL_law_130 : decode cL_law 130 = .ok (.iconst 4, 1) := by decide +kernel
theorem dL_law_131 : decode cL_law 131 = .ok (.iadd, 1) := by decide +kernel
theorem dL_law_132 : decode cL_law 132 = .ok (.iaload, 1) := by decide +kernel
theorem dL_law_133 : decode cL_law 133 = .ok (.invokevirtual 17, 3) := by decide +kernel
theorem dL_law_136 : decode cL_law 136 = .ok (.if_icmp .eq 262, 3) := by decide +kernel
theorem dL_law_139 : decode cL_law 139 = .ok (.iconst 0, 1) := by decide +kernel
theorem dL_law_140 : decode cL_law 140 = .ok (.ireturn, 1) := by decide +kernel
theorem dL_law_141 : decode cL_law 141 = .ok (.aload_n 1, 1) := by decide +kernel
theorem dL_law_142 : decode cL_law 142 = .ok (.aload_n 0, 1) := by decide +kernel
theorem dL_law_143 : decode cL_law 143 = .ok (.iload_n 3, 1) := by decide +kernel
theorem dL_law_144 : decode cL_law 144 = .ok (.iconst 1, 1) := by decide +kernel
theorem dL_law_145 : decode cL_law 145 = .ok (.iadd, 1) := by decide +kernel
theorem dL_law_146 : decode cL_law 146 = .ok (.iaload, 1) := by decide +kernel
theorem dL_law_147 : decode cL_law 147 = .ok (.invokevirtual 18, 3) := by decide +kernel
theorem dL_law_150 : decode cL_law 150 = .ok (.aload_n 2, 1) := by decide +kernel
theorem dL_law_151 : decode cL_law 151 = .ok (.aload_n 0, 1) := by decide +kernel
theorem dL_law_152 : decode cL_law 152 = .ok (.iload_n 3, 1) := by decide +kernel
theorem dL_law_153 : decode cL_law 153 = .ok (.iconst 1, 1) := by decide +kernel
theorem dL_law_154 : decode cL_law 154 = .ok (.iadd, 1) := by decide +kernel
theorem dL_law_155 : decode cL_law 155 = .ok (.iaload, 1) := by decide +kernel
theorem dL_law_156 : decode cL_law 156 = .ok (.invokevirtual 22, 3) := by decide +kernel
theorem dL_law_159 : decode cL_law 159 = .ok (.if_icmp .eq 239, 3) := by decide +kernel
theorem dL_law_162 : decode cL_law 162 = .ok (.iconst 0, 1) := by decide +kernel
theorem dL_law_163 : decode cL_law 163 = .ok (.ireturn, 1) := by decide +kernel
theorem dL_law_164 : decode cL_law 164 = .ok (.aload_n 1, 1) := by decide +kernel
theorem dL_law_165 : decode cL_law 165 = .ok (.aload_n 0, 1) := by decide +kernel
theorem dL_law_166 : decode cL_law 166 = .ok (.iload_n 3, 1) := by decide +kernel
theorem dL_law_167 : decode cL_law 167 = .ok (.iconst 1, 1) := by decide +kernel
theorem dL_law_168 : decode cL_law 168 = .ok (.iadd, 1) := by decide +kernel
theorem dL_law_169 : decode cL_law 169 = .ok (.iaload, 1) := by decide +kernel
theorem dL_law_170 : decode cL_law 170 = .ok (.aload_n 0, 1) := by decide +kernel
theorem dL_law_171 : decode cL_law 171 = .ok (.iload_n 3, 1) := by decide +kernel
theorem dL_law_172 : decode cL_law 172 = .ok (.iconst 2, 1) := by decide +kernel
theorem dL_law_173 : decode cL_law 173 = .ok (.iadd, 1) := by decide +kernel
theorem dL_law_174 : decode cL_law 174 = .ok (.iaload, 1) := by decide +kernel
theorem dL_law_175 : decode cL_law 175 = .ok (.invokevirtual 23, 3) := by decide +kernel
theorem dL_law_178 : decode cL_law 178 = .ok (.aload_n 2, 1) := by decide +kernel
theorem dL_law_179 : decode cL_law 179 = .ok (.aload_n 0, 1) := by decide +kernel
theorem dL_law_180 : decode cL_law 180 = .ok (.iload_n 3, 1) := by decide +kernel
theorem dL_law_181 : decode cL_law 181 = .ok (.iconst 1, 1) := by decide +kernel
theorem dL_law_182 : decode cL_law 182 = .ok (.iadd, 1) := by decide +kernel
theorem dL_law_183 : decode cL_law 183 = .ok (.iaload, 1) := by decide +kernel
theorem dL_law_184 : decode cL_law 184 = .ok (.aload_n 0, 1) := by decide +kernel
theorem dL_law_185 : decode cL_law 185 = .ok (.iload_n 3, 1) := by decide +kernel
theorem dL_law_186 : decode cL_law 186 = .ok (.iconst 2, 1) := by decide +kernel
theorem dL_law_187 : decode cL_law 187 = .ok (.iadd, 1) := by decide +kernel
theorem dL_law_188 : decode cL_law 188 = .ok (.iaload, 1) := by decide +kernel
theorem dL_law_189 : decode cL_law 189 = .ok (.invokevirtual 27, 3) := by decide +kernel
theorem dL_law_192 : decode cL_law 192 = .ok (.if_icmp .eq 206, 3) := by decide +kernel
theorem dL_law_195 : decode cL_law 195 = .ok (.iconst 0, 1) := by decide +kernel
theorem dL_law_196 : decode cL_law 196 = .ok (.ireturn, 1) := by decide +kernel
theorem dL_law_197 : decode cL_law 197 = .ok (.aload_n 1, 1) := by decide +kernel
theorem dL_law_198 : decode cL_law 198 = .ok (.aload_n 0, 1) := by decide +kernel
theorem dL_law_199 : decode cL_law 199 = .ok (.iload_n 3, 1) := by decide +kernel
theorem dL_law_200 : decode cL_law 200 = .ok (.iconst 1, 1) := by decide +kernel
theorem dL_law_201 : decode cL_law 201 = .ok (.iadd, 1) := by decide +kernel
theorem dL_law_202 : decode cL_law 202 = .ok (.iaload, 1) := by decide +kernel
theorem dL_law_203 : decode cL_law 203 = .ok (.invokevirtual 28, 3) := by decide +kernel
theorem dL_law_206 : decode cL_law 206 = .ok (.aload_n 2, 1) := by decide +kernel
theorem dL_law_207 : decode cL_law 207 = .ok (.aload_n 0, 1) := by decide +kernel
theorem dL_law_208 : decode cL_law 208 = .ok (.iload_n 3, 1) := by decide +kernel
theorem dL_law_209 : decode cL_law 209 = .ok (.iconst 1, 1) := by decide +kernel
theorem dL_law_210 : decode cL_law 210 = .ok (.iadd, 1) := by decide +kernel
theorem dL_law_211 : decode cL_law 211 = .ok (.iaload, 1) := by decide +kernel
theorem dL_law_212 : decode cL_law 212 = .ok (.invokevirtual 31, 3) := by decide +kernel
theorem dL_law_215 : decode cL_law 215 = .ok (.if_icmp .eq 183, 3) := by decide +kernel
theorem dL_law_218 : decode cL_law 218 = .ok (.iconst 0, 1) := by decide +kernel
theorem dL_law_219 : decode cL_law 219 = .ok (.ireturn, 1) := by decide +kernel
theorem dL_law_220 : decode cL_law 220 = .ok (.aload_n 1, 1) := by decide +kernel
theorem dL_law_221 : decode cL_law 221 = .ok (.aload_n 0, 1) := by decide +kernel
theorem dL_law_222 : decode cL_law 222 = .ok (.iload_n 3, 1) := by decide +kernel
theorem dL_law_223 : decode cL_law 223 = .ok (.iconst 1, 1) := by decide +kernel
theorem dL_law_224 : decode cL_law 224 = .ok (.iadd, 1) := by decide +kernel
theorem dL_law_225 : decode cL_law 225 = .ok (.iaload, 1) := by decide +kernel
theorem dL_law_226 : decode cL_law 226 = .ok (.aload_n 0, 1) := by decide +kernel
theorem dL_law_227 : decode cL_law 227 = .ok (.iload_n 3, 1) := by decide +kernel
theorem dL_law_228 : decode cL_law 228 = .ok (.iconst 2, 1) := by decide +kernel
theorem dL_law_229 : decode cL_law 229 = .ok (.iadd, 1) := by decide +kernel
theorem dL_law_230 : decode cL_law 230 = .ok (.iaload, 1) := by decide +kernel
theorem dL_law_231 : decode cL_law 231 = .ok (.aload_n 0, 1) := by decide +kernel
theorem dL_law_232 : decode cL_law 232 = .ok (.iload_n 3, 1) := by decide +kernel
theorem dL_law_233 : decode cL_law 233 = .ok (.iconst 3, 1) := by decide +kernel
theorem dL_law_234 : decode cL_law 234 = .ok (.iadd, 1) := by decide +kernel
theorem dL_law_235 : decode cL_law 235 = .ok (.iaload, 1) := by decide +kernel
theorem dL_law_236 : decode cL_law 236 = .ok (.invokevirtual 32, 3) := by decide +kernel
theorem dL_law_239 : decode cL_law 239 = .ok (.aload_n 2, 1) := by decide +kernel
theorem dL_law_240 : decode cL_law 240 = .ok (.aload_n 0, 1) := by decide +kernel
theorem dL_law_241 : decode cL_law 241 = .ok (.iload_n 3, 1) := by decide +kernel
theorem dL_law_242 : decode cL_law 242 = .ok (.iconst 1, 1) := by decide +kernel
theorem dL_law_243 : decode cL_law 243 = .ok (.iadd, 1) := by decide +kernel
theorem dL_law_244 : decode cL_law 244 = .ok (.iaload, 1) := by decide +kernel
theorem dL_law_245 : decode cL_law 245 = .ok (.aload_n 0, 1) := by decide +kernel
theorem dL_law_246 : decode cL_law 246 = .ok (.iload_n 3, 1) := by decide +kernel
theorem dL_law_247 : decode cL_law 247 = .ok (.iconst 2, 1) := by decide +kernel
theorem dL_law_248 : decode cL_law 248 = .ok (.iadd, 1) := by decide +kernel
theorem dL_law_249 : decode cL_law 249 = .ok (.iaload, 1) := by decide +kernel
theorem dL_law_250 : decode cL_law 250 = .ok (.aload_n 0, 1) := by decide +kernel
theorem dL_law_251 : decode cL_law 251 = .ok (.iload_n 3, 1) := by decide +kernel
theorem dL_law_252 : decode cL_law 252 = .ok (.iconst 3, 1) := by decide +kernel
theorem dL_law_253 : decode cL_law 253 = .ok (.iadd, 1) := by decide +kernel
theorem dL_law_254 : decode cL_law 254 = .ok (.iaload, 1) := by decide +kernel
theorem dL_law_255 : decode cL_law 255 = .ok (.invokevirtual 36, 3) := by decide +kernel
theorem dL_law_258 : decode cL_law 258 = .ok (.if_icmp .eq 140, 3) := by decide +kernel
theorem dL_law_261 : decode cL_law 261 = .ok (.iconst 0, 1) := by decide +kernel
theorem dL_law_262 : decode cL_law 262 = .ok (.ireturn, 1) := by decide +kernel
theorem dL_law_263 : decode cL_law 263 = .ok (.aload_n 1, 1) := by decide +kernel
theorem dL_law_264 : decode cL_law 264 = .ok (.aload_n 0, 1) := by decide +kernel
theorem dL_law_265 : decode cL_law 265 = .ok (.iload_n 3, 1) := by decide +kernel
theorem dL_law_266 : decode cL_law 266 = .ok (.iconst 1, 1) := by decide +kernel
theorem dL_law_267 : decode cL_law 267 = .ok (.iadd, 1) := by decide +kernel
theorem dL_law_268 : decode cL_law 268 = .ok (.iaload, 1) := by decide +kernel
theorem dL_law_269 : decode cL_law 269 = .ok (.aload_n 0, 1) := by decide +kernel
theorem dL_law_270 : decode cL_law 270 = .ok (.iload_n 3, 1) := by decide +kernel
theorem dL_law_271 : decode cL_law 271 = .ok (.iconst 2, 1) := by decide +kernel
theorem dL_law_272 : decode cL_law 272 = .ok (.iadd, 1) := by decide +kernel
theorem dL_law_273 : decode cL_law 273 = .ok (.iaload, 1) := by decide +kernel
theorem dL_law_274 : decode cL_law 274 = .ok (.aload_n 0, 1) := by decide +kernel
theorem dL_law_275 : decode cL_law 275 = .ok (.iload_n 3, 1) := by decide +kernel
theorem dL_law_276 : decode cL_law 276 = .ok (.iconst 3, 1) := by decide +kernel
theorem dL_law_277 : decode cL_law 277 = .ok (.iadd, 1) := by decide +kernel
theorem dL_law_278 : decode cL_law 278 = .ok (.iaload, 1) := by decide +kernel
theorem dL_law_279 : decode cL_law 279 = .ok (.invokevirtual 37, 3) := by decide +kernel
theorem dL_law_282 : decode cL_law 282 = .ok (.aload_n 2, 1) := by decide +kernel
theorem dL_law_283 : decode cL_law 283 = .ok (.aload_n 0, 1) := by decide +kernel
theorem dL_law_284 : decode cL_law 284 = .ok (.iload_n 3, 1) := by decide +kernel
theorem dL_law_285 : decode cL_law 285 = .ok (.iconst 1, 1) := by decide +kernel
theorem dL_law_286 : decode cL_law 286 = .ok (.iadd, 1) := by decide +kernel
theorem dL_law_287 : decode cL_law 287 = .ok (.iaload, 1) := by decide +kernel
theorem dL_law_288 : decode cL_law 288 = .ok (.aload_n 0, 1) := by decide +kernel
theorem dL_law_289 : decode cL_law 289 = .ok (.iload_n 3, 1) := by decide +kernel
theorem dL_law_290 : decode cL_law 290 = .ok (.iconst 2, 1) := by decide +kernel
theorem dL_law_291 : decode cL_law 291 = .ok (.iadd, 1) := by decide +kernel
theorem dL_law_292 : decode cL_law 292 = .ok (.iaload, 1) := by decide +kernel
theorem dL_law_293 : decode cL_law 293 = .ok (.aload_n 0, 1) := by decide +kernel
theorem dL_law_294 : decode cL_law 294 = .ok (.iload_n 3, 1) := by decide +kernel
theorem dL_law_295 : decode cL_law 295 = .ok (.iconst 3, 1) := by decide +kernel
theorem dL_law_296 : decode cL_law 296 = .ok (.iadd, 1) := by decide +kernel
theorem dL_law_297 : decode cL_law 297 = .ok (.iaload, 1) := by decide +kernel
theorem dL_law_298 : decode cL_law 298 = .ok (.invokevirtual 40, 3) := by decide +kernel
theorem dL_law_301 : decode cL_law 301 = .ok (.if_icmp .eq 97, 3) := by decide +kernel
theorem dL_law_304 : decode cL_law 304 = .ok (.iconst 0, 1) := by decide +kernel
theorem dL_law_305 : decode cL_law 305 = .ok (.ireturn, 1) := by decide +kernel
theorem dL_law_306 : decode cL_law 306 = .ok (.aload_n 1, 1) := by decide +kernel
theorem dL_law_307 : decode cL_law 307 = .ok (.aload_n 0, 1) := by decide +kernel
theorem dL_law_308 : decode cL_law 308 = .ok (.iload_n 3, 1) := by decide +kernel
theorem dL_law_309 : decode cL_law 309 = .ok (.iconst 1, 1) := by decide +kernel
theorem dL_law_310 : decode cL_law 310 = .ok (.iadd, 1) := by decide +kernel
theorem dL_law_311 : decode cL_law 311 = .ok (.iaload, 1) := by decide +kernel
theorem dL_law_312 : decode cL_law 312 = .ok (.invokevirtual 41, 3) := by decide +kernel
theorem dL_law_315 : decode cL_law 315 = .ok (.aload_n 2, 1) := by decide +kernel
theorem dL_law_316 : decode cL_law 316 = .ok (.aload_n 0, 1) := by decide +kernel
theorem dL_law_317 : decode cL_law 317 = .ok (.iload_n 3, 1) := by decide +kernel
theorem dL_law_318 : decode cL_law 318 = .ok (.iconst 1, 1) := by decide +kernel
theorem dL_law_319 : decode cL_law 319 = .ok (.iadd, 1) := by decide +kernel
theorem dL_law_320 : decode cL_law 320 = .ok (.iaload, 1) := by decide +kernel
theorem dL_law_321 : decode cL_law 321 = .ok (.invokevirtual 44, 3) := by decide +kernel
theorem dL_law_324 : decode cL_law 324 = .ok (.if_icmp .eq 74, 3) := by decide +kernel
theorem dL_law_327 : decode cL_law 327 = .ok (.iconst 0, 1) := by decide +kernel
theorem dL_law_328 : decode cL_law 328 = .ok (.ireturn, 1) := by decide +kernel
theorem dL_law_329 : decode cL_law 329 = .ok (.aload_n 1, 1) := by decide +kernel
theorem dL_law_330 : decode cL_law 330 = .ok (.aload_n 0, 1) := by decide +kernel
theorem dL_law_331 : decode cL_law 331 = .ok (.iload_n 3, 1) := by decide +kernel
theorem dL_law_332 : decode cL_law 332 = .ok (.iconst 1, 1) := by decide +kernel
theorem dL_law_333 : decode cL_law 333 = .ok (.iadd, 1) := by decide +kernel
theorem dL_law_334 : decode cL_law 334 = .ok (.iaload, 1) := by decide +kernel
theorem dL_law_335 : decode cL_law 335 = .ok (.invokevirtual 45, 3) := by decide +kernel
theorem dL_law_338 : decode cL_law 338 = .ok (.aload_n 2, 1) := by decide +kernel
theorem dL_law_339 : decode cL_law 339 = .ok (.aload_n 0, 1) := by decide +kernel
theorem dL_law_340 : decode cL_law 340 = .ok (.iload_n 3, 1) := by decide +kernel
theorem dL_law_341 : decode cL_law 341 = .ok (.iconst 1, 1) := by decide +kernel
theorem dL_law_342 : decode cL_law 342 = .ok (.iadd, 1) := by decide +kernel
theorem dL_law_343 : decode cL_law 343 = .ok (.iaload, 1) := by decide +kernel
theorem dL_law_344 : decode cL_law 344 = .ok (.invokevirtual 48, 3) := by decide +kernel
theorem dL_law_347 : decode cL_law 347 = .ok (.if_icmp .eq 51, 3) := by decide +kernel
theorem dL_law_350 : decode cL_law 350 = .ok (.iconst 0, 1) := by decide +kernel
theorem dL_law_351 : decode cL_law 351 = .ok (.ireturn, 1) := by decide +kernel
theorem dL_law_352 : decode cL_law 352 = .ok (.aload_n 1, 1) := by decide +kernel
theorem dL_law_353 : decode cL_law 353 = .ok (.aload_n 0, 1) := by decide +kernel
theorem dL_law_354 : decode cL_law 354 = .ok (.iload_n 3, 1) := by decide +kernel
theorem dL_law_355 : decode cL_law 355 = .ok (.iconst 1, 1) := by decide +kernel
theorem dL_law_356 : decode cL_law 356 = .ok (.iadd, 1) := by decide +kernel
theorem dL_law_357 : decode cL_law 357 = .ok (.iaload, 1) := by decide +kernel
theorem dL_law_358 : decode cL_law 358 = .ok (.invokevirtual 49, 3) := by decide +kernel
theorem dL_law_361 : decode cL_law 361 = .ok (.aload_n 2, 1) := by decide +kernel
theorem dL_law_362 : decode cL_law 362 = .ok (.aload_n 0, 1) := by decide +kernel
theorem dL_law_363 : decode cL_law 363 = .ok (.iload_n 3, 1) := by decide +kernel
theorem dL_law_364 : decode cL_law 364 = .ok (.iconst 1, 1) := by decide +kernel
theorem dL_law_365 : decode cL_law 365 = .ok (.iadd, 1) := by decide +kernel
theorem dL_law_366 : decode cL_law 366 = .ok (.iaload, 1) := by decide +kernel
theorem dL_law_367 : decode cL_law 367 = .ok (.invokevirtual 52, 3) := by decide +kernel
theorem dL_law_370 : decode cL_law 370 = .ok (.if_icmp .eq 28, 3) := by decide +kernel
theorem dL_law_373 : decode cL_law 373 = .ok (.iconst 0, 1) := by decide +kernel
theorem dL_law_374 : decode cL_law 374 = .ok (.ireturn, 1) := by decide +kernel
theorem dL_law_375 : decode cL_law 375 = .ok (.aload_n 1, 1) := by decide +kernel
theorem dL_law_376 : decode cL_law 376 = .ok (.aload_n 0, 1) := by decide +kernel
theorem dL_law_377 : decode cL_law 377 = .ok (.iload_n 3, 1) := by decide +kernel
theorem dL_law_378 : decode cL_law 378 = .ok (.iconst 1, 1) := by decide +kernel
theorem dL_law_379 : decode cL_law 379 = .ok (.iadd, 1) := by decide +kernel
theorem dL_law_380 : decode cL_law 380 = .ok (.iaload, 1) := by decide +kernel
theorem dL_law_381 : decode cL_law 381 = .ok (.invokevirtual 53, 3) := by decide +kernel
theorem dL_law_384 : decode cL_law 384 = .ok (.aload_n 2, 1) := by decide +kernel
theorem dL_law_385 : decode cL_law 385 = .ok (.aload_n 0, 1) := by decide +kernel
theorem dL_law_386 : decode cL_law 386 = .ok (.iload_n 3, 1) := by decide +kernel
theorem dL_law_387 : decode cL_law 387 = .ok (.iconst 1, 1) := by decide +kernel
theorem dL_law_388 : decode cL_law 388 = .ok (.iadd, 1) := by decide +kernel
theorem dL_law_389 : decode cL_law 389 = .ok (.iaload, 1) := by decide +kernel
theorem dL_law_390 : decode cL_law 390 = .ok (.invokevirtual 56, 3) := by decide +kernel
theorem dL_law_393 : decode cL_law 393 = .ok (.if_icmp .eq 5, 3) := by decide +kernel
theorem dL_law_396 : decode cL_law 396 = .ok (.iconst 0, 1) := by decide +kernel
theorem dL_law_397 : decode cL_law 397 = .ok (.ireturn, 1) := by decide +kernel
theorem dL_law_398 : decode cL_law 398 = .ok (.iinc 3 5, 3) := by decide +kernel
theorem dL_law_401 : decode cL_law 401 = .ok (.goto (-383), 3) := by decide +kernel
theorem dL_law_404 : decode cL_law 404 = .ok (.iconst 1, 1) := by decide +kernel
theorem dL_law_405 : decode cL_law 405 = .ok (.ireturn, 1) := by decide +kernel
end
section
/-! starting rows of kit/laws/NUMBERS and COUNTS -/
theorem fa_byte_small {n : Nat} (h : n < 128) : (nI n).toInt8.toInt32 = nI n := by
  have : ∀ j : Fin 128, (nI j.val).toInt8.toInt32 = nI j.val := by decide +kernel
  exact this ⟨n, h⟩
/-! ===== the first index with a property; a count ===== -/
/-- the first k < n with p k, n if there is none -/
def fa_first (p : Nat → Bool) : Nat → Nat
  | 0 => 0
  | n + 1 => if fa_first p n < n then fa_first p n else if p n then n else n + 1
theorem fa_first_le (p : Nat → Bool) : ∀ n, fa_first p n ≤ n
  | 0 => Nat.le_refl 0
  | n + 1 => by
    have ih := fa_first_le p n
    unfold fa_first
    split
    · omega
    · split
      · omega
      · omega
theorem fa_first_no (p : Nat → Bool) : ∀ n k, k < fa_first p n → p k = false
  | 0, k, h => absurd h (Nat.not_lt_zero k)
  | n + 1, k, h => by
    have ih := fa_first_no p n
    have hl := fa_first_le p n
    unfold fa_first at h
    split at h
    · exact ih k h
    · rename_i h1
      split at h
      · exact ih k (by omega)
      · rename_i h2
        by_cases e : k = n
        · subst e
          exact Bool.eq_false_iff.mpr h2
        · exact ih k (by omega)
theorem fa_first_yes (p : Nat → Bool) : ∀ n, fa_first p n < n → p (fa_first p n) = true
  | 0, h => absurd h (Nat.not_lt_zero _)
  | n + 1, h => by
    have ih := fa_first_yes p n
    have hl := fa_first_le p n
    unfold fa_first at h ⊢
    split at h
    · rename_i h1
      rw [if_pos h1]
      exact ih h1
    · rename_i h1
      rw [if_neg h1]
      split at h
      · rename_i h2
        rw [if_pos h2]
        exact h2
      · omega
/-- how many k < n have p k -/
def fa_cnt (p : Nat → Bool) : Nat → Nat
  | 0 => 0
  | n + 1 => fa_cnt p n + if p n then 1 else 0
theorem fa_cnt_le (p : Nat → Bool) : ∀ n, fa_cnt p n ≤ n
  | 0 => Nat.le_refl 0
  | n + 1 => by
    have ih := fa_cnt_le p n
    unfold fa_cnt
    split
    · omega
    · omega
theorem fa_cnt_yes {p : Nat → Bool} {n : Nat} (h : p n = true) : fa_cnt p (n + 1) = fa_cnt p n + 1 := by rw [fa_cnt, if_pos h]
theorem fa_cnt_no {p : Nat → Bool} {n : Nat} (h : p n = false) : fa_cnt p (n + 1) = fa_cnt p n := by rw [fa_cnt, if_neg (by rw [h]; decide)]; rfl
theorem fa_cnt_cong {p q : Nat → Bool} : ∀ {n : Nat}, (∀ k, k < n → p k = q k) → fa_cnt p n = fa_cnt q n
  | 0, _ => rfl
  | n + 1, h => by rw [fa_cnt, fa_cnt, fa_cnt_cong (fun k hk => h k (Nat.lt_succ_of_lt hk)), h n (Nat.lt_succ_self n)]
/-! ===== sums over a range: one place changed, parts, bounds ===== -/
def fb_sm (f : Nat → Nat) : Nat → Nat
  | 0 => 0
  | n + 1 => fb_sm f n + f n
theorem fb_sm_succ (f : Nat → Nat) (n : Nat) : fb_sm f (n + 1) = fb_sm f n + f n := rfl
theorem fb_sm_cong {f g : Nat → Nat} : ∀ {n : Nat}, (∀ k, k < n → f k = g k) → fb_sm f n = fb_sm g n
  | 0, _ => rfl
  | n + 1, h => by rw [fb_sm_succ, fb_sm_succ, fb_sm_cong (fun k hk => h k (by omega)), h n (by omega)]
theorem fb_sm_out (f : Nat → Nat) (v : Nat) {i n : Nat} (h : n ≤ i) : fb_sm (fun k => if k = i then v else f k) n = fb_sm f n :=
  fb_sm_cong fun k hk => if_neg (by omega)
theorem fb_sm_upd (f : Nat → Nat) (v : Nat) {i : Nat} : ∀ {n : Nat}, i < n → fb_sm (fun k => if k = i then v else f k) n + f i = fb_sm f n + v
  | 0, h => absurd h (Nat.not_lt_zero i)
  | n + 1, h => by
    rw [fb_sm_succ, fb_sm_succ]
    rcases Nat.lt_or_ge i n with q | q
    · have := fb_sm_upd f v q
      have e : (if n = i then v else f n) = f n := if_neg (by omega)
      rw [e]
      omega
    · have e : i = n := by omega
      subst e
      rw [fb_sm_out f v (Nat.le_refl _)]
      simp only [if_true]
      omega
theorem fb_sm_add (f g : Nat → Nat) : ∀ n, fb_sm (fun k => f k + g k) n = fb_sm f n + fb_sm g n
  | 0 => rfl
  | n + 1 => by
    have h := fb_sm_add f g n
    rw [fb_sm_succ, fb_sm_succ, fb_sm_succ, h]
    omega
theorem fb_sm_le {f g : Nat → Nat} : ∀ {n : Nat}, (∀ k, k < n → f k ≤ g k) → fb_sm f n ≤ fb_sm g n
  | 0, _ => Nat.le_refl _
  | n + 1, h => by
    have h1 := fb_sm_le (n := n) (f := f) (g := g) (fun k hk => h k (by omega))
    have h2 := h n (by omega)
    rw [fb_sm_succ, fb_sm_succ]
    omega
theorem fb_sm_const (c : Nat) : ∀ n, fb_sm (fun _ => c) n = n * c
  | 0 => by rw [Nat.zero_mul]; rfl
  | n + 1 => by rw [fb_sm_succ, fb_sm_const c n, Nat.succ_mul]
theorem fb_sm_bound {f : Nat → Nat} {c n : Nat} (h : ∀ k, k < n → f k ≤ c) : fb_sm f n ≤ n * c := by
  rw [← fb_sm_const c n]
  exact fb_sm_le h
theorem fb_sm_mono (f : Nat → Nat) (m : Nat) : ∀ n, fb_sm f m ≤ fb_sm f (m + n)
  | 0 => Nat.le_refl _
  | n + 1 => by
    have h := fb_sm_mono f m n
    show fb_sm f m ≤ fb_sm f (m + n + 1)
    rw [fb_sm_succ]
    omega
theorem fb_sm_part (f : Nat → Nat) {i n : Nat} (h : i < n) : fb_sm f i + f i ≤ fb_sm f n := by
  have := fb_sm_mono f (i + 1) (n - (i + 1))
  rw [fb_sm_succ, show i + 1 + (n - (i + 1)) = n by omega] at this
  exact this
theorem fb_sm_split (f : Nat → Nat) (m : Nat) : ∀ n, fb_sm f (m + n) = fb_sm f m + fb_sm (fun k => f (m + k)) n
  | 0 => rfl
  | n + 1 => by
    have h := fb_sm_split f m n
    show fb_sm f (m + n + 1) = _
    rw [fb_sm_succ, fb_sm_succ, h, Nat.add_assoc]
theorem fb_sm_zero {f : Nat → Nat} {n : Nat} (h : fb_sm f n = 0) : ∀ k, k < n → f k = 0 := fun k hk => by
  have := fb_sm_part f hk
  omega
end
section
/-! my rows: the kit's rows for ints that are small naturals (nI), the worlds of the two classes, calls that keep or change a world -/
set_option maxRecDepth 100000
theorem x_inc (i : Nat) : nI i + Int32.ofInt 1 = nI (i + 1) := nI_1 i
theorem x_inc5 (i : Nat) : nI i + Int32.ofInt 5 = nI (i + 5) := nI_add i 5
theorem x_dec {i : Nat} (h : 0 < i) : nI i + Int32.ofInt (-1) = nI (i - 1) := sb_m1 h
theorem x_sh4 : ∀ t, t < 4 → ((nI t &&& 31).toBitVec.smod 32).toNat = t := by decide
theorem x_su4 : ∀ t, t < 4 → (((nI t).toUInt32 &&& Int32.toUInt32 31).toBitVec % 32).toNat = t := by decide
section XR
variable {p : Program} {l : Launch} {e : Env} {R : Room} {s : State} {m : MethodId} {args : Array Value} {below : List Frame} {meth : Method} {c : Code} {H : Heap} {locs : List Loc} {cells slots : Nat} {Q : State → Prop}
variable {cc : ByteArray} {pc : Nat} {ls : Array Slot} {rest : List Value} {D : va_G} {cl : List vw_C} {A : Nat → Prop} {a : Nat} {tys : List (ClassId × FieldType)} {ws : va_W} {H0 : Heap}
theorem x_top {x y : Int32} (h : x = y) (k : W p l e R s m args below meth c H locs cells slots Q (F0 m pc ls (.int y :: rest))) : W p l e R s m args below meth c H locs cells slots Q (F0 m pc ls (.int x :: rest)) := by
  rw [h]; exact k
theorem x_add (hx : p.tables.exec = Jvm.exec) (hb : c.code = cc) {i j : Nat} (hdg : decode cc pc = .ok (.iadd, 1)) (k : W p l e R s m args below meth c H locs cells slots Q (F0 m (pc + 1) ls (.int (nI (i + j)) :: rest))) : W p l e R s m args below meth c H locs cells slots Q (F0 m pc ls (.int (nI j) :: .int (nI i) :: rest)) := lv_iadd hx hb hdg (x_top (nI_add i j) k)
theorem x_sub (hx : p.tables.exec = Jvm.exec) (hb : c.code = cc) {i j : Nat} (h : j ≤ i) (hdg : decode cc pc = .ok (.isub, 1)) (k : W p l e R s m args below meth c H locs cells slots Q (F0 m (pc + 1) ls (.int (nI (i - j)) :: rest))) : W p l e R s m args below meth c H locs cells slots Q (F0 m pc ls (.int (nI j) :: .int (nI i) :: rest)) := lv_isub hx hb hdg (x_top (pk_sub h) k)
theorem x_mul (hx : p.tables.exec = Jvm.exec) (hb : c.code = cc) {i j : Nat} (hdg : decode cc pc = .ok (.imul, 1)) (k : W p l e R s m args below meth c H locs cells slots Q (F0 m (pc + 1) ls (.int (nI (i * j)) :: rest))) : W p l e R s m args below meth c H locs cells slots Q (F0 m pc ls (.int (nI j) :: .int (nI i) :: rest)) := lv_imul hx hb hdg (x_top (pk_mul i j) k)
theorem x_div (hx : p.tables.exec = Jvm.exec) (hb : c.code = cc) {i j : Nat} (hi : i < 2 ^ 31) (h0 : 0 < j) (hj : j < 2 ^ 31) (hdg : decode cc pc = .ok (.idiv, 1)) (k : W p l e R s m args below meth c H locs cells slots Q (F0 m (pc + 1) ls (.int (nI (i / j)) :: rest))) : W p l e R s m args below meth c H locs cells slots Q (F0 m pc ls (.int (nI j) :: .int (nI i) :: rest)) := lv_idiv hx hb hdg (nI_ne0 h0 hj) (x_top (pk_div hi h0 hj) k)
theorem x_rem (hx : p.tables.exec = Jvm.exec) (hb : c.code = cc) {i j : Nat} (hi : i < 2 ^ 31) (h0 : 0 < j) (hj : j < 2 ^ 31) (hdg : decode cc pc = .ok (.irem, 1)) (k : W p l e R s m args below meth c H locs cells slots Q (F0 m (pc + 1) ls (.int (nI (i % j)) :: rest))) : W p l e R s m args below meth c H locs cells slots Q (F0 m pc ls (.int (nI j) :: .int (nI i) :: rest)) := lv_irem hx hb hdg (nI_ne0 h0 hj) (x_top (pk_rem hi h0 hj) k)
theorem x_and (hx : p.tables.exec = Jvm.exec) (hb : c.code = cc) {i M K : Nat} (j : Nat) (hK : 2 ^ j = K) (hM : M + 1 = K) (hM2 : M < 2 ^ 31) (hi : i < 2 ^ 31) (hdg : decode cc pc = .ok (.iand, 1)) (k : W p l e R s m args below meth c H locs cells slots Q (F0 m (pc + 1) ls (.int (nI (i % K)) :: rest))) : W p l e R s m args below meth c H locs cells slots Q (F0 m pc ls (.int (nI M) :: .int (nI i) :: rest)) := by
  refine lv_iand hx hb hdg (x_top ?_ k)
  rw [pk_andN (by omega) j (by rw [pk_tn (by omega)]; omega), hK]
theorem x_shr (hx : p.tables.exec = Jvm.exec) (hb : c.code = cc) {i j K : Nat} (hs : ((nI j &&& 31).toBitVec.smod 32).toNat = j) (hK : 2 ^ j = K) (hi : i < 2 ^ 31) (hdg : decode cc pc = .ok (.ishr, 1)) (k : W p l e R s m args below meth c H locs cells slots Q (F0 m (pc + 1) ls (.int (nI (i / K)) :: rest))) : W p l e R s m args below meth c H locs cells slots Q (F0 m pc ls (.int (nI j) :: .int (nI i) :: rest)) := by
  refine lv_ishr hx hb hdg (x_top ?_ k)
  rw [pk_shrN hi _ j hs, hK]
theorem x_ushr (hx : p.tables.exec = Jvm.exec) (hb : c.code = cc) {i j : Nat} (hj : j < 4) (hi : i < 2 ^ 31) (hdg : decode cc pc = .ok (.iushr, 1)) (k : W p l e R s m args below meth c H locs cells slots Q (F0 m (pc + 1) ls (.int (nI (i / 2 ^ j)) :: rest))) : W p l e R s m args below meth c H locs cells slots Q (F0 m pc ls (.int (nI j) :: .int (nI i) :: rest)) :=
  lv_iushr hx hb hdg (pk_ushrN (by omega) (nI j) j (x_su4 j hj)) k
theorem x_shrv (hx : p.tables.exec = Jvm.exec) (hb : c.code = cc) {i j : Nat} (hj : j < 4) (hi : i < 2 ^ 31) (hdg : decode cc pc = .ok (.ishr, 1)) (k : W p l e R s m args below meth c H locs cells slots Q (F0 m (pc + 1) ls (.int (nI (i / 2 ^ j)) :: rest))) : W p l e R s m args below meth c H locs cells slots Q (F0 m pc ls (.int (nI j) :: .int (nI i) :: rest)) := by
  refine lv_ishr hx hb hdg (x_top ?_ k)
  rw [pk_shrN hi _ j (x_sh4 j hj)]
/-! branches on naturals -/
theorem x_cge (hx : p.tables.exec = Jvm.exec) (hb : c.code = cc) {i j : Nat} (hi : i < 2 ^ 31) (hj : j < 2 ^ 31) {off : Int} {tgt : Nat} (hdg : decode cc pc = .ok (.if_icmp .ge off, 3)) (ht : (pc : Int) + off = (tgt : Int)) (kt : j ≤ i → W p l e R s m args below meth c H locs cells slots Q (F0 m tgt ls rest)) (kf : i < j → W p l e R s m args below meth c H locs cells slots Q (F0 m (pc + 3) ls rest)) : W p l e R s m args below meth c H locs cells slots Q (F0 m pc ls (.int (nI j) :: .int (nI i) :: rest)) :=
  lv_icmp_ge hx hb hdg ht (fun h => kt ((nI_leI hj hi).mp h)) (fun h => kf (Nat.lt_of_not_le fun q => h ((nI_leI hj hi).mpr q)))
theorem x_cgt (hx : p.tables.exec = Jvm.exec) (hb : c.code = cc) {i j : Nat} (hi : i < 2 ^ 31) (hj : j < 2 ^ 31) {off : Int} {tgt : Nat} (hdg : decode cc pc = .ok (.if_icmp .gt off, 3)) (ht : (pc : Int) + off = (tgt : Int)) (kt : j < i → W p l e R s m args below meth c H locs cells slots Q (F0 m tgt ls rest)) (kf : i ≤ j → W p l e R s m args below meth c H locs cells slots Q (F0 m (pc + 3) ls rest)) : W p l e R s m args below meth c H locs cells slots Q (F0 m pc ls (.int (nI j) :: .int (nI i) :: rest)) :=
  lv_icmp_gt hx hb hdg ht (fun h => kt ((nI_ltI hj hi).mp h)) (fun h => kf (Nat.le_of_not_lt fun q => h ((nI_ltI hj hi).mpr q)))
theorem x_cle (hx : p.tables.exec = Jvm.exec) (hb : c.code = cc) {i j : Nat} (hi : i < 2 ^ 31) (hj : j < 2 ^ 31) {off : Int} {tgt : Nat} (hdg : decode cc pc = .ok (.if_icmp .le off, 3)) (ht : (pc : Int) + off = (tgt : Int)) (kt : i ≤ j → W p l e R s m args below meth c H locs cells slots Q (F0 m tgt ls rest)) (kf : j < i → W p l e R s m args below meth c H locs cells slots Q (F0 m (pc + 3) ls rest)) : W p l e R s m args below meth c H locs cells slots Q (F0 m pc ls (.int (nI j) :: .int (nI i) :: rest)) :=
  lv_icmp_le hx hb hdg ht (fun h => kt ((nI_leI hi hj).mp h)) (fun h => kf (Nat.lt_of_not_le fun q => h ((nI_leI hi hj).mpr q)))
theorem x_clt (hx : p.tables.exec = Jvm.exec) (hb : c.code = cc) {i j : Nat} (hi : i < 2 ^ 31) (hj : j < 2 ^ 31) {off : Int} {tgt : Nat} (hdg : decode cc pc = .ok (.if_icmp .lt off, 3)) (ht : (pc : Int) + off = (tgt : Int)) (kt : i < j → W p l e R s m args below meth c H locs cells slots Q (F0 m tgt ls rest)) (kf : j ≤ i → W p l e R s m args below meth c H locs cells slots Q (F0 m (pc + 3) ls rest)) : W p l e R s m args below meth c H locs cells slots Q (F0 m pc ls (.int (nI j) :: .int (nI i) :: rest)) :=
  lv_icmp_lt hx hb hdg ht (fun h => kt ((nI_ltI hi hj).mp h)) (fun h => kf (Nat.le_of_not_lt fun q => h ((nI_ltI hi hj).mpr q)))
theorem x_ceq (hx : p.tables.exec = Jvm.exec) (hb : c.code = cc) {i j : Nat} (hi : i < 2 ^ 31) (hj : j < 2 ^ 31) {off : Int} {tgt : Nat} (hdg : decode cc pc = .ok (.if_icmp .eq off, 3)) (ht : (pc : Int) + off = (tgt : Int)) (kt : i = j → W p l e R s m args below meth c H locs cells slots Q (F0 m tgt ls rest)) (kf : ¬ i = j → W p l e R s m args below meth c H locs cells slots Q (F0 m (pc + 3) ls rest)) : W p l e R s m args below meth c H locs cells slots Q (F0 m pc ls (.int (nI j) :: .int (nI i) :: rest)) :=
  lv_icmp_eq hx hb hdg ht (fun h => kt ((nI_eq hi hj).mp h)) (fun h => kf fun q => h ((nI_eq hi hj).mpr q))
theorem x_cne (hx : p.tables.exec = Jvm.exec) (hb : c.code = cc) {i j : Nat} (hi : i < 2 ^ 31) (hj : j < 2 ^ 31) {off : Int} {tgt : Nat} (hdg : decode cc pc = .ok (.if_icmp .ne off, 3)) (ht : (pc : Int) + off = (tgt : Int)) (kt : ¬ i = j → W p l e R s m args below meth c H locs cells slots Q (F0 m tgt ls rest)) (kf : i = j → W p l e R s m args below meth c H locs cells slots Q (F0 m (pc + 3) ls rest)) : W p l e R s m args below meth c H locs cells slots Q (F0 m pc ls (.int (nI j) :: .int (nI i) :: rest)) :=
  lv_icmp_ne hx hb hdg ht (fun h => kt fun q => h ((nI_eq hi hj).mpr q)) (fun h => kf ((nI_eq hi hj).mp h))
/-- ifeq, ifne on a natural -/
theorem x_ieq (hx : p.tables.exec = Jvm.exec) (hb : c.code = cc) {i : Nat} (hi : i < 2 ^ 31) {off : Int} {tgt : Nat} (hdg : decode cc pc = .ok (.ifCond .eq off, 3)) (ht : (pc : Int) + off = (tgt : Int)) (kt : i = 0 → W p l e R s m args below meth c H locs cells slots Q (F0 m tgt ls rest)) (kf : 0 < i → W p l e R s m args below meth c H locs cells slots Q (F0 m (pc + 3) ls rest)) : W p l e R s m args below meth c H locs cells slots Q (F0 m pc ls (.int (nI i) :: rest)) :=
  lv_if_eq hx hb hdg ht (fun h => kt ((nI_eq hi (by decide)).mp (h.trans nI_0.symm))) (fun h => kf (Nat.pos_of_ne_zero fun q => h (by rw [q]; exact nI_0)))
theorem x_ine (hx : p.tables.exec = Jvm.exec) (hb : c.code = cc) {i : Nat} (hi : i < 2 ^ 31) {off : Int} {tgt : Nat} (hdg : decode cc pc = .ok (.ifCond .ne off, 3)) (ht : (pc : Int) + off = (tgt : Int)) (kt : 0 < i → W p l e R s m args below meth c H locs cells slots Q (F0 m tgt ls rest)) (kf : i = 0 → W p l e R s m args below meth c H locs cells slots Q (F0 m (pc + 3) ls rest)) : W p l e R s m args below meth c H locs cells slots Q (F0 m pc ls (.int (nI i) :: rest)) :=
  lv_if_ne hx hb hdg ht (fun h => kt (Nat.pos_of_ne_zero fun q => h (by rw [q]; exact nI_0))) (fun h => kf ((nI_eq hi (by decide)).mp (h.trans nI_0.symm)))
/-- iflt, ifge on a natural: known -/
theorem x_iltN (hx : p.tables.exec = Jvm.exec) (hb : c.code = cc) {i : Nat} (hi : i < 2 ^ 31) {off : Int} {tgt : Nat} (hdg : decode cc pc = .ok (.ifCond .lt off, 3)) (ht : (pc : Int) + off = (tgt : Int)) (kf : W p l e R s m args below meth c H locs cells slots Q (F0 m (pc + 3) ls rest)) : W p l e R s m args below meth c H locs cells slots Q (F0 m pc ls (.int (nI i) :: rest)) :=
  lv_if_lt hx hb hdg ht (fun h => absurd h (nI_pos hi)) (fun _ => kf)
theorem x_igeN (hx : p.tables.exec = Jvm.exec) (hb : c.code = cc) {i : Nat} (hi : i < 2 ^ 31) {off : Int} {tgt : Nat} (hdg : decode cc pc = .ok (.ifCond .ge off, 3)) (ht : (pc : Int) + off = (tgt : Int)) (kt : W p l e R s m args below meth c H locs cells slots Q (F0 m tgt ls rest)) : W p l e R s m args below meth c H locs cells slots Q (F0 m pc ls (.int (nI i) :: rest)) :=
  lv_if_ge hx hb hdg ht (fun _ => kt) (fun h => absurd (nI_pos' hi) h)
/-! arrays at natural places -/
theorem x_iald (hx : p.tables.exec = Jvm.exec) (hb : c.code = cc) (hK : va_K D cl tys s) (hP : va_P D cl ws H) (q0 t0 : Nat) {cA : ClassId} {n : Nat} {f : Nat → Int32} (ha : ws[q0]? = some (a, .inl (cA, n, .inl f))) (ht : tys[t0]? = some (cA, .int)) {i : Nat} (hi : i < n) (hn : n < 2 ^ 31) {v : Int32} (hv : f i = v) (hdg : decode cc pc = .ok (.iaload, 1))
    (kk : W p l e R s m args below meth c H locs cells slots Q (F0 m (pc + 1) ls (.int v :: rest))) : W p l e R s m args below meth c H locs cells slots Q (F0 m pc ls (.int (nI i) :: .ref a :: rest)) := by
  refine va_iald hx hb hK hP q0 t0 ha ht (vp_in_nI hi hn) hdg ?_
  rw [nI_clamp (by omega), hv]; exact kk
theorem x_bald (hx : p.tables.exec = Jvm.exec) (hb : c.code = cc) (hK : va_K D cl tys s) (hP : va_P D cl ws H) (q0 t0 : Nat) {cA : ClassId} {n : Nat} {f : Nat → Int32} (ha : ws[q0]? = some (a, .inl (cA, n, .inl f))) (ht : tys[t0]? = some (cA, .byte)) {i : Nat} (hi : i < n) (hn : n < 2 ^ 31) {v : Int32} (hv : f i = v) (hdg : decode cc pc = .ok (.baload, 1))
    (kk : W p l e R s m args below meth c H locs cells slots Q (F0 m (pc + 1) ls (.int v :: rest))) : W p l e R s m args below meth c H locs cells slots Q (F0 m pc ls (.int (nI i) :: .ref a :: rest)) := by
  refine va_bald hx hb hK hP q0 t0 ha ht (vp_in_nI hi hn) hdg ?_
  rw [nI_clamp (by omega), hv]; exact kk
theorem x_iast (hx : p.tables.exec = Jvm.exec) (hb : c.code = cc) (hK : va_K D cl tys s) (hP : va_P D cl ws H) (hD : va_D A ws) (hS : va_S A H0 H locs) (q0 t0 : Nat) {cA : ClassId} {n : Nat} {f : Nat → Int32} (ha : ws[q0]? = some (a, .inl (cA, n, .inl f))) (ht : tys[t0]? = some (cA, .int)) {i : Nat} {x : Int32} (hi : i < n) (hn : n < 2 ^ 31) (hdg : decode cc pc = .ok (.iastore, 1))
    (kk : ∀ (H1 : Heap) (locs1 : List Loc), va_P D cl (ws.set q0 (a, .inl (cA, n, .inl (upd f i x)))) H1 → va_D A (ws.set q0 (a, .inl (cA, n, .inl (upd f i x)))) → va_S A H0 H1 locs1 → W p l e R s m args below meth c H1 locs1 cells slots Q (F0 m (pc + 1) ls rest)) : W p l e R s m args below meth c H locs cells slots Q (F0 m pc ls (.int x :: .int (nI i) :: .ref a :: rest)) := by
  refine va_iast hx hb hK hP hD hS q0 t0 ha ht (vp_in_nI hi hn) hdg ?_
  rw [nI_clamp (by omega)]; exact kk
theorem x_bast (hx : p.tables.exec = Jvm.exec) (hb : c.code = cc) (hK : va_K D cl tys s) (hP : va_P D cl ws H) (hD : va_D A ws) (hS : va_S A H0 H locs) (q0 t0 : Nat) {cA : ClassId} {n : Nat} {f : Nat → Int32} (ha : ws[q0]? = some (a, .inl (cA, n, .inl f))) (ht : tys[t0]? = some (cA, .byte)) {i : Nat} {x : Int32} (hi : i < n) (hn : n < 2 ^ 31) (h8 : x.toInt8.toInt32 = x) (hdg : decode cc pc = .ok (.bastore, 1))
    (kk : ∀ (H1 : Heap) (locs1 : List Loc), va_P D cl (ws.set q0 (a, .inl (cA, n, .inl (upd f i x)))) H1 → va_D A (ws.set q0 (a, .inl (cA, n, .inl (upd f i x)))) → va_S A H0 H1 locs1 → W p l e R s m args below meth c H1 locs1 cells slots Q (F0 m (pc + 1) ls rest)) : W p l e R s m args below meth c H locs cells slots Q (F0 m pc ls (.int x :: .int (nI i) :: .ref a :: rest)) := by
  refine va_bast hx hb hK hP hD hS q0 t0 ha ht (vp_in_nI hi hn) hdg ?_
  rw [nI_clamp (by omega), vp_nar_byte, h8]; exact kk
end XR
/-! ===== the worlds ===== -/
abbrev vwCl : List vw_C := [(RX0, TX0, 15), (RX1, TX1, 5)]
abbrev fsT (ad : Nat → Nat) (n fb pt co rc : Int32) : List Value := [.int n, .int fb, .ref (ad 2), .ref (ad 3), .ref (ad 4), .ref (ad 5), .ref (ad 6), .ref (ad 7), .int pt, .int co, .int rc, .ref (ad 11), .ref (ad 12), .ref (ad 13), .ref (ad 14)]
abbrev WA (ad : Nat → Nat) (cI cB : ClassId) (n fb : Int32) (r2 r3 r4 r5 r6 r7 : Nat → Int32) (pt co rc : Int32) (cf rf fi se : Nat → Int32) : va_W :=
  [(ad 0, .inr (0, fsT ad n fb pt co rc)), (ad 2, .inl (cI, 12, .inl r2)), (ad 3, .inl (cI, 12, .inl r3)), (ad 4, .inl (cI, 12, .inl r4)), (ad 5, .inl (cI, 12, .inl r5)), (ad 6, .inl (cI, 12, .inl r6)), (ad 7, .inl (cI, 12, .inl r7)), (ad 11, .inl (cI, 27, .inl cf)), (ad 12, .inl (cI, 27, .inl rf)), (ad 13, .inl (cB, 2704, .inl fi)), (ad 14, .inl (cB, 2704, .inl se))]
abbrev WT (ad : Nat → Nat) (cI cB : ClassId) (n fb : Int32) (ra : Nat → Nat → Int32) (pt co rc : Int32) (cf rf fi se : Nat → Int32) : va_W := WA ad cI cB n fb (ra 2) (ra 3) (ra 4) (ra 5) (ra 6) (ra 7) pt co rc cf rf fi se
abbrev tyT (cI cB : ClassId) : List (ClassId × FieldType) := [(cI, .int), (cB, .byte)]
abbrev fsM (ad : Nat → Nat) (n fb : Int32) : List Value := [.int n, .ref (ad 1), .ref (ad 2), .ref (ad 3), .int fb]
abbrev WN (ad : Nat → Nat) (cI : ClassId) (n fb : Int32) (r1 r2 r3 : Nat → Int32) : va_W :=
  [(ad 0, .inr (1, fsM ad n fb)), (ad 1, .inl (cI, 12, .inl r1)), (ad 2, .inl (cI, 12, .inl r2)), (ad 3, .inl (cI, 12, .inl r3))]
abbrev WM (ad : Nat → Nat) (cI : ClassId) (n fb : Int32) (ra : Nat → Nat → Int32) : va_W := WN ad cI n fb (ra 1) (ra 2) (ra 3)
abbrev tyM (cI : ClassId) : List (ClassId × FieldType) := [(cI, .int)]
/-- a method's start: that changes its world; that only reads it -/
abbrev PreW (D : va_G) (tys : List (ClassId × FieldType)) (ws : va_W) (sz : Nat) : State → Prop := fun U => U.heap.size = sz ∧ va_P D vwCl ws U.heap ∧ va_K D vwCl tys U ∧ va_D (fun _ => True) ws
abbrev PosW (D : va_G) (tys : List (ClassId × FieldType)) (A : Nat → Prop) (ws : va_W) : State → Prop := fun t => va_P D vwCl ws t.heap ∧ va_K D vwCl tys t ∧ va_D A ws
abbrev RoW (D : va_G) (tys : List (ClassId × FieldType)) (ws : va_W) : State → Prop := fun U => va_P D vwCl ws U.heap ∧ va_K D vwCl tys U
theorem x_preV {s : State} {H : Heap} {D : va_G} {tys : List (ClassId × FieldType)} {ws : va_W} {A : Nat → Prop} {b ci q0 N : Nat} {C : String} {T : u_T} {fs As : List Value} (hK : va_K D vwCl tys s) (hP : va_P D vwCl ws H) (hD : va_D A ws) (hc : vwCl[ci]? = some (C, T, N)) (he : ws[q0]? = some (b, .inr (ci, fs))) : PreV s H C b (va_Pc (.ref b :: As) (PreW D tys ws H.size)) As :=
  ⟨fun a U g mk q => by obtain ⟨q0, q1, qP, qK, qD⟩ := q; exact ⟨q0, q1, qP, va_K.moved (u := U) (U := U.calling g mk a) (Vm.Alike.refl U.vm) qK, qD⟩, va_recv hK hP hc he, fun U hU hW => ⟨rfl, by rw [hU], by rw [hU]; exact hP, va_K.moved hW.alike hK, hD.weaken (fun _ _ _ _ => trivial)⟩⟩
theorem x_preI {s : State} {H : Heap} {D : va_G} {tys : List (ClassId × FieldType)} {ws : va_W} {A : Nat → Prop} {As : List Value} (hK : va_K D vwCl tys s) (hP : va_P D vwCl ws H) (hD : va_D A ws) : PreS s H (va_Pc As (PreW D tys ws H.size)) As :=
  ⟨fun a U g mk q => by obtain ⟨q0, q1, qP, qK, qD⟩ := q; exact ⟨q0, q1, qP, va_K.moved (u := U) (U := U.calling g mk a) (Vm.Alike.refl U.vm) qK, qD⟩, fun U hU hW => ⟨rfl, by rw [hU], by rw [hU]; exact hP, va_K.moved hW.alike hK, hD.weaken (fun _ _ _ _ => trivial)⟩⟩
theorem x_preVR {s : State} {H : Heap} {D : va_G} {tys : List (ClassId × FieldType)} {ws : va_W} {b ci q0 N : Nat} {C : String} {T : u_T} {fs As : List Value} (hK : va_K D vwCl tys s) (hP : va_P D vwCl ws H) (hc : vwCl[ci]? = some (C, T, N)) (he : ws[q0]? = some (b, .inr (ci, fs))) : PreV s H C b (va_Pc (.ref b :: As) (RoW D tys ws)) As :=
  ⟨fun a U g mk q => by obtain ⟨q0, qP, qK⟩ := q; exact ⟨q0, qP, va_K.moved (u := U) (U := U.calling g mk a) (Vm.Alike.refl U.vm) qK⟩, va_recv hK hP hc he, fun U hU hW => ⟨rfl, by rw [hU]; exact hP, va_K.moved hW.alike hK⟩⟩
theorem x_preSR {s : State} {H : Heap} {D : va_G} {tys : List (ClassId × FieldType)} {ws : va_W} {As : List Value} (hK : va_K D vwCl tys s) (hP : va_P D vwCl ws H) : PreS s H (va_Pc As (RoW D tys ws)) As :=
  ⟨fun a U g mk q => by obtain ⟨q0, qP, qK⟩ := q; exact ⟨q0, qP, va_K.moved (u := U) (U := U.calling g mk a) (Vm.Alike.refl U.vm) qK⟩, fun U hU hW => ⟨rfl, by rw [hU]; exact hP, va_K.moved hW.alike hK⟩⟩
theorem x_preS0 {s : State} {H : Heap} {As : List Value} : PreS s H (va_Pc As (fun _ => True)) As := ⟨fun _ _ _ _ q => q, fun _ _ _ => ⟨rfl, trivial⟩⟩
section XC
variable {p : Program} {l : Launch} {e : Env} {R : Room} {s : State} {m : MethodId} {args : Array Value} {below : List Frame} {meth : Method} {c : Code} {H : Heap} {locs : List Loc} {cells slots : Nat} {Q : State → Prop}
variable {pc : Nat} {ls : Array Slot} {rest st0 : List Value} {a : Array Value} {A : Nat → Prop} {H0 : Heap} {D : va_G} {tys : List (ClassId × FieldType)} {ws : va_W}
theorem x_free (hD : va_D A ws) (hS : va_S A H0 H locs) (hA : ∀ q, H0.size ≤ q → A q) : ∀ q, va_A ws H.size q → A q := by
  intro q h
  rcases h with ⟨k, e, h⟩ | h
  · exact hD.2 k (q, e) h
  · exact hA q (Nat.le_trans hS.1 h)
/-- a call that changes the whole world -/
theorem x_callv {S : Type} {post : S → Prop} {wn : S → va_W} (hr : va_Run p l e R s m args below meth c H locs cells slots 0 0 (F0 m pc ls st0) rest (va_Qv post (fun u => PosW D tys (va_A ws H.size) (wn u)) (va_A ws H.size) a) (va_A ws H.size)) (hD : va_D A ws) (hS : va_S A H0 H locs) (hA : ∀ q, H0.size ≤ q → A q)
    (kk : ∀ (u : S) (H1 : Heap) (locs1 : List Loc), post u → va_P D vwCl (wn u) H1 → va_D A (wn u) → va_S A H0 H1 locs1 → W p l e R s m args below meth c H1 locs1 cells slots Q (F0 m (pc + 3) ls rest)) : W p l e R s m args below meth c H locs cells slots Q (F0 m pc ls st0) := by
  have hF := x_free hD hS hA
  refine va_callv hr hS (fun q _ h => hF q h) hF (fun u t H1 locs1 ht hvm hw hB hz hk hS1 => ?_)
  obtain ⟨hP1, hK1, hD1⟩ := hB
  rw [ht] at hP1
  exact kk u H1 locs1 hw hP1 (hD1.weaken (fun k q _ h => hF q.1 h)) hS1
theorem x_calli {S : Type} {post : Int32 → S → Prop} {wn : S → va_W} (hr : va_Run p l e R s m args below meth c H locs cells slots 0 0 (F0 m pc ls st0) rest (va_Qi post (fun u => PosW D tys (va_A ws H.size) (wn u)) (va_A ws H.size) a) (va_A ws H.size)) (hD : va_D A ws) (hS : va_S A H0 H locs) (hA : ∀ q, H0.size ≤ q → A q)
    (kk : ∀ (r : Int32) (u : S) (H1 : Heap) (locs1 : List Loc), post r u → va_P D vwCl (wn u) H1 → va_D A (wn u) → va_S A H0 H1 locs1 → W p l e R s m args below meth c H1 locs1 cells slots Q (F0 m (pc + 3) ls (.int r :: rest))) : W p l e R s m args below meth c H locs cells slots Q (F0 m pc ls st0) := by
  have hF := x_free hD hS hA
  refine va_calli hr hS (fun q _ h => hF q h) hF (fun r u t H1 locs1 ht hvm hw hB hz hk hS1 => ?_)
  obtain ⟨hP1, hK1, hD1⟩ := hB
  rw [ht] at hP1
  exact kk r u H1 locs1 hw hP1 (hD1.weaken (fun k q _ h => hF q.1 h)) hS1
end XC
section XG
variable {p : Program} {l : Launch} {e : Env} {R : Room} {s : State} {m : MethodId} {args : Array Value} {below : List Frame} {meth : Method} {c : Code} {H : Heap} {locs : List Loc} {cells slots : Nat} {Q : State → Prop}
variable {cc : ByteArray} {pc : Nat} {ls : Array Slot} {rest : List Value} {D : va_G} {A : Nat → Prop} {tys : List (ClassId × FieldType)} {ws : va_W} {H0 : Heap} {b index : Nat} {fs : List Value} {v : Value}
theorem x_getT (hx : p.tables.exec = Jvm.exec) (hb : c.code = cc) (hts : ∀ w ∈ lw_all, w.before args s = true) (hown : s.vm.findClass RX0 = some m.cls) (hK : va_K D vwCl tys s) (hP : va_P D vwCl ((b, .inr (0, fs)) :: ws) H) (k : Nat) (hk : k < 15) (hlink : Cond.fieldLink RX0 index RX0 (TX0 k).2.1 (TX0 k).2.2.1 ∈ lw_all) (h0 : (TX0 k).1 = RX0) (hv : fs[k]? = some v) (hdg : decode cc pc = .ok (.getfield index, 3))
    (kk : W p l e R s m args below meth c H locs cells slots Q (F0 m (pc + 3) ls (v :: rest))) : W p l e R s m args below meth c H locs cells slots Q (F0 m pc ls (.ref b :: rest)) :=
  va_get (D := D) (ci := 0) (v := v) (C := RX0) (T := TX0) (N := 15) hx hb hts in_X0 hown hK hP 0 rfl rfl k hk (hts _ hlink) (fun _ h9 => by rw [h0] at h9; exact h9) hv hdg kk
theorem x_putT (hx : p.tables.exec = Jvm.exec) (hb : c.code = cc) (hts : ∀ w ∈ lw_all, w.before args s = true) (hown : s.vm.findClass RX0 = some m.cls) (hK : va_K D vwCl tys s) (hP : va_P D vwCl ((b, .inr (0, fs)) :: ws) H) (hD : va_D A ((b, .inr (0, fs)) :: ws)) (hS : va_S A H0 H locs) (k : Nat) (hk : k < 15) (hlink : Cond.fieldLink RX0 index RX0 (TX0 k).2.1 (TX0 k).2.2.1 ∈ lw_all) (h0 : (TX0 k).1 = RX0) (hfin : (TX0 k).2.2.2 = false) {ty : FieldType} (hd : parseFieldDescriptor (TX0 k).2.2.1 = some ty) (hn : narrow ty v = v) (hfit : fits ty v = true) (hl : k < fs.length) (hdg : decode cc pc = .ok (.putfield index, 3))
    (kk : ∀ (H1 : Heap) (locs1 : List Loc), va_P D vwCl ((b, .inr (0, fs.set k v)) :: ws) H1 → va_D A ((b, .inr (0, fs.set k v)) :: ws) → va_S A H0 H1 locs1 → W p l e R s m args below meth c H1 locs1 cells slots Q (F0 m (pc + 3) ls rest)) : W p l e R s m args below meth c H locs cells slots Q (F0 m pc ls (v :: .ref b :: rest)) :=
  va_put (D := D) (ci := 0) (v := v) (ty := ty) (C := RX0) (T := TX0) (N := 15) hx hb hts in_X0 tyX0 tyX0_ok nmX0 hown hK hP hD hS 0 rfl rfl k hk (hts _ hlink) (fun _ h9 => by rw [h0] at h9; exact h9) hfin hd hn hfit hl hdg kk
theorem x_getM (hx : p.tables.exec = Jvm.exec) (hb : c.code = cc) (hts : ∀ w ∈ lw_all, w.before args s = true) (hown : s.vm.findClass RX1 = some m.cls) (hK : va_K D vwCl tys s) (hP : va_P D vwCl ((b, .inr (1, fs)) :: ws) H) (k : Nat) (hk : k < 5) (hlink : Cond.fieldLink RX1 index RX1 (TX1 k).2.1 (TX1 k).2.2.1 ∈ lw_all) (h0 : (TX1 k).1 = RX1) (hv : fs[k]? = some v) (hdg : decode cc pc = .ok (.getfield index, 3))
    (kk : W p l e R s m args below meth c H locs cells slots Q (F0 m (pc + 3) ls (v :: rest))) : W p l e R s m args below meth c H locs cells slots Q (F0 m pc ls (.ref b :: rest)) :=
  va_get (D := D) (ci := 1) (v := v) (C := RX1) (T := TX1) (N := 5) hx hb hts in_X1 hown hK hP 0 rfl rfl k hk (hts _ hlink) (fun _ h9 => by rw [h0] at h9; exact h9) hv hdg kk
theorem x_putM (hx : p.tables.exec = Jvm.exec) (hb : c.code = cc) (hts : ∀ w ∈ lw_all, w.before args s = true) (hown : s.vm.findClass RX1 = some m.cls) (hK : va_K D vwCl tys s) (hP : va_P D vwCl ((b, .inr (1, fs)) :: ws) H) (hD : va_D A ((b, .inr (1, fs)) :: ws)) (hS : va_S A H0 H locs) (k : Nat) (hk : k < 5) (hlink : Cond.fieldLink RX1 index RX1 (TX1 k).2.1 (TX1 k).2.2.1 ∈ lw_all) (h0 : (TX1 k).1 = RX1) (hfin : (TX1 k).2.2.2 = false) {ty : FieldType} (hd : parseFieldDescriptor (TX1 k).2.2.1 = some ty) (hn : narrow ty v = v) (hfit : fits ty v = true) (hl : k < fs.length) (hdg : decode cc pc = .ok (.putfield index, 3))
    (kk : ∀ (H1 : Heap) (locs1 : List Loc), va_P D vwCl ((b, .inr (1, fs.set k v)) :: ws) H1 → va_D A ((b, .inr (1, fs.set k v)) :: ws) → va_S A H0 H1 locs1 → W p l e R s m args below meth c H1 locs1 cells slots Q (F0 m (pc + 3) ls rest)) : W p l e R s m args below meth c H locs cells slots Q (F0 m pc ls (v :: .ref b :: rest)) :=
  va_put (D := D) (ci := 1) (v := v) (ty := ty) (C := RX1) (T := TX1) (N := 5) hx hb hts in_X1 tyX1 tyX1_ok nmX1 hown hK hP hD hS 0 rfl rfl k hk (hts _ hlink) (fun _ h9 => by rw [h0] at h9; exact h9) hfin hd hn hfit hl hdg kk
end XG
end
section
/-! ===== the plain law: rules, matching, the first rule, the cut of an axis, the board, the counts ===== -/
abbrev pV : Type := Nat × Nat × Nat
abbrev pS : Type := Nat × (Nat → pV) × Nat
/-- the rule v matches the packet (s, d, t) -/
def p_m (v : pV) (s d t : Nat) : Bool := decide (v.1 / 32 ≤ s ∧ s ≤ v.1 % 32) && (decide (v.2.1 / 32 ≤ d ∧ d ≤ v.2.1 % 32) && decide (v.2.2 / 2 ^ t % 2 = 1))
/-- the first of n rules that matches (n: none); the same with rule w left out -/
def p_D (n : Nat) (q : Nat → pV) (s d t : Nat) : Nat := fa_first (fun i => p_m (q i) s d t) n
def p_D2 (n : Nat) (q : Nat → pV) (w s d t : Nat) : Nat := fa_first (fun i => p_m (q i) s d t && decide (i ≠ w)) n
def p_cd (n k : Nat) : Int32 := if k < n then nI k else -1
def p_act (n : Nat) (q : Nat → pV) (fb k : Nat) : Nat := if k < n then (q k).2.2 / 16 else fb
/-- a packet by its number -/
def p_DP (n : Nat) (q : Nat → pV) (x : Nat) : Nat := p_D n q (x / 128) (x / 4 % 32) (x % 4)
def p_DP2 (n : Nat) (q : Nat → pV) (w x : Nat) : Nat := p_D2 n q w (x / 128) (x / 4 % 32) (x % 4)
def p_ok (n : Nat) (q : Nat → pV) (fb : Nat) : Prop := n ≤ 12 ∧ fb < 4 ∧ ∀ i, i < n → (q i).1 < 1024 ∧ (q i).2.1 < 1024 ∧ (q i).2.2 < 64
theorem p_first_cong {p p' : Nat → Bool} : ∀ {n : Nat}, (∀ i, i < n → p i = p' i) → fa_first p n = fa_first p' n
  | 0, _ => rfl
  | n + 1, h => by
    rw [fa_first, fa_first, p_first_cong (n := n) (fun i hi => h i (by omega)), h n (by omega)]
theorem p_first_is {p : Nat → Bool} {n k : Nat} (hk : k ≤ n) (h1 : ∀ i, i < k → p i = false) (h2 : k < n → p k = true) : fa_first p n = k := by
  have a := fa_first_le p n
  rcases Nat.lt_trichotomy (fa_first p n) k with h | h | h
  · have h3 := fa_first_yes p n (by omega)
    rw [h1 _ h] at h3
    cases h3
  · exact h
  · have h3 := fa_first_no p n k h
    rw [h2 (by omega)] at h3
    cases h3
theorem p_first_lt {p : Nat → Bool} {n : Nat} : fa_first p n < n ↔ ∃ i, i < n ∧ p i = true := by
  constructor
  · intro h
    exact ⟨_, h, fa_first_yes p n h⟩
  · intro ⟨i, hi, h⟩
    rcases Nat.lt_or_ge (fa_first p n) n with h2 | h2
    · exact h2
    · have h3 := fa_first_no p n i (by omega)
      rw [h] at h3
      cases h3
theorem p_D_le (n : Nat) (q : Nat → pV) (s d t : Nat) : p_D n q s d t ≤ n := fa_first_le _ n
theorem p_D2_le (n : Nat) (q : Nat → pV) (w s d t : Nat) : p_D2 n q w s d t ≤ n := fa_first_le _ n
theorem p_D2_n (n : Nat) (q : Nat → pV) (s d t : Nat) : p_D2 n q n s d t = p_D n q s d t := p_first_cong fun i hi => by
  rw [decide_eq_true (show i ≠ n by omega), Bool.and_true]
theorem p_cd_eq {n k j : Nat} (hn : n ≤ 12) (hj : j < n) (hk : k ≤ n) : p_cd n k = nI j ↔ k = j := by
  unfold p_cd
  split
  · exact nI_eq (by omega) (by omega)
  · constructor
    · intro h
      have h2 := congrArg Int32.toInt h
      rw [nI_toInt (by omega)] at h2
      have h3 : (-1 : Int32).toInt = -1 := by decide
      omega
    · intro h
      omega
theorem p_cd_m1 {n k : Nat} (hn : n ≤ 12) (hk : k ≤ n) : p_cd n k = -1 ↔ k = n := by
  unfold p_cd
  split
  · constructor
    · intro h
      have h2 := congrArg Int32.toInt h
      rw [nI_toInt (by omega)] at h2
      have h3 : (-1 : Int32).toInt = -1 := by decide
      omega
    · intro h
      omega
  · constructor
    · intro h
      omega
    · intro h
      rfl
theorem p_cd_byte {n k : Nat} (hn : n ≤ 12) : (p_cd n k).toInt8.toInt32 = p_cd n k := by
  unfold p_cd
  split
  · exact fa_byte_small (by omega)
  · decide
/-! ===== an axis cut at its edges ===== -/
def p_in (f : Nat → Nat) (i x : Nat) : Prop := f i / 32 ≤ x ∧ x ≤ f i % 32
def p_cut (f : Nat → Nat) (n C : Nat) (g : Nat → Nat) : Prop := 0 < C ∧ C ≤ 25 ∧ g 0 = 0 ∧ g C = 32 ∧ (∀ c, c < C → g c < g (c + 1)) ∧ ∀ c x i, c < C → g c ≤ x → x < g (c + 1) → i < n → (p_in f i x ↔ p_in f i (g c))
def p_eb (f : Nat → Nat) (x : Nat) : Nat → Bool
  | 0 => decide (x = 0)
  | n + 1 => p_eb f x n || (decide (f n / 32 = x) || decide (f n % 32 + 1 = x))
theorem p_eb_iff (f : Nat → Nat) (x : Nat) : ∀ n, p_eb f x n = true ↔ x = 0 ∨ ∃ i, i < n ∧ (f i / 32 = x ∨ f i % 32 + 1 = x)
  | 0 => by
    unfold p_eb
    simp
  | n + 1 => by
    unfold p_eb
    rw [Bool.or_eq_true, Bool.or_eq_true, decide_eq_true_iff, decide_eq_true_iff, p_eb_iff f x n]
    constructor
    · rintro ((h | ⟨i, hi, h⟩) | h)
      · exact Or.inl h
      · exact Or.inr ⟨i, by omega, h⟩
      · exact Or.inr ⟨n, by omega, h⟩
    · rintro (h | ⟨i, hi, h⟩)
      · exact Or.inl (Or.inl h)
      · by_cases e : i = n
        · subst e
          exact Or.inr h
        · exact Or.inl (Or.inr ⟨i, by omega, h⟩)
theorem p_cnt_or (a : Nat → Bool) (b : Nat) : ∀ X, fa_cnt (fun y => a y || decide (b = y)) X ≤ fa_cnt a X + if b < X then 1 else 0
  | 0 => by simp [fa_cnt]
  | X + 1 => by
    have ih := p_cnt_or a b X
    rw [fa_cnt, fa_cnt]
    by_cases h : b = X
    · subst h
      rw [if_neg (Nat.lt_irrefl b)] at ih
      rw [if_pos (Nat.lt_succ_self b), decide_eq_true rfl, Bool.or_true]
      simp only [if_true]
      split <;> omega
    · rw [decide_eq_false h, Bool.or_false]
      have h2 : (if b < X then 1 else 0) ≤ if b < X + 1 then 1 else 0 := by
        split
        · rw [if_pos (by omega)]; exact Nat.le_refl 1
        · exact Nat.zero_le _
      omega
theorem p_cnt_eb (f : Nat → Nat) (X : Nat) : ∀ n, fa_cnt (fun y => p_eb f y n) X ≤ 2 * n + 1
  | 0 => by
    have h := p_cnt_or (fun _ => false) 0 X
    have h2 : fa_cnt (fun y => p_eb f y 0) X = fa_cnt (fun y => (fun _ => false) y || decide (0 = y)) X := fa_cnt_cong fun k _ => by
      unfold p_eb
      by_cases e : k = 0
      · subst e; rfl
      · rw [decide_eq_false e, decide_eq_false (fun h => e h.symm)]; rfl
    have h3 : ∀ Y, fa_cnt (fun _ => false) Y = 0 := fun Y => by
      induction Y with
      | zero => rfl
      | succ Y ih => rw [fa_cnt_no rfl, ih]
    rw [h2]
    refine Nat.le_trans h ?_
    rw [h3]
    split <;> omega
  | n + 1 => by
    have ih := p_cnt_eb f X n
    have h1 := p_cnt_or (fun y => p_eb f y n) (f n / 32) X
    have h2 := p_cnt_or (fun y => p_eb f y n || decide (f n / 32 = y)) (f n % 32 + 1) X
    have h3 : fa_cnt (fun y => p_eb f y (n + 1)) X = fa_cnt (fun y => (p_eb f y n || decide (f n / 32 = y)) || decide (f n % 32 + 1 = y)) X := fa_cnt_cong fun k _ => by
      show (p_eb f k n || _) = _
      rw [Bool.or_assoc]
    rw [h3]
    have h4 : (if f n / 32 < X then 1 else 0) ≤ 1 := by split <;> omega
    have h5 : (if f n % 32 + 1 < X then 1 else 0) ≤ 1 := by split <;> omega
    have h6 : 2 * (n + 1) + 1 = 2 * n + 1 + 1 + 1 := by omega
    rw [h6]
    exact Nat.le_trans h2 (Nat.add_le_add (Nat.le_trans h1 (Nat.add_le_add ih h4)) h5)
/-- the edges below x, in order -/
def p_pre (f : Nat → Nat) (n x C : Nat) (g : Nat → Nat) : Prop := C = fa_cnt (fun y => p_eb f y n) x ∧ (0 < x → 0 < C ∧ g 0 = 0) ∧ (∀ c, c + 1 < C → g c < g (c + 1)) ∧ (∀ c, c < C → g c < x) ∧ ∀ y, y < x → p_eb f y n = true → ∃ c, c < C ∧ g c = y
def p_up (g : Nat → Nat) (k v : Nat) : Nat → Nat := fun j => if j = k then v else g j
theorem p_up_s {g : Nat → Nat} {k v : Nat} : p_up g k v k = v := if_pos rfl
theorem p_up_n {g : Nat → Nat} {k v j : Nat} (h : j ≠ k) : p_up g k v j = g j := if_neg h
theorem p_pre_0 (f : Nat → Nat) (n : Nat) (g : Nat → Nat) : p_pre f n 0 0 g := ⟨rfl, fun h => absurd h (Nat.lt_irrefl 0), fun c h => absurd h (Nat.not_lt_zero _), fun c h => absurd h (Nat.not_lt_zero _), fun y h => absurd h (Nat.not_lt_zero _)⟩
theorem p_pre_le {f : Nat → Nat} {n x C : Nat} {g : Nat → Nat} (hn : n ≤ 12) (h : p_pre f n x C g) : C ≤ 25 := by
  rw [h.1]
  have := p_cnt_eb f x n
  omega
theorem p_pre_yes {f : Nat → Nat} {n x C : Nat} {g : Nat → Nat} (h : p_pre f n x C g) (hx : p_eb f x n = true) : p_pre f n (x + 1) (C + 1) (p_up g C x) := by
  obtain ⟨h1, h2, h3, h4, h5⟩ := h
  refine ⟨by rw [fa_cnt_yes (p := fun y => p_eb f y n) hx, h1], fun _ => ⟨by omega, ?_⟩, ?_, ?_, ?_⟩
  · by_cases e : x = 0
    · subst e
      have hC : C = 0 := h1
      subst hC
      exact p_up_s
    · have := h2 (by omega)
      rw [p_up_n (by omega)]
      exact this.2
  · intro c hc
    rw [p_up_n (by omega)]
    by_cases e : c + 1 = C
    · rw [e, p_up_s]
      exact h4 c (by omega)
    · rw [p_up_n e]
      exact h3 c (by omega)
  · intro c hc
    by_cases e : c = C
    · rw [e, p_up_s]; omega
    · rw [p_up_n e]
      have := h4 c (by omega)
      omega
  · intro y hy he
    by_cases e : y = x
    · exact ⟨C, by omega, by rw [p_up_s, e]⟩
    · obtain ⟨c, hc, hg⟩ := h5 y (by omega) he
      exact ⟨c, by omega, by rw [p_up_n (by omega)]; exact hg⟩
theorem p_pre_no {f : Nat → Nat} {n x C : Nat} {g : Nat → Nat} (h : p_pre f n x C g) (hx : p_eb f x n = false) : p_pre f n (x + 1) C g := by
  obtain ⟨h1, h2, h3, h4, h5⟩ := h
  have hx0 : 0 < x := by
    rcases Nat.eq_zero_or_pos x with e | e
    · subst e
      rw [(p_eb_iff f 0 n).mpr (Or.inl rfl)] at hx
      cases hx
    · exact e
  refine ⟨by rw [fa_cnt_no (p := fun y => p_eb f y n) hx, h1], fun _ => h2 hx0, h3, fun c hc => Nat.lt_succ_of_lt (h4 c hc), ?_⟩
  intro y hy he
  by_cases e : y = x
  · subst e
    rw [hx] at he
    cases he
  · exact h5 y (by omega) he
theorem p_mono {C : Nat} {g : Nat → Nat} (h : ∀ c, c < C → g c < g (c + 1)) : ∀ {a b : Nat}, a < b → b ≤ C → g a < g b := by
  intro a b hab
  induction b with
  | zero => omega
  | succ b ih =>
    intro hb
    have h1 := h b (by omega)
    by_cases e : a = b
    · rw [e]; exact h1
    · have := ih (by omega) (by omega)
      omega
theorem p_pre_end {f : Nat → Nat} {n C : Nat} {g : Nat → Nat} (hn : n ≤ 12) (h : p_pre f n 32 C g) : p_cut f n C (p_up g C 32) := by
  have hC := p_pre_le hn h
  obtain ⟨h1, h2, h3, h4, h5⟩ := h
  obtain ⟨hp, hg0⟩ := h2 (by decide)
  have hup : ∀ c, c < C → p_up g C 32 c < p_up g C 32 (c + 1) := by
    intro c hc
    rw [p_up_n (by omega)]
    by_cases e : c + 1 = C
    · rw [e, p_up_s]
      exact h4 c hc
    · rw [p_up_n e]
      exact h3 c (by omega)
  refine ⟨hp, hC, by rw [p_up_n (by omega)]; exact hg0, p_up_s, hup, ?_⟩
  intro c x i hc hx1 hx2 hi
  have key : ∀ k, g c + k < p_up g C 32 (c + 1) → (p_in f i (g c + k) ↔ p_in f i (g c)) := by
    intro k
    induction k with
    | zero => intro _; exact Iff.rfl
    | succ k ih =>
      intro hk
      rw [← ih (by omega)]
      have hb : g c + (k + 1) < 32 := by
        by_cases e : c + 1 = C
        · rw [e, p_up_s] at hk; exact hk
        · rw [p_up_n e] at hk
          have := h4 (c + 1) (by omega)
          omega
      have hne : ¬ p_eb f (g c + (k + 1)) n = true := by
        intro he
        obtain ⟨c', hc', hg'⟩ := h5 _ hb he
        have q1 : p_up g C 32 c' = g c' := p_up_n (by omega)
        have q2 : p_up g C 32 c = g c := p_up_n (by omega)
        rcases Nat.lt_or_ge c c' with q | q
        · by_cases e : c + 1 = c'
          · rw [e, q1] at hk; omega
          · have := p_mono hup (show c + 1 < c' by omega) (by omega)
            omega
        · by_cases e : c' = c
          · rw [e] at hg'; omega
          · have := p_mono hup (show c' < c by omega) (by omega)
            omega
      rw [p_eb_iff] at hne
      have n1 : ¬ f i / 32 = g c + (k + 1) := fun e => hne (Or.inr ⟨i, hi, Or.inl e⟩)
      have n2 : ¬ f i % 32 + 1 = g c + (k + 1) := fun e => hne (Or.inr ⟨i, hi, Or.inr e⟩)
      unfold p_in
      omega
  have hq : p_up g C 32 c = g c := p_up_n (by omega)
  rw [hq] at hx1 ⊢
  have := key (x - g c) (by omega)
  rw [show g c + (x - g c) = x by omega] at this
  exact this
/-- every number below 32 lies in one interval -/
theorem p_cut_find {f : Nat → Nat} {n C : Nat} {g : Nat → Nat} (h : p_cut f n C g) {x : Nat} (hx : x < 32) : ∃ c, c < C ∧ g c ≤ x ∧ x < g (c + 1) := by
  obtain ⟨hp, hC, h0, h32, hm, -⟩ := h
  have key : ∀ k, k ≤ C → x < g k → ∃ c, c < k ∧ g c ≤ x ∧ x < g (c + 1) := by
    intro k
    induction k with
    | zero => intro _ h; omega
    | succ k ih =>
      intro hk h
      by_cases e : g k ≤ x
      · exact ⟨k, by omega, e, h⟩
      · obtain ⟨c, hc, h1, h2⟩ := ih (by omega) (by omega)
        exact ⟨c, by omega, h1, h2⟩
  obtain ⟨c, hc, h1, h2⟩ := key C (Nat.le_refl C) (by omega)
  exact ⟨c, hc, h1, h2⟩
theorem p_cut_lt {f : Nat → Nat} {n C : Nat} {g : Nat → Nat} (h : p_cut f n C g) {c : Nat} (hc : c < C) : g c < 32 := by
  have := p_mono h.2.2.2.2.1 hc (Nat.le_refl C)
  rw [h.2.2.2.1] at this
  exact this
theorem p_cut_le {f : Nat → Nat} {n C : Nat} {g : Nat → Nat} (h : p_cut f n C g) {c : Nat} (hc : c ≤ C) : g c ≤ 32 := by
  by_cases e : c = C
  · rw [e, h.2.2.2.1]; exact Nat.le_refl 32
  · exact Nat.le_of_lt (p_cut_lt h (by omega))
theorem p_cut_one {f : Nat → Nat} {n C : Nat} {g : Nat → Nat} (h : p_cut f n C g) {c c' x : Nat} (hc : c < C) (hc' : c' < C) (h1 : g c ≤ x) (h2 : x < g (c + 1)) (h3 : g c' ≤ x) (h4 : x < g (c' + 1)) : c = c' := by
  rcases Nat.lt_trichotomy c c' with q | q | q
  · by_cases e : c + 1 = c'
    · rw [e] at h2; omega
    · have := p_mono h.2.2.2.2.1 (show c + 1 < c' by omega) (by omega)
      omega
  · exact q
  · by_cases e : c' + 1 = c
    · rw [e] at h4; omega
    · have := p_mono h.2.2.2.2.1 (show c' + 1 < c by omega) (by omega)
      omega
/-! ===== a field stands for its packets ===== -/
theorem p_m_field {n C R : Nat} {q : Nat → pV} {g h : Nat → Nat} (hc : p_cut (fun i => (q i).1) n C g) (hr : p_cut (fun i => (q i).2.1) n R h) {c r s d : Nat} (h1 : c < C) (h2 : g c ≤ s) (h3 : s < g (c + 1)) (h4 : r < R) (h5 : h r ≤ d) (h6 : d < h (r + 1)) {i : Nat} (hi : i < n) (t : Nat) : p_m (q i) s d t = p_m (q i) (g c) (h r) t := by
  have a := hc.2.2.2.2.2 c s i h1 h2 h3 hi
  have b := hr.2.2.2.2.2 r d i h4 h5 h6 hi
  unfold p_in at a b
  unfold p_m
  rw [decide_eq_decide.mpr a, decide_eq_decide.mpr b]
theorem p_D_field {n C R : Nat} {q : Nat → pV} {g h : Nat → Nat} (hc : p_cut (fun i => (q i).1) n C g) (hr : p_cut (fun i => (q i).2.1) n R h) {c r s d : Nat} (h1 : c < C) (h2 : g c ≤ s) (h3 : s < g (c + 1)) (h4 : r < R) (h5 : h r ≤ d) (h6 : d < h (r + 1)) (t : Nat) : p_D n q s d t = p_D n q (g c) (h r) t :=
  p_first_cong fun i hi => p_m_field hc hr h1 h2 h3 h4 h5 h6 hi t
theorem p_D2_field {n C R : Nat} {q : Nat → pV} {g h : Nat → Nat} (hc : p_cut (fun i => (q i).1) n C g) (hr : p_cut (fun i => (q i).2.1) n R h) {c r s d : Nat} (h1 : c < C) (h2 : g c ≤ s) (h3 : s < g (c + 1)) (h4 : r < R) (h5 : h r ≤ d) (h6 : d < h (r + 1)) (w t : Nat) : p_D2 n q w s d t = p_D2 n q w (g c) (h r) t :=
  p_first_cong fun i hi => by rw [p_m_field hc hr h1 h2 h3 h4 h5 h6 hi t]
/-- the packet at a field's least corner -/
theorem p_pk {a b t : Nat} (ha : a < 32) (hb : b < 32) (ht : t < 4) : (128 * a + 4 * b + t) / 128 = a ∧ (128 * a + 4 * b + t) / 4 % 32 = b ∧ (128 * a + 4 * b + t) % 4 = t ∧ 128 * a + 4 * b + t < 4096 := by omega
theorem p_DP_pk (n : Nat) (q : Nat → pV) {a b t : Nat} (ha : a < 32) (hb : b < 32) (ht : t < 4) : p_DP n q (128 * a + 4 * b + t) = p_D n q a b t := by
  obtain ⟨e1, e2, e3, -⟩ := p_pk ha hb ht
  unfold p_DP
  rw [e1, e2, e3]
theorem p_DP2_pk (n : Nat) (q : Nat → pV) (w : Nat) {a b t : Nat} (ha : a < 32) (hb : b < 32) (ht : t < 4) : p_DP2 n q w (128 * a + 4 * b + t) = p_D2 n q w a b t := by
  obtain ⟨e1, e2, e3, -⟩ := p_pk ha hb ht
  unfold p_DP2
  rw [e1, e2, e3]
/-! ===== the board ===== -/
def p_Bd (n : Nat) (q : Nat → pV) (C R : Nat) (g h : Nat → Nat) (fi se : Nat → Int32) : Prop := ∀ c r t, c < C → r < R → t < 4 → fi (104 * c + 4 * r + t) = p_cd n (p_D n q (g c) (h r) t) ∧ se (104 * c + 4 * r + t) = p_cd n (p_D2 n q (p_D n q (g c) (h r) t) (g c) (h r) t)
def p_Ed (n : Nat) (q : Nat → pV) (C R : Nat) (g h : Nat → Nat) (co rc : Int32) (cf rf : Nat → Int32) : Prop := co = nI C ∧ rc = nI R ∧ p_cut (fun i => (q i).1) n C g ∧ p_cut (fun i => (q i).2.1) n R h ∧ (∀ c, c ≤ C → cf c = nI (g c)) ∧ ∀ r, r ≤ R → rf r = nI (h r)
def p_Board (n : Nat) (q : Nat → pV) (co rc : Int32) (cf rf fi se : Nat → Int32) : Prop := ∃ (C R : Nat) (g h : Nat → Nat), p_Ed n q C R g h co rc cf rf ∧ p_Bd n q C R g h fi se
/-- the rules from p on alone -/
def p_DF (n : Nat) (q : Nat → pV) (p s d t : Nat) : Nat := fa_first (fun i => p_m (q i) s d t && decide (p ≤ i)) n
def p_DF2 (n : Nat) (q : Nat → pV) (p s d t : Nat) : Nat := fa_first (fun i => p_m (q i) s d t && decide (p ≤ i ∧ i ≠ p_DF n q p s d t)) n
theorem p_DF_n (n : Nat) (q : Nat → pV) (s d t : Nat) : p_DF n q n s d t = n := p_first_is (Nat.le_refl n) (fun i hi => by rw [decide_eq_false (by omega), Bool.and_false]) (fun h => absurd h (Nat.lt_irrefl n))
theorem p_DF2_n (n : Nat) (q : Nat → pV) (s d t : Nat) : p_DF2 n q n s d t = n := p_first_is (Nat.le_refl n) (fun i hi => by rw [decide_eq_false (by omega), Bool.and_false]) (fun h => absurd h (Nat.lt_irrefl n))
theorem p_DF_0 (n : Nat) (q : Nat → pV) (s d t : Nat) : p_DF n q 0 s d t = p_D n q s d t := p_first_cong fun i _ => by rw [decide_eq_true (Nat.zero_le i), Bool.and_true]
theorem p_DF2_0 (n : Nat) (q : Nat → pV) (s d t : Nat) : p_DF2 n q 0 s d t = p_D2 n q (p_D n q s d t) s d t := p_first_cong fun i _ => by
  rw [p_DF_0]
  congr 1
  exact decide_eq_decide.mpr ⟨fun h => h.2, fun h => ⟨Nat.zero_le i, h⟩⟩
theorem p_DF_yes {n : Nat} {q : Nat → pV} {p s d t : Nat} (hp : p < n) (h : p_m (q p) s d t = true) : p_DF n q p s d t = p ∧ p_DF2 n q p s d t = p_DF n q (p + 1) s d t := by
  have h1 : p_DF n q p s d t = p := p_first_is (by omega) (fun i hi => by rw [decide_eq_false (by omega), Bool.and_false]) (fun _ => by rw [h, decide_eq_true (Nat.le_refl p)]; rfl)
  refine ⟨h1, p_first_cong fun i hi => ?_⟩
  rw [h1]
  congr 1
  exact decide_eq_decide.mpr (by omega)
theorem p_DF_no {n : Nat} {q : Nat → pV} {p s d t : Nat} (h : p_m (q p) s d t = false) : p_DF n q p s d t = p_DF n q (p + 1) s d t ∧ p_DF2 n q p s d t = p_DF2 n q (p + 1) s d t := by
  have h1 : p_DF n q p s d t = p_DF n q (p + 1) s d t := p_first_cong fun i hi => by
    by_cases e : i = p
    · rw [e, h]; rfl
    · congr 1
      exact decide_eq_decide.mpr (by omega)
  refine ⟨h1, p_first_cong fun i hi => ?_⟩
  by_cases e : i = p
  · rw [e, h]; rfl
  · rw [h1]
    congr 1
    exact decide_eq_decide.mpr (by omega)
end
section
/-! ===== counts over all packets and over the fields ===== -/
def p_N (n : Nat) (q : Nat → pV) (k : Nat) : Nat := fb_sm (fun x => if p_DP n q x = k then 1 else 0) 4096
theorem p_sm_mul (f : Nat → Nat) (b : Nat) : ∀ a, fb_sm f (a * b) = fb_sm (fun i => fb_sm (fun j => f (i * b + j)) b) a
  | 0 => by rw [Nat.zero_mul]; rfl
  | a + 1 => by rw [Nat.succ_mul, fb_sm_split, fb_sm_succ, p_sm_mul f b a]
theorem p_sm_pk (I : Nat → Nat → Nat → Nat) : fb_sm (fun x => I (x / 128) (x / 4 % 32) (x % 4)) 4096 = fb_sm (fun s => fb_sm (fun d => fb_sm (fun t => I s d t) 4) 32) 32 := by
  have e := p_sm_mul (fun x => I (x / 128) (x / 4 % 32) (x % 4)) 128 32
  refine Eq.trans e (fb_sm_cong fun s hs => ?_)
  have e2 := p_sm_mul (fun j => I ((s * 128 + j) / 128) ((s * 128 + j) / 4 % 32) ((s * 128 + j) % 4)) 4 32
  refine Eq.trans e2 (fb_sm_cong fun d hd => fb_sm_cong fun t ht => ?_)
  show I ((s * 128 + (d * 4 + t)) / 128) ((s * 128 + (d * 4 + t)) / 4 % 32) ((s * 128 + (d * 4 + t)) % 4) = I s d t
  rw [show (s * 128 + (d * 4 + t)) / 128 = s by omega, show (s * 128 + (d * 4 + t)) / 4 % 32 = d by omega, show (s * 128 + (d * 4 + t)) % 4 = t by omega]
theorem p_sm_cut {C : Nat} {g : Nat → Nat} (G : Nat → Nat) (h0 : g 0 = 0) (hm : ∀ c, c < C → g c < g (c + 1)) (hc : ∀ c x, c < C → g c ≤ x → x < g (c + 1) → G x = G (g c)) : ∀ c, c ≤ C → fb_sm G (g c) = fb_sm (fun c => (g (c + 1) - g c) * G (g c)) c := by
  intro c
  induction c with
  | zero => intro _; rw [h0]; rfl
  | succ c ih =>
    intro hcC
    have h1 := hm c (by omega)
    rw [fb_sm_succ, ← ih (by omega)]
    have h2 : g (c + 1) = g c + (g (c + 1) - g c) := by omega
    rw [h2, fb_sm_split, show g c + (g (c + 1) - g c) - g c = g (c + 1) - g c by omega]
    congr 1
    rw [← fb_sm_const (G (g c))]
    exact fb_sm_cong fun k hk => hc c (g c + k) (by omega) (by omega) (by omega)
theorem p_sm_scale (a : Nat) (f : Nat → Nat) : ∀ n, a * fb_sm f n = fb_sm (fun k => a * f k) n
  | 0 => Nat.mul_zero a
  | n + 1 => by rw [fb_sm_succ, fb_sm_succ, Nat.mul_add, p_sm_scale a f n]
theorem p_count {n C R : Nat} {q : Nat → pV} {g h : Nat → Nat} (hc : p_cut (fun i => (q i).1) n C g) (hr : p_cut (fun i => (q i).2.1) n R h) (k : Nat) :
    p_N n q k = fb_sm (fun c => fb_sm (fun r => fb_sm (fun t => if p_D n q (g c) (h r) t = k then 1 else 0) 4 * ((g (c + 1) - g c) * (h (r + 1) - h r))) R) C := by
  refine Eq.trans (p_sm_pk (fun s d t => if p_D n q s d t = k then 1 else 0)) ?_
  have e := p_sm_cut (C := C) (g := g) (fun s => fb_sm (fun d => fb_sm (fun t => if p_D n q s d t = k then 1 else 0) 4) 32) hc.2.2.1 hc.2.2.2.2.1 (fun c x h1 h2 h3 => fb_sm_cong fun d hd => fb_sm_cong fun t _ => by
    obtain ⟨r, hr1, hr2, hr3⟩ := p_cut_find hr hd
    rw [p_D_field hc hr h1 h2 h3 hr1 hr2 hr3, p_D_field hc hr h1 (Nat.le_refl _) (hc.2.2.2.2.1 c h1) hr1 hr2 hr3]) C (Nat.le_refl C)
  rw [hc.2.2.2.1] at e
  refine Eq.trans e (fb_sm_cong fun c hcC => ?_)
  have e2 := p_sm_cut (C := R) (g := h) (fun d => fb_sm (fun t => if p_D n q (g c) d t = k then 1 else 0) 4) hr.2.2.1 hr.2.2.2.2.1 (fun r x h1 h2 h3 => fb_sm_cong fun t _ => by
    rw [p_D_field hc hr hcC (Nat.le_refl _) (hc.2.2.2.2.1 c hcC) h1 h2 h3]) R (Nat.le_refl R)
  rw [hr.2.2.2.1] at e2
  show (g (c + 1) - g c) * fb_sm (fun d => fb_sm (fun t => if p_D n q (g c) d t = k then 1 else 0) 4) 32 = _
  rw [e2, p_sm_scale]
  refine fb_sm_cong fun r _ => ?_
  show (g (c + 1) - g c) * ((h (r + 1) - h r) * fb_sm (fun t => if p_D n q (g c) (h r) t = k then 1 else 0) 4) = _
  rw [← Nat.mul_assoc, Nat.mul_comm]
theorem p_sm_0 {f : Nat → Nat} : ∀ {m : Nat}, (∀ j, j < m → f j = 0) → fb_sm f m = 0
  | 0, _ => rfl
  | m + 1, h => by rw [fb_sm_succ, p_sm_0 (fun j hj => h j (by omega)), h m (by omega)]
theorem p_sm_pt (F : Nat → Nat) (k : Nat) : ∀ m, fb_sm (fun j => if k = j then F j else 0) m = if k < m then F k else 0
  | 0 => by rw [if_neg (Nat.not_lt_zero k)]; rfl
  | m + 1 => by
    rw [fb_sm_succ, p_sm_pt F k m]
    by_cases h : k = m
    · subst h
      rw [if_neg (Nat.lt_irrefl k), if_pos rfl, if_pos (Nat.lt_succ_self k), Nat.zero_add]
    · rw [if_neg h, Nat.add_zero]
      by_cases h2 : k < m
      · rw [if_pos h2, if_pos (by omega)]
      · rw [if_neg h2, if_neg (by omega)]
theorem p_hav (E act : Nat → Nat) (n a : Nat) (hE : ∀ x, E x ≤ n) : ∀ X, fb_sm (fun x => if act (E x) = a then 1 else 0) X = fb_sm (fun j => if act j = a then fb_sm (fun x => if E x = j then 1 else 0) X else 0) (n + 1)
  | 0 => by
    symm
    refine p_sm_0 fun j _ => ?_
    split
    · rfl
    · rfl
  | X + 1 => by
    rw [fb_sm_succ, p_hav E act n a hE X]
    have h1 : fb_sm (fun j => if act j = a then fb_sm (fun x => if E x = j then 1 else 0) (X + 1) else 0) (n + 1) = fb_sm (fun j => (if act j = a then fb_sm (fun x => if E x = j then 1 else 0) X else 0) + if E X = j then (if act j = a then 1 else 0) else 0) (n + 1) := by
      refine fb_sm_cong fun j _ => ?_
      by_cases h : act j = a
      · simp only [h, if_true, fb_sm_succ]
      · simp only [h, if_false]
        split <;> rfl
    have h2 : E X < n + 1 := by have := hE X; omega
    rw [h1, fb_sm_add, p_sm_pt (fun j => if act j = a then 1 else 0), if_pos h2]
theorem p_N_le (n : Nat) (q : Nat → pV) (k : Nat) : p_N n q k ≤ 4096 := by
  have := fb_sm_bound (f := fun x => if p_DP n q x = k then 1 else 0) (c := 1) (n := 4096) (fun x _ => by show (if _ then 1 else 0) ≤ 1; split <;> omega)
  unfold p_N
  omega
/-! ===== fields and packets ===== -/
theorem p_find {n C R : Nat} {q : Nat → pV} {g h : Nat → Nat} (hc : p_cut (fun i => (q i).1) n C g) (hr : p_cut (fun i => (q i).2.1) n R h) {x : Nat} (hx : x < 4096) : ∃ c r, c < C ∧ r < R ∧ g c ≤ x / 128 ∧ x / 128 < g (c + 1) ∧ h r ≤ x / 4 % 32 ∧ x / 4 % 32 < h (r + 1) ∧ p_DP n q x = p_D n q (g c) (h r) (x % 4) ∧ ∀ w, p_DP2 n q w x = p_D2 n q w (g c) (h r) (x % 4) := by
  obtain ⟨c, h1, h2, h3⟩ := p_cut_find hc (show x / 128 < 32 by omega)
  obtain ⟨r, h4, h5, h6⟩ := p_cut_find hr (show x / 4 % 32 < 32 by omega)
  exact ⟨c, r, h1, h4, h2, h3, h5, h6, p_D_field hc hr h1 h2 h3 h4 h5 h6 _, fun w => p_D2_field hc hr h1 h2 h3 h4 h5 h6 w _⟩
theorem p_ex {n C R : Nat} {q : Nat → pV} {g h : Nat → Nat} (hc : p_cut (fun i => (q i).1) n C g) (hr : p_cut (fun i => (q i).2.1) n R h) (k : Nat) (F : Nat → Bool) : (∃ x, x < 4096 ∧ (p_DP n q x = k ∧ F (p_DP2 n q k x) = true)) ↔ ∃ c r t, c < C ∧ r < R ∧ t < 4 ∧ p_D n q (g c) (h r) t = k ∧ F (p_D2 n q k (g c) (h r) t) = true := by
  constructor
  · intro ⟨x, hx, hk, hF⟩
    obtain ⟨c, r, h1, h2, -, -, -, -, e1, e2⟩ := p_find hc hr hx
    exact ⟨c, r, x % 4, h1, h2, Nat.mod_lt _ (by decide), by rw [← e1]; exact hk, by rw [← e2]; exact hF⟩
  · intro ⟨c, r, t, h1, h2, h3, hk, hF⟩
    have b1 := p_cut_lt hc h1
    have b2 := p_cut_lt hr h2
    refine ⟨128 * g c + 4 * h r + t, (p_pk b1 b2 h3).2.2.2, ?_, ?_⟩
    · rw [p_DP_pk n q b1 b2 h3]; exact hk
    · rw [p_DP2_pk n q k b1 b2 h3]; exact hF
/-- the least packet of the first field, in the order of columns, rows, sorts -/
theorem p_wit_is {n C R : Nat} {q : Nat → pV} {g h : Nat → Nat} (hc : p_cut (fun i => (q i).1) n C g) (hr : p_cut (fun i => (q i).2.1) n R h) {k c r t : Nat} (h1 : c < C) (h2 : r < R) (h3 : t < 4) (hk : p_D n q (g c) (h r) t = k)
    (hb : ∀ c' r' t', c' < c → r' < R → t' < 4 → ¬ p_D n q (g c') (h r') t' = k) (hb2 : ∀ r' t', t' < 4 → 4 * r' + t' < 4 * r + t → ¬ p_D n q (g c) (h r') t' = k) :
    fa_first (fun x => decide (p_DP n q x = k)) 4096 = 128 * g c + 4 * h r + t := by
  have b1 := p_cut_lt hc h1
  have b2 := p_cut_lt hr h2
  refine p_first_is (by omega) (fun x hx => ?_) (fun _ => ?_)
  · have hx4 : x < 4096 := by omega
    obtain ⟨c', r', g1, g2, g3, g4, g5, g6, e1, -⟩ := p_find hc hr hx4
    refine decide_eq_false fun e => ?_
    rw [e1] at e
    have ht' : x % 4 < 4 := Nat.mod_lt _ (by decide)
    rcases Nat.lt_trichotomy c' c with z | z | z
    · exact hb c' r' (x % 4) z g2 ht' e
    · subst z
      refine hb2 r' (x % 4) ht' ?_ e
      rcases Nat.lt_trichotomy r' r with y | y | y
      · omega
      · subst y
        omega
      · have := p_mono hr.2.2.2.2.1 y (by omega)
        omega
    · have := p_mono hc.2.2.2.2.1 z (by omega)
      omega
  · rw [p_DP_pk n q b1 b2 h3]
    exact decide_eq_true hk
theorem p_wit_no {n C R : Nat} {q : Nat → pV} {g h : Nat → Nat} (hc : p_cut (fun i => (q i).1) n C g) (hr : p_cut (fun i => (q i).2.1) n R h) {k : Nat} (hb : ∀ c r t, c < C → r < R → t < 4 → ¬ p_D n q (g c) (h r) t = k) : fa_first (fun x => decide (p_DP n q x = k)) 4096 = 4096 := by
  refine p_first_is (Nat.le_refl _) (fun x hx => ?_) (fun h => absurd h (Nat.lt_irrefl _))
  obtain ⟨c, r, h1, h2, -, -, -, -, e1, -⟩ := p_find hc hr hx
  rw [e1]
  exact decide_eq_false (hb c r (x % 4) h1 h2 (Nat.mod_lt _ (by decide)))
/-! ===== what each call answers and does ===== -/
def q_ins (q : Nat → pV) (k : Nat) (v : pV) : Nat → pV := fun i => if i < k then q i else if i = k then v else q (i - 1)
def q_del (q : Nat → pV) (k : Nat) : Nat → pV := fun i => if i < k then q i else q (i + 1)
def p_use (n : Nat) (q : Nat → pV) (fb k : Nat) : Int32 := if fa_first (fun x => decide (p_DP n q x = k)) 4096 < 4096 then (if fa_first (fun x => decide (p_DP n q x = k ∧ p_act n q fb (p_DP2 n q k x) ≠ p_act n q fb k)) 4096 < 4096 then 0 else 2) else 1
def p_wit (n : Nat) (q : Nat → pV) (k : Nat) : Int32 := p_cd 4096 (fa_first (fun x => decide (p_DP n q x = k)) 4096)
def o_ins (n : Nat) (q : Nat → pV) (fb : Nat) (a b c d : Int32) : Int32 × pS := if (0 ≤ a.toInt ∧ a.toInt ≤ n) ∧ n < 12 ∧ (0 ≤ b.toInt ∧ b.toInt ≤ 1023) ∧ (0 ≤ c.toInt ∧ c.toInt ≤ 1023) ∧ (0 ≤ d.toInt ∧ d.toInt ≤ 63) then (nI (n + 1), (n + 1, q_ins q a.toNatClampNeg (b.toNatClampNeg, c.toNatClampNeg, d.toNatClampNeg), fb)) else (-1, (n, q, fb))
def o_rem (n : Nat) (q : Nat → pV) (fb : Nat) (a : Int32) : Int32 × pS := if 0 ≤ a.toInt ∧ a.toInt < n then (nI (n - 1), (n - 1, q_del q a.toNatClampNeg, fb)) else (-1, (n, q, fb))
def o_shi (n : Nat) (q : Nat → pV) (fb : Nat) (a b : Int32) : Int32 × pS := if (0 ≤ a.toInt ∧ a.toInt < n) ∧ (0 ≤ b.toInt ∧ b.toInt < n) then (0, (n, q_ins (q_del q a.toNatClampNeg) b.toNatClampNeg (q a.toNatClampNeg), fb)) else (-1, (n, q, fb))
def o_oth (n : Nat) (q : Nat → pV) (fb : Nat) (a : Int32) : Int32 × pS := (nI fb, (n, q, a.toBitVec.toNat % 4))
def p_isP (a b c : Int32) : Prop := (0 ≤ a.toInt ∧ a.toInt ≤ 31) ∧ (0 ≤ b.toInt ∧ b.toInt ≤ 31) ∧ (0 ≤ c.toInt ∧ c.toInt ≤ 3)
def o_dec (n : Nat) (q : Nat → pV) (fb : Nat) (a b c : Int32) : Int32 × pS := if (0 ≤ a.toInt ∧ a.toInt ≤ 31) ∧ (0 ≤ b.toInt ∧ b.toInt ≤ 31) ∧ (0 ≤ c.toInt ∧ c.toInt ≤ 3) then (p_cd n (p_D n q a.toNatClampNeg b.toNatClampNeg c.toNatClampNeg), (n, q, fb)) else (-2, (n, q, fb))
def o_act (n : Nat) (q : Nat → pV) (fb : Nat) (a b c : Int32) : Int32 × pS := if (0 ≤ a.toInt ∧ a.toInt ≤ 31) ∧ (0 ≤ b.toInt ∧ b.toInt ≤ 31) ∧ (0 ≤ c.toInt ∧ c.toInt ≤ 3) then (nI (p_act n q fb (p_D n q a.toNatClampNeg b.toNatClampNeg c.toNatClampNeg)), (n, q, fb)) else (-2, (n, q, fb))
def o_ded (n : Nat) (q : Nat → pV) (fb : Nat) (a : Int32) : Int32 × pS := if a = -1 then (nI (p_N n q n), (n, q, fb)) else if 0 ≤ a.toInt ∧ a.toInt < n then (nI (p_N n q a.toNatClampNeg), (n, q, fb)) else (-2, (n, q, fb))
def o_hav (n : Nat) (q : Nat → pV) (fb : Nat) (a : Int32) : Int32 × pS := (nI (fb_sm (fun x => if p_act n q fb (p_DP n q x) = a.toBitVec.toNat % 4 then 1 else 0) 4096), (n, q, fb))
def o_use (n : Nat) (q : Nat → pV) (fb : Nat) (a : Int32) : Int32 × pS := if 0 ≤ a.toInt ∧ a.toInt < n then (p_use n q fb a.toNatClampNeg, (n, q, fb)) else (-2, (n, q, fb))
def o_wit (n : Nat) (q : Nat → pV) (fb : Nat) (a : Int32) : Int32 × pS := if a = -1 then (p_wit n q n, (n, q, fb)) else if 0 ≤ a.toInt ∧ a.toInt < n then (p_wit n q a.toNatClampNeg, (n, q, fb)) else (-2, (n, q, fb))
/-- an argument names rule k, or none -/
theorem p_rng {n k : Nat} (hn : n ≤ 12) (hk : k < n) : (0 ≤ (nI k).toInt ∧ (nI k).toInt < n) ∧ (nI k).toNatClampNeg = k ∧ ¬ nI k = -1 := by
  refine ⟨?_, nI_clamp (by omega), fun h => ?_⟩
  · rw [nI_toInt (by omega)]; omega
  · have h2 := congrArg Int32.toInt h
    rw [nI_toInt (by omega)] at h2
    have h3 : (-1 : Int32).toInt = -1 := by decide
    omega
theorem p_nrng {n : Nat} {a : Int32} (h : ∀ k, k < n → a ≠ nI k) (hn : n ≤ 12) : ¬ (0 ≤ a.toInt ∧ a.toInt < n) := by
  intro ⟨h1, h2⟩
  refine h a.toInt.toNat (by omega) (Int32.toInt_inj.mp ?_)
  rw [nI_toInt (by omega)]
  omega
theorem o_rem_y {n k : Nat} (q : Nat → pV) (fb : Nat) (hn : n ≤ 12) (hk : k < n) : o_rem n q fb (nI k) = (nI (n - 1), (n - 1, q_del q k, fb)) := by
  obtain ⟨h1, h2, -⟩ := p_rng hn hk
  unfold o_rem
  rw [if_pos h1, h2]
theorem o_rem_n {n : Nat} {a : Int32} (q : Nat → pV) (fb : Nat) (hn : n ≤ 12) (h : ∀ k, k < n → a ≠ nI k) : o_rem n q fb a = (-1, (n, q, fb)) := if_neg (p_nrng h hn)
theorem o_shi_y {n k j : Nat} (q : Nat → pV) (fb : Nat) (hn : n ≤ 12) (hk : k < n) (hj : j < n) : o_shi n q fb (nI k) (nI j) = (0, (n, q_ins (q_del q k) j (q k), fb)) := by
  obtain ⟨h1, h2, -⟩ := p_rng hn hk
  obtain ⟨h3, h4, -⟩ := p_rng hn hj
  unfold o_shi
  rw [if_pos ⟨h1, h3⟩, h2, h4]
theorem o_shi_n {n : Nat} {a b : Int32} (q : Nat → pV) (fb : Nat) (hn : n ≤ 12) (h : (∀ k, k < n → a ≠ nI k) ∨ ∀ k, k < n → b ≠ nI k) : o_shi n q fb a b = (-1, (n, q, fb)) := if_neg fun z => h.elim (fun h => p_nrng h hn z.1) (fun h => p_nrng h hn z.2)
theorem o_use_y {n k : Nat} (q : Nat → pV) (fb : Nat) (hn : n ≤ 12) (hk : k < n) : o_use n q fb (nI k) = (p_use n q fb k, (n, q, fb)) := by
  obtain ⟨h1, h2, -⟩ := p_rng hn hk
  unfold o_use
  rw [if_pos h1, h2]
theorem o_use_n {n : Nat} {a : Int32} (q : Nat → pV) (fb : Nat) (hn : n ≤ 12) (h : ∀ k, k < n → a ≠ nI k) : o_use n q fb a = (-2, (n, q, fb)) := if_neg (p_nrng h hn)
/-- 'place' for decided and witness: -1 stands for n -/
def p_pl (n k : Nat) : Int32 := p_cd n k
theorem o_ded_y {n k : Nat} (q : Nat → pV) (fb : Nat) (hn : n ≤ 12) (hk : k ≤ n) : o_ded n q fb (p_cd n k) = (nI (p_N n q k), (n, q, fb)) := by
  unfold o_ded p_cd
  by_cases h : k < n
  · obtain ⟨h1, h2, h3⟩ := p_rng hn h
    rw [if_pos h, if_neg h3, if_pos h1, h2]
  · have : k = n := by omega
    subst this
    rw [if_neg h, if_pos rfl]
theorem o_ded_n {n : Nat} {a : Int32} (q : Nat → pV) (fb : Nat) (hn : n ≤ 12) (h0 : ¬ a = -1) (h : ∀ k, k < n → a ≠ nI k) : o_ded n q fb a = (-2, (n, q, fb)) := by
  unfold o_ded
  rw [if_neg h0, if_neg (p_nrng h hn)]
theorem o_wit_y {n k : Nat} (q : Nat → pV) (fb : Nat) (hn : n ≤ 12) (hk : k ≤ n) : o_wit n q fb (p_cd n k) = (p_wit n q k, (n, q, fb)) := by
  unfold o_wit p_cd
  by_cases h : k < n
  · obtain ⟨h1, h2, h3⟩ := p_rng hn h
    rw [if_pos h, if_neg h3, if_pos h1, h2]
  · have : k = n := by omega
    subst this
    rw [if_neg h, if_pos rfl]
theorem o_wit_n {n : Nat} {a : Int32} (q : Nat → pV) (fb : Nat) (hn : n ≤ 12) (h0 : ¬ a = -1) (h : ∀ k, k < n → a ≠ nI k) : o_wit n q fb a = (-2, (n, q, fb)) := by
  unfold o_wit
  rw [if_neg h0, if_neg (p_nrng h hn)]
theorem p_rngP {a b c : Nat} (ha : a < 32) (hb : b < 32) (hc : c < 4) : (0 ≤ (nI a).toInt ∧ (nI a).toInt ≤ 31) ∧ (0 ≤ (nI b).toInt ∧ (nI b).toInt ≤ 31) ∧ (0 ≤ (nI c).toInt ∧ (nI c).toInt ≤ 3) := by
  rw [nI_toInt (by omega), nI_toInt (by omega), nI_toInt (by omega)]
  omega
theorem o_dec_y {n a b c : Nat} (q : Nat → pV) (fb : Nat) (ha : a < 32) (hb : b < 32) (hc : c < 4) : o_dec n q fb (nI a) (nI b) (nI c) = (p_cd n (p_D n q a b c), (n, q, fb)) := by
  unfold o_dec
  rw [if_pos (p_rngP ha hb hc), nI_clamp (by omega), nI_clamp (by omega), nI_clamp (by omega)]
theorem o_act_y {n a b c : Nat} (q : Nat → pV) (fb : Nat) (ha : a < 32) (hb : b < 32) (hc : c < 4) : o_act n q fb (nI a) (nI b) (nI c) = (nI (p_act n q fb (p_D n q a b c)), (n, q, fb)) := by
  unfold o_act
  rw [if_pos (p_rngP ha hb hc), nI_clamp (by omega), nI_clamp (by omega), nI_clamp (by omega)]
/-- no packet -/
def p_noP (a b c : Int32) : Prop := ∀ x y z : Nat, x < 32 → y < 32 → z < 4 → ¬ (a = nI x ∧ b = nI y ∧ c = nI z)
theorem p_toN {a : Int32} (h : 0 ≤ a.toInt) : a = nI a.toInt.toNat := by
  have hx := Int32.toInt_lt a
  apply Int32.toInt_inj.mp
  rw [nI_toInt (by omega)]
  omega
theorem p_noP_n {a b c : Int32} (h : p_noP a b c) : ¬ ((0 ≤ a.toInt ∧ a.toInt ≤ 31) ∧ (0 ≤ b.toInt ∧ b.toInt ≤ 31) ∧ (0 ≤ c.toInt ∧ c.toInt ≤ 3)) := by
  intro ⟨h1, h2, h3⟩
  exact h a.toInt.toNat b.toInt.toNat c.toInt.toNat (by omega) (by omega) (by omega) ⟨p_toN h1.1, p_toN h2.1, p_toN h3.1⟩
theorem o_dec_n {n : Nat} {a b c : Int32} (q : Nat → pV) (fb : Nat) (h : p_noP a b c) : o_dec n q fb a b c = (-2, (n, q, fb)) := if_neg (p_noP_n h)
theorem o_act_n {n : Nat} {a b c : Int32} (q : Nat → pV) (fb : Nat) (h : p_noP a b c) : o_act n q fb a b c = (-2, (n, q, fb)) := if_neg (p_noP_n h)
theorem o_ins_y {n k s d t : Nat} (q : Nat → pV) (fb : Nat) (hk : k ≤ n) (hn : n < 12) (hs : s ≤ 1023) (hd : d ≤ 1023) (ht : t ≤ 63) : o_ins n q fb (nI k) (nI s) (nI d) (nI t) = (nI (n + 1), (n + 1, q_ins q k (s, d, t), fb)) := by
  unfold o_ins
  rw [if_pos (by rw [nI_toInt (by omega), nI_toInt (by omega), nI_toInt (by omega), nI_toInt (by omega)]; omega), nI_clamp (by omega), nI_clamp (by omega), nI_clamp (by omega), nI_clamp (by omega)]
theorem o_ins_n {n : Nat} {a b c d : Int32} (q : Nat → pV) (fb : Nat) (hn : n ≤ 12) (h : a < 0 ∨ nI n < a ∨ n = 12 ∨ b < 0 ∨ nI 1023 < b ∨ c < 0 ∨ nI 1023 < c ∨ d < 0 ∨ nI 63 < d) : o_ins n q fb a b c d = (-1, (n, q, fb)) := by
  refine if_neg ?_
  have e0 : (0 : Int32).toInt = 0 := by decide
  have e1 : (nI n).toInt = n := nI_toInt (by omega)
  have e2 : (nI 1023).toInt = (1023 : Nat) := nI_toInt (by decide)
  have e3 : (nI 63).toInt = (63 : Nat) := nI_toInt (by decide)
  simp only [Int32.lt_iff_toInt_lt, e0, e1, e2, e3] at h
  omega
/-! ===== how the arrays hold the rules ===== -/
def e_T (v : pV) : Nat → Int32
  | 2 => nI (v.1 / 32)
  | 3 => nI (v.1 % 32)
  | 4 => nI (v.2.1 / 32)
  | 5 => nI (v.2.1 % 32)
  | 6 => nI (v.2.2 % 16)
  | _ => nI (v.2.2 / 16)
def e_M (v : pV) : Nat → Int32
  | 1 => nI v.1
  | 2 => nI v.2.1
  | _ => nI v.2.2
/-- the arrays of numbers lo .. hi hold the codes of the rules below n -/
def p_rep (en : pV → Nat → Int32) (lo hi n : Nat) (q : Nat → pV) (ra : Nat → Nat → Int32) : Prop := ∀ i, i < n → ∀ f, lo ≤ f → f ≤ hi → ra f i = en (q i) f
def p_IT (n : Nat) (q : Nat → pV) (fb : Nat) (ra : Nat → Nat → Int32) (pt co rc : Int32) (cf rf fi se : Nat → Int32) : Prop := p_ok n q fb ∧ p_rep e_T 2 7 n q ra ∧ (pt = 0 ∨ (pt = 1 ∧ p_Board n q co rc cf rf fi se))
def p_IM (n : Nat) (q : Nat → pV) (fb : Nat) (ra : Nat → Nat → Int32) : Prop := p_ok n q fb ∧ p_rep e_M 1 3 n q ra
theorem p_rep_ins {en : pV → Nat → Int32} {lo hi n k : Nat} {q : Nat → pV} {ra rb : Nat → Nat → Int32} {v : pV} (h : p_rep en lo hi n q ra) (hk : k ≤ n) (hb : ∀ f, lo ≤ f → f ≤ hi → ∀ i, i ≤ n → rb f i = if i < k then ra f i else if i = k then en v f else ra f (i - 1)) : p_rep en lo hi (n + 1) (q_ins q k v) rb := by
  intro i hi f h1 h2
  rw [hb f h1 h2 i (by omega)]
  unfold q_ins
  by_cases a : i < k
  · rw [if_pos a, if_pos a]
    exact h i (by omega) f h1 h2
  · rw [if_neg a, if_neg a]
    by_cases b : i = k
    · rw [if_pos b, if_pos b]
    · rw [if_neg b, if_neg b]
      exact h (i - 1) (by omega) f h1 h2
theorem p_rep_del {en : pV → Nat → Int32} {lo hi n k : Nat} {q : Nat → pV} {ra rb : Nat → Nat → Int32} (h : p_rep en lo hi n q ra) (hk : k < n) (hb : ∀ f, lo ≤ f → f ≤ hi → ∀ i, i < n - 1 → rb f i = if i < k then ra f i else ra f (i + 1)) : p_rep en lo hi (n - 1) (q_del q k) rb := by
  intro i hi f h1 h2
  rw [hb f h1 h2 i hi]
  unfold q_del
  by_cases a : i < k
  · rw [if_pos a, if_pos a]
    exact h i (by omega) f h1 h2
  · rw [if_neg a, if_neg a]
    exact h (i + 1) (by omega) f h1 h2
theorem p_rep_mov {en : pV → Nat → Int32} {lo hi n a b : Nat} {q : Nat → pV} {ra rb : Nat → Nat → Int32} (h : p_rep en lo hi n q ra) (ha : a < n) (hb : b < n) (hr : ∀ f, lo ≤ f → f ≤ hi → ∀ i, i < n → rb f i = if i = b then ra f a else if a ≤ i ∧ i < b then ra f (i + 1) else if b < i ∧ i ≤ a then ra f (i - 1) else ra f i) : p_rep en lo hi n (q_ins (q_del q a) b (q a)) rb := by
  intro i hi f h1 h2
  rw [hr f h1 h2 i hi]
  unfold q_ins q_del
  by_cases c1 : i = b
  · rw [if_pos c1, if_neg (by omega), if_pos c1]
    exact h a ha f h1 h2
  · rw [if_neg c1]
    by_cases c2 : a ≤ i ∧ i < b
    · rw [if_pos c2, if_pos (by omega), if_neg (by omega)]
      exact h (i + 1) (by omega) f h1 h2
    · rw [if_neg c2]
      by_cases c3 : b < i ∧ i ≤ a
      · rw [if_pos c3, if_neg (by omega), if_neg c1, if_pos (by omega)]
        exact h (i - 1) (by omega) f h1 h2
      · rw [if_neg c3]
        by_cases c4 : i < b
        · rw [if_pos c4, if_pos (by omega)]
          exact h i hi f h1 h2
        · rw [if_neg c4, if_neg c1, if_neg (by omega), show i - 1 + 1 = i by omega]
          exact h i hi f h1 h2
theorem p_ok_ins {n k fb : Nat} {q : Nat → pV} {s d t : Nat} (h : p_ok n q fb) (hk : k ≤ n) (hn : n < 12) (hs : s ≤ 1023) (hd : d ≤ 1023) (ht : t ≤ 63) : p_ok (n + 1) (q_ins q k (s, d, t)) fb := by
  refine ⟨by omega, h.2.1, fun i hi => ?_⟩
  unfold q_ins
  by_cases a : i < k
  · rw [if_pos a]
    exact h.2.2 i (by omega)
  · rw [if_neg a]
    by_cases b : i = k
    · rw [if_pos b]
      exact ⟨by show s < 1024; omega, by show d < 1024; omega, by show t < 64; omega⟩
    · rw [if_neg b]
      exact h.2.2 (i - 1) (by omega)
theorem p_ok_del {n k fb : Nat} {q : Nat → pV} (h : p_ok n q fb) (hk : k < n) : p_ok (n - 1) (q_del q k) fb := by
  refine ⟨by have := h.1; omega, h.2.1, fun i hi => ?_⟩
  unfold q_del
  by_cases a : i < k
  · rw [if_pos a]
    exact h.2.2 i (by omega)
  · rw [if_neg a]
    exact h.2.2 (i + 1) (by omega)
theorem p_ok_mov {n a b fb : Nat} {q : Nat → pV} (h : p_ok n q fb) (ha : a < n) (hb : b < n) : p_ok n (q_ins (q_del q a) b (q a)) fb := by
  have h1 := p_ok_del h ha
  have h2 := h.2.2 a ha
  have h3 := p_ok_ins (s := (q a).1) (d := (q a).2.1) (t := (q a).2.2) (k := b) h1 (by omega) (by have := h.1; omega) (by omega) (by omega) (by omega)
  rw [show n - 1 + 1 = n by omega] at h3
  exact h3
end
section
/-! ===== plain rows that the walks use ===== -/
theorem p_m_iff {v : pV} {s d t : Nat} : p_m v s d t = true ↔ (v.1 / 32 ≤ s ∧ s ≤ v.1 % 32) ∧ (v.2.1 / 32 ≤ d ∧ d ≤ v.2.1 % 32) ∧ v.2.2 / 2 ^ t % 2 = 1 := by
  unfold p_m
  rw [Bool.and_eq_true, Bool.and_eq_true, decide_eq_true_iff, decide_eq_true_iff, decide_eq_true_iff]
theorem p_m_no {v : pV} {s d t : Nat} (h : ¬ ((v.1 / 32 ≤ s ∧ s ≤ v.1 % 32) ∧ (v.2.1 / 32 ≤ d ∧ d ≤ v.2.1 % 32) ∧ v.2.2 / 2 ^ t % 2 = 1)) : p_m v s d t = false := Bool.eq_false_iff.mpr fun e => h (p_m_iff.mp e)
theorem p_cd_lt {n k : Nat} (h : k < n) : p_cd n k = nI k := if_pos h
theorem p_cd_n (n : Nat) : p_cd n n = -1 := if_neg (Nat.lt_irrefl n)
theorem p_cd_inj {n k j : Nat} (hn : n ≤ 12) (hk : k ≤ n) (hj : j ≤ n) : p_cd n k = p_cd n j ↔ k = j := by
  by_cases h : j < n
  · rw [p_cd_lt h]
    exact p_cd_eq hn h hk
  · have e : j = n := by omega
    rw [e, p_cd_n]
    exact p_cd_m1 hn hk
theorem p_cd_m2 {n k : Nat} (hn : n ≤ 12) : ¬ p_cd n k = -2 := by
  unfold p_cd
  split
  · intro h
    have h2 := congrArg Int32.toInt h
    rw [nI_toInt (by omega)] at h2
    have h3 : (-2 : Int32).toInt = -2 := by decide
    omega
  · decide
theorem p_cd_neg {n k : Nat} (hn : n ≤ 12) (hk : k ≤ n) : p_cd n k < 0 ↔ k = n := by
  by_cases h : k < n
  · rw [p_cd_lt h]
    exact ⟨fun z => absurd z (nI_pos (by omega)), fun z => by omega⟩
  · have e : k = n := by omega
    rw [e, p_cd_n]
    exact ⟨fun _ => rfl, fun _ => by decide⟩
theorem p_pkt (a b c : Int32) : (∃ x y z : Nat, x < 32 ∧ y < 32 ∧ z < 4 ∧ a = nI x ∧ b = nI y ∧ c = nI z) ∨ p_noP a b c := by
  rcases Classical.em (∃ x y z : Nat, x < 32 ∧ y < 32 ∧ z < 4 ∧ a = nI x ∧ b = nI y ∧ c = nI z) with h | h
  · exact Or.inl h
  · exact Or.inr fun x y z hx hy hz e => h ⟨x, y, z, hx, hy, hz, e⟩
theorem p_act_lt {n : Nat} {q : Nat → pV} {fb : Nat} (h : p_ok n q fb) (k : Nat) : p_act n q fb k < 4 := by
  unfold p_act
  split
  · rename_i hk
    have := (h.2.2 k hk).2.2
    omega
  · exact h.2.1
def p_NX (n : Nat) (q : Nat → pV) (k x : Nat) : Nat := fb_sm (fun x => if p_DP n q x = k then 1 else 0) x
theorem p_NX_y {n : Nat} {q : Nat → pV} {k x : Nat} (h : p_DP n q x = k) : p_NX n q k x + 1 = p_NX n q k (x + 1) := by
  unfold p_NX
  rw [fb_sm_succ, if_pos h]
theorem p_NX_n {n : Nat} {q : Nat → pV} {k x : Nat} (h : ¬ p_DP n q x = k) : p_NX n q k x = p_NX n q k (x + 1) := by
  unfold p_NX
  rw [fb_sm_succ, if_neg h, Nat.add_zero]
def p_HX (n : Nat) (q : Nat → pV) (fb a x : Nat) : Nat := fb_sm (fun x => if p_act n q fb (p_DP n q x) = a then 1 else 0) x
theorem p_HX_y {n : Nat} {q : Nat → pV} {fb a x : Nat} (h : p_act n q fb (p_DP n q x) = a) : p_HX n q fb a x + 1 = p_HX n q fb a (x + 1) := by
  unfold p_HX
  rw [fb_sm_succ, if_pos h]
theorem p_HX_n {n : Nat} {q : Nat → pV} {fb a x : Nat} (h : ¬ p_act n q fb (p_DP n q x) = a) : p_HX n q fb a x = p_HX n q fb a (x + 1) := by
  unfold p_HX
  rw [fb_sm_succ, if_neg h, Nat.add_zero]
theorem p_use_1 {n : Nat} {q : Nat → pV} {fb k : Nat} (h : ∀ y, y < 4096 → ¬ p_DP n q y = k) : p_use n q fb k = 1 := by
  unfold p_use
  rw [if_neg]
  rw [p_first_lt]
  rintro ⟨i, hi, e⟩
  exact h i hi (of_decide_eq_true e)
theorem p_use_0 {n : Nat} {q : Nat → pV} {fb k x : Nat} (hx : x < 4096) (h : p_DP n q x = k) (h2 : ¬ p_act n q fb (p_DP2 n q k x) = p_act n q fb k) : p_use n q fb k = 0 := by
  unfold p_use
  rw [if_pos (p_first_lt.mpr ⟨x, hx, decide_eq_true h⟩), if_pos (p_first_lt.mpr ⟨x, hx, decide_eq_true ⟨h, h2⟩⟩)]
theorem p_use_2 {n : Nat} {q : Nat → pV} {fb k x : Nat} (hx : x < 4096) (h : p_DP n q x = k) (h2 : ∀ y, y < 4096 → p_DP n q y = k → p_act n q fb (p_DP2 n q k y) = p_act n q fb k) : p_use n q fb k = 2 := by
  unfold p_use
  rw [if_pos (p_first_lt.mpr ⟨x, hx, decide_eq_true h⟩), if_neg]
  rw [p_first_lt]
  rintro ⟨i, hi, e⟩
  have e2 := of_decide_eq_true e
  exact e2.2 (h2 i hi e2.1)
theorem p_wit_y {n : Nat} {q : Nat → pV} {k x : Nat} (hx : x < 4096) (h : p_DP n q x = k) (h2 : ∀ y, y < x → ¬ p_DP n q y = k) : nI x = p_wit n q k := by
  unfold p_wit
  rw [p_first_is (k := x) (by omega) (fun y hy => decide_eq_false (h2 y hy)) (fun _ => decide_eq_true h), p_cd_lt hx]
theorem p_wit_n {n : Nat} {q : Nat → pV} {k : Nat} (h2 : ∀ y, y < 4096 → ¬ p_DP n q y = k) : -1 = p_wit n q k := by
  unfold p_wit
  rw [p_first_is (k := 4096) (by omega) (fun y hy => decide_eq_false (h2 y hy)) (fun h => absurd h (Nat.lt_irrefl _)), p_cd_n]
/-! shifting rules in arrays -/
theorem s_up_0 {ra : Nat → Nat → Int32} {n : Nat} : ∀ g j, ra g j = if n < j ∧ j ≤ n then ra g (j - 1) else ra g j := fun g j => by
  rw [if_neg (by omega)]
theorem s_up_step {ra rb : Nat → Nat → Int32} {i n : Nat} (h : ∀ g j, rb g j = if i < j ∧ j ≤ n then ra g (j - 1) else ra g j) (hi : 0 < i) (hin : i ≤ n) : ∀ g j, upd (rb g) i (rb g (i - 1)) j = if i - 1 < j ∧ j ≤ n then ra g (j - 1) else ra g j := by
  intro g j
  by_cases e : j = i
  · rw [e, pk_us, h, if_neg (by omega), if_pos (by omega)]
  · rw [pk_un e, h]
    by_cases c : i < j ∧ j ≤ n
    · rw [if_pos c, if_pos (by omega)]
    · rw [if_neg c, if_neg (by omega)]
theorem s_up_end {ra rb : Nat → Nat → Int32} {k n : Nat} {v : Nat → Int32} (h : ∀ g j, rb g j = if k < j ∧ j ≤ n then ra g (j - 1) else ra g j) (g : Nat) {j : Nat} (hj : j ≤ n) : upd (rb g) k (v g) j = if j < k then ra g j else if j = k then v g else ra g (j - 1) := by
  by_cases e : j = k
  · rw [e, pk_us, if_neg (Nat.lt_irrefl k), if_pos rfl]
  · rw [pk_un e, h, if_neg e]
    by_cases c : j < k
    · rw [if_pos c, if_neg (by omega)]
    · rw [if_neg c, if_pos (by omega)]
theorem s_dn_0 {ra : Nat → Nat → Int32} {k : Nat} : ∀ g j, ra g j = if k ≤ j ∧ j < k then ra g (j + 1) else ra g j := fun g j => by
  rw [if_neg (by omega)]
theorem s_dn_step {ra rb : Nat → Nat → Int32} {i k : Nat} (h : ∀ g j, rb g j = if k ≤ j ∧ j < i then ra g (j + 1) else ra g j) (hi : k ≤ i) : ∀ g j, upd (rb g) i (rb g (i + 1)) j = if k ≤ j ∧ j < i + 1 then ra g (j + 1) else ra g j := by
  intro g j
  by_cases e : j = i
  · rw [e, pk_us, h, if_neg (by omega), if_pos (by omega)]
  · rw [pk_un e, h]
    by_cases c : k ≤ j ∧ j < i
    · rw [if_pos c, if_pos (by omega)]
    · rw [if_neg c, if_neg (by omega)]
theorem s_dn_end {ra rb : Nat → Nat → Int32} {i k : Nat} (h : ∀ g j, rb g j = if k ≤ j ∧ j < i then ra g (j + 1) else ra g j) (g : Nat) {j : Nat} (hj : j < i) : rb g j = if j < k then ra g j else ra g (j + 1) := by
  rw [h]
  by_cases c : j < k
  · rw [if_pos c, if_neg (by omega)]
  · rw [if_neg c, if_pos (by omega)]
theorem s_xu_0 {ra : Nat → Nat → Int32} {a : Nat} : ∀ g j, ra g j = if a ≤ j ∧ j < a then ra g (j + 1) else if j = a then ra g a else ra g j := fun g j => by
  rw [if_neg (by omega)]
  by_cases e : j = a
  · rw [if_pos e, e]
  · rw [if_neg e]
theorem s_xu_step {ra rb : Nat → Nat → Int32} {a i : Nat} (h : ∀ g j, rb g j = if a ≤ j ∧ j < i then ra g (j + 1) else if j = i then ra g a else ra g j) (hi : a ≤ i) : ∀ g j, upd (upd (rb g) i (rb g (i + 1))) (i + 1) (rb g i) j = if a ≤ j ∧ j < i + 1 then ra g (j + 1) else if j = i + 1 then ra g a else ra g j := by
  intro g j
  by_cases e : j = i + 1
  · rw [e, pk_us, h, if_neg (by omega), if_pos rfl, if_neg (by omega), if_pos rfl]
  · rw [pk_un e, if_neg e]
    by_cases e2 : j = i
    · rw [e2, pk_us, h, if_neg (by omega), if_neg (by omega), if_pos (by omega)]
    · rw [pk_un e2, h, if_neg e2]
      by_cases c : a ≤ j ∧ j < i
      · rw [if_pos c, if_pos (by omega)]
      · rw [if_neg c, if_neg (by omega)]
theorem s_xd_0 {ra : Nat → Nat → Int32} {a : Nat} : ∀ g j, ra g j = if a < j ∧ j ≤ a then ra g (j - 1) else if j = a then ra g a else ra g j := fun g j => by
  rw [if_neg (by omega)]
  by_cases e : j = a
  · rw [if_pos e, e]
  · rw [if_neg e]
theorem s_xd_step {ra rb : Nat → Nat → Int32} {a i : Nat} (h : ∀ g j, rb g j = if i < j ∧ j ≤ a then ra g (j - 1) else if j = i then ra g a else ra g j) (h0 : 0 < i) (hi : i ≤ a) : ∀ g j, upd (upd (rb g) i (rb g (i - 1))) (i - 1) (rb g i) j = if i - 1 < j ∧ j ≤ a then ra g (j - 1) else if j = i - 1 then ra g a else ra g j := by
  intro g j
  by_cases e : j = i - 1
  · rw [e, pk_us, h, if_neg (by omega), if_pos rfl, if_neg (by omega), if_pos rfl]
  · rw [pk_un e, if_neg e]
    by_cases e2 : j = i
    · rw [e2, pk_us, h, if_neg (by omega), if_neg (by omega), if_pos (by omega)]
    · rw [pk_un e2, h, if_neg e2]
      by_cases c : i < j ∧ j ≤ a
      · rw [if_pos c, if_pos (by omega)]
      · rw [if_neg c, if_neg (by omega)]
theorem s_mv_u {ra rb : Nat → Nat → Int32} {a b : Nat} (hab : a ≤ b) (h : ∀ g j, rb g j = if a ≤ j ∧ j < b then ra g (j + 1) else if j = b then ra g a else ra g j) (g j : Nat) : rb g j = if j = b then ra g a else if a ≤ j ∧ j < b then ra g (j + 1) else if b < j ∧ j ≤ a then ra g (j - 1) else ra g j := by
  rw [h]
  by_cases e : j = b
  · rw [if_pos e, if_neg (by omega), if_pos e]
  · rw [if_neg e, if_neg e]
    by_cases c : a ≤ j ∧ j < b
    · rw [if_pos c, if_pos c]
    · rw [if_neg c, if_neg c, if_neg (by omega)]
theorem s_mv_d {ra rb : Nat → Nat → Int32} {a b : Nat} (hab : b < a) (h : ∀ g j, rb g j = if b < j ∧ j ≤ a then ra g (j - 1) else if j = b then ra g a else ra g j) (g j : Nat) : rb g j = if j = b then ra g a else if a ≤ j ∧ j < b then ra g (j + 1) else if b < j ∧ j ≤ a then ra g (j - 1) else ra g j := by
  rw [h]
  by_cases e : j = b
  · rw [if_pos e, if_neg (by omega), if_pos e]
  · rw [if_neg e, if_neg e, if_neg (show ¬ (a ≤ j ∧ j < b) by omega)]
theorem p_NX_end (n : Nat) (q : Nat → pV) (k : Nat) : p_N n q k = p_NX n q k 4096 := by
  unfold p_N p_NX
  exact Eq.refl _
theorem o_ded_e {n k : Nat} (q : Nat → pV) (fb : Nat) (hn : n ≤ 12) (hk : k ≤ n) : nI (p_NX n q k 4096) = (o_ded n q fb (p_cd n k)).1 := by
  rw [o_ded_y q fb hn hk, p_NX_end]
theorem o_hav_e {n : Nat} (q : Nat → pV) (fb : Nat) (a : Int32) : nI (p_HX n q fb (a.toBitVec.toNat % 4) 4096) = (o_hav n q fb a).1 := by
  unfold p_HX o_hav
  exact Eq.refl _
theorem o_wit_1 {n k : Nat} (q : Nat → pV) (fb : Nat) (hn : n ≤ 12) (hk : k ≤ n) {r : Int32} (h : r = p_wit n q k) : r = (o_wit n q fb (p_cd n k)).1 := by
  rw [o_wit_y q fb hn hk, h]
end
section
set_option maxHeartbeats 4000000 in
set_option maxRecDepth 100000 in
/-- copy(i, j): the rule at j also at i -/
theorem m1_copy (l : Launch) (dC : Nat → ClassId) (dI : Nat → Nat → Nat) (ad : Nat → Nat) (cI : ClassId) (sz : Nat) (n fb : Int32) (ra : Nat → Nat → Int32) (i j : Nat) (hi : i < 12) (hj : j < 12) : Met l yX1_copy (ws_ yX1_copy cX1_copy 3 none) { frames := 0, cells := 0, slots := 0, locals := 0 } (va_Pc [.ref (ad 0), .int (nI i), .int (nI j)] (PreW (dC, dI) (tyM cI) (WN ad cI n fb (ra 1) (ra 2) (ra 3)) sz)) (va_Qv (fun (u : Unit) => True) (fun (u : Unit) => PosW (dC, dI) (tyM cI) (va_A (WN ad cI n fb (ra 1) (ra 2) (ra 3)) sz) (WM ad cI n fb (fun f => upd (ra f) i (ra f j)))) (va_A (WN ad cI n fb (ra 1) (ra 2) (ra 3)) sz)) 0 0 (va_A (WN ad cI n fb (ra 1) (ra 2) (ra 3)) sz) := by
  refine Met.ofW (cc := cX1_copy) (maxL := 3) (ret := none) (by decide) rfl ?_
  intro p e s m args below meth c s₁ B hml hv
  obtain ⟨rfl, hsz, hP, hK, hD0⟩ := hv
  have hx := B.exec
  have hb := B.bytes
  have hr := B.returns
  have hts := atoms_spec (ws := (ws_ yX1_copy cX1_copy 3 none)) B.pre
  have hts : ∀ w ∈ lw_all, w.before _ s = true := fun w h => hts w (List.mem_cons_of_mem _ h)
  have hown : s.vm.findClass RX1 = some m.cls := findClass_of_methodNamed B.named
  have hlocks := B.notSynchronized
  subst hsz
  have hD := hD0.self (sz := s.heap.size)
  generalize hAe : va_A (WN ad cI n fb (ra 1) (ra 2) (ra 3)) s.heap.size = A at hD ⊢
  have hA : ∀ q : Nat, s.heap.size ≤ q → A q := fun q h => by rw [← hAe]; exact Or.inr h
  have hS : va_S A s.heap s.heap [] := va_S.rf
  have hP : va_P (dC, dI) vwCl (WN ad cI n fb (ra 1) (ra 2) (ra 3)) s.heap := hP
  have hl := lv_entry ([.ref (ad 0), .int (nI i), .int (nI j)]) (n := 3) (Nat.le_of_ble_eq_true rfl)
  rw [lg_entry_eq]
  generalize (lg_sl ([.ref (ad 0), .int (nI i), .int (nI j)]) ++ List.replicate (3 - (lg_sl ([.ref (ad 0), .int (nI i), .int (nI j)])).length) Slot.unset).toArray = ls at hl ⊢
  have hl : lv_has ls 3 [(0, .ref (ad 0)), (1, .int (nI i)), (2, .int (nI j))] := hl
  refine lv_aload_n hx hb dX1_copy_0 rfl (lv_at hl 0 rfl) ?_
  refine x_getM (v := .ref (ad 1)) hx hb hts hown hK hP 1 (by decide) q170 rfl rfl dX1_copy_1 ?_
  refine lv_iload_n hx hb dX1_copy_4 rfl (lv_at hl 1 rfl) ?_
  refine lv_aload_n hx hb dX1_copy_5 rfl (lv_at hl 0 rfl) ?_
  refine x_getM (v := .ref (ad 1)) hx hb hts hown hK hP 1 (by decide) q170 rfl rfl dX1_copy_6 ?_
  refine lv_iload_n hx hb dX1_copy_9 rfl (lv_at hl 2 rfl) ?_
  refine x_iald (v := (ra 1 j)) hx hb hK hP 1 0 rfl rfl (by omega) (by decide) rfl dX1_copy_10 ?_
  refine x_iast hx hb hK hP hD hS 1 0 rfl rfl (by omega) (by decide) dX1_copy_11 (fun H locs hP hD hS => ?_)
  have hP : va_P (dC, dI) vwCl (WN ad cI n fb (upd (ra 1) i (ra 1 j)) (ra 2) (ra 3)) H := hP
  have hD : va_D A (WN ad cI n fb (upd (ra 1) i (ra 1 j)) (ra 2) (ra 3)) := hD
  refine lv_aload_n hx hb dX1_copy_12 rfl (lv_at hl 0 rfl) ?_
  refine x_getM (v := .ref (ad 2)) hx hb hts hown hK hP 2 (by decide) q171 rfl rfl dX1_copy_13 ?_
  refine lv_iload_n hx hb dX1_copy_16 rfl (lv_at hl 1 rfl) ?_
  refine lv_aload_n hx hb dX1_copy_17 rfl (lv_at hl 0 rfl) ?_
  refine x_getM (v := .ref (ad 2)) hx hb hts hown hK hP 2 (by decide) q171 rfl rfl dX1_copy_18 ?_
  refine lv_iload_n hx hb dX1_copy_21 rfl (lv_at hl 2 rfl) ?_
  refine x_iald (v := (ra 2 j)) hx hb hK hP 2 0 rfl rfl (by omega) (by decide) rfl dX1_copy_22 ?_
  refine x_iast hx hb hK hP hD hS 2 0 rfl rfl (by omega) (by decide) dX1_copy_23 (fun H locs hP hD hS => ?_)
  have hP : va_P (dC, dI) vwCl (WN ad cI n fb (upd (ra 1) i (ra 1 j)) (upd (ra 2) i (ra 2 j)) (ra 3)) H := hP
  have hD : va_D A (WN ad cI n fb (upd (ra 1) i (ra 1 j)) (upd (ra 2) i (ra 2 j)) (ra 3)) := hD
  refine lv_aload_n hx hb dX1_copy_24 rfl (lv_at hl 0 rfl) ?_
  refine x_getM (v := .ref (ad 3)) hx hb hts hown hK hP 3 (by decide) q172 rfl rfl dX1_copy_25 ?_
  refine lv_iload_n hx hb dX1_copy_28 rfl (lv_at hl 1 rfl) ?_
  refine lv_aload_n hx hb dX1_copy_29 rfl (lv_at hl 0 rfl) ?_
  refine x_getM (v := .ref (ad 3)) hx hb hts hown hK hP 3 (by decide) q172 rfl rfl dX1_copy_30 ?_
  refine lv_iload_n hx hb dX1_copy_33 rfl (lv_at hl 2 rfl) ?_
  refine x_iald (v := (ra 3 j)) hx hb hK hP 3 0 rfl rfl (by omega) (by decide) rfl dX1_copy_34 ?_
  refine x_iast hx hb hK hP hD hS 3 0 rfl rfl (by omega) (by decide) dX1_copy_35 (fun H locs hP hD hS => ?_)
  have hP : va_P (dC, dI) vwCl (WN ad cI n fb (upd (ra 1) i (ra 1 j)) (upd (ra 2) i (ra 2 j)) (upd (ra 3) i (ra 3 j))) H := hP
  have hD : va_D A (WN ad cI n fb (upd (ra 1) i (ra 1 j)) (upd (ra 2) i (ra 2 j)) (upd (ra 3) i (ra 3 j))) := hD
  exact W.vret hx hb hr (fun t ht hW => ⟨⟨(), rfl, trivial, by rw [ht]; exact hP, va_K.moved hW.alike hK, hD⟩, hS.F ht⟩) hS.2.2 dX1_copy_36
set_option maxHeartbeats 4000000 in
set_option maxRecDepth 100000 in
/-- write(i, ..) -/
theorem m1_write (l : Launch) (dC : Nat → ClassId) (dI : Nat → Nat → Nat) (ad : Nat → Nat) (cI : ClassId) (sz : Nat) (n fb : Int32) (ra : Nat → Nat → Int32) (w : Nat → Int32) (i : Nat) (hi : i < 12) : Met l yX1_write (ws_ yX1_write cX1_write 5 none) { frames := 0, cells := 0, slots := 0, locals := 0 } (va_Pc [.ref (ad 0), .int (nI i), .int (w 1), .int (w 2), .int (w 3)] (PreW (dC, dI) (tyM cI) (WN ad cI n fb (ra 1) (ra 2) (ra 3)) sz)) (va_Qv (fun (u : Unit) => True) (fun (u : Unit) => PosW (dC, dI) (tyM cI) (va_A (WN ad cI n fb (ra 1) (ra 2) (ra 3)) sz) (WM ad cI n fb (fun f => upd (ra f) i (w f)))) (va_A (WN ad cI n fb (ra 1) (ra 2) (ra 3)) sz)) 0 0 (va_A (WN ad cI n fb (ra 1) (ra 2) (ra 3)) sz) := by
  refine Met.ofW (cc := cX1_write) (maxL := 5) (ret := none) (by decide) rfl ?_
  intro p e s m args below meth c s₁ B hml hv
  obtain ⟨rfl, hsz, hP, hK, hD0⟩ := hv
  have hx := B.exec
  have hb := B.bytes
  have hr := B.returns
  have hts := atoms_spec (ws := (ws_ yX1_write cX1_write 5 none)) B.pre
  have hts : ∀ w ∈ lw_all, w.before _ s = true := fun w h => hts w (List.mem_cons_of_mem _ h)
  have hown : s.vm.findClass RX1 = some m.cls := findClass_of_methodNamed B.named
  have hlocks := B.notSynchronized
  subst hsz
  have hD := hD0.self (sz := s.heap.size)
  generalize hAe : va_A (WN ad cI n fb (ra 1) (ra 2) (ra 3)) s.heap.size = A at hD ⊢
  have hA : ∀ q : Nat, s.heap.size ≤ q → A q := fun q h => by rw [← hAe]; exact Or.inr h
  have hS : va_S A s.heap s.heap [] := va_S.rf
  have hP : va_P (dC, dI) vwCl (WN ad cI n fb (ra 1) (ra 2) (ra 3)) s.heap := hP
  have hl := lv_entry ([.ref (ad 0), .int (nI i), .int (w 1), .int (w 2), .int (w 3)]) (n := 5) (Nat.le_of_ble_eq_true rfl)
  rw [lg_entry_eq]
  generalize (lg_sl ([.ref (ad 0), .int (nI i), .int (w 1), .int (w 2), .int (w 3)]) ++ List.replicate (5 - (lg_sl ([.ref (ad 0), .int (nI i), .int (w 1), .int (w 2), .int (w 3)])).length) Slot.unset).toArray = ls at hl ⊢
  have hl : lv_has ls 5 [(0, .ref (ad 0)), (1, .int (nI i)), (2, .int (w 1)), (3, .int (w 2)), (4, .int (w 3))] := hl
  refine lv_aload_n hx hb dX1_write_0 rfl (lv_at hl 0 rfl) ?_
  refine x_getM (v := .ref (ad 1)) hx hb hts hown hK hP 1 (by decide) q170 rfl rfl dX1_write_1 ?_
  refine lv_iload_n hx hb dX1_write_4 rfl (lv_at hl 1 rfl) ?_
  refine lv_iload_n hx hb dX1_write_5 rfl (lv_at hl 2 rfl) ?_
  refine x_iast hx hb hK hP hD hS 1 0 rfl rfl (by omega) (by decide) dX1_write_6 (fun H locs hP hD hS => ?_)
  have hP : va_P (dC, dI) vwCl (WN ad cI n fb (upd (ra 1) i (w 1)) (ra 2) (ra 3)) H := hP
  have hD : va_D A (WN ad cI n fb (upd (ra 1) i (w 1)) (ra 2) (ra 3)) := hD
  refine lv_aload_n hx hb dX1_write_7 rfl (lv_at hl 0 rfl) ?_
  refine x_getM (v := .ref (ad 2)) hx hb hts hown hK hP 2 (by decide) q171 rfl rfl dX1_write_8 ?_
  refine lv_iload_n hx hb dX1_write_11 rfl (lv_at hl 1 rfl) ?_
  refine lv_iload_n hx hb dX1_write_12 rfl (lv_at hl 3 rfl) ?_
  refine x_iast hx hb hK hP hD hS 2 0 rfl rfl (by omega) (by decide) dX1_write_13 (fun H locs hP hD hS => ?_)
  have hP : va_P (dC, dI) vwCl (WN ad cI n fb (upd (ra 1) i (w 1)) (upd (ra 2) i (w 2)) (ra 3)) H := hP
  have hD : va_D A (WN ad cI n fb (upd (ra 1) i (w 1)) (upd (ra 2) i (w 2)) (ra 3)) := hD
  refine lv_aload_n hx hb dX1_write_14 rfl (lv_at hl 0 rfl) ?_
  refine x_getM (v := .ref (ad 3)) hx hb hts hown hK hP 3 (by decide) q172 rfl rfl dX1_write_15 ?_
  refine lv_iload_n hx hb dX1_write_18 rfl (lv_at hl 1 rfl) ?_
  refine lv_iload hx hb dX1_write_19 (lv_at hl 4 rfl) ?_
  refine x_iast hx hb hK hP hD hS 3 0 rfl rfl (by omega) (by decide) dX1_write_21 (fun H locs hP hD hS => ?_)
  have hP : va_P (dC, dI) vwCl (WN ad cI n fb (upd (ra 1) i (w 1)) (upd (ra 2) i (w 2)) (upd (ra 3) i (w 3))) H := hP
  have hD : va_D A (WN ad cI n fb (upd (ra 1) i (w 1)) (upd (ra 2) i (w 2)) (upd (ra 3) i (w 3))) := hD
  exact W.vret hx hb hr (fun t ht hW => ⟨⟨(), rfl, trivial, by rw [ht]; exact hP, va_K.moved hW.alike hK, hD⟩, hS.F ht⟩) hS.2.2 dX1_write_22
set_option maxHeartbeats 4000000 in
set_option maxRecDepth 100000 in
/-- missing(a) -/
theorem m1_missing (l : Launch) (dC : Nat → ClassId) (dI : Nat → Nat → Nat) (ad : Nat → Nat) (cI : ClassId) (n : Nat) (fb : Int32) (ra : Nat → Nat → Int32) (a : Int32) (hn : n ≤ 12) : Met l yX1_missing (ws_ yX1_missing cX1_missing 2 (some .boolean)) { frames := 0, cells := 0, slots := 0, locals := 0 } (va_Pc [.ref (ad 0), .int a] (RoW (dC, dI) (tyM cI) (WN ad cI (nI n) fb (ra 1) (ra 2) (ra 3)))) (vp_Si (fun (r : Int32) => (r = 1 ∧ ∀ k, k < n → a ≠ nI k) ∨ (r = 0 ∧ ∃ k, k < n ∧ a = nI k))) 0 0 (fun _ => False) := by
  refine Met.ofW (cc := cX1_missing) (maxL := 2) (ret := (some .boolean)) (by decide) rfl ?_
  intro p e s m args below meth c s₁ B hml hv
  obtain ⟨rfl, hP, hK⟩ := hv
  have hx := B.exec
  have hb := B.bytes
  have hr := B.returns
  have hts := atoms_spec (ws := (ws_ yX1_missing cX1_missing 2 (some .boolean))) B.pre
  have hts : ∀ w ∈ lw_all, w.before _ s = true := fun w h => hts w (List.mem_cons_of_mem _ h)
  have hown : s.vm.findClass RX1 = some m.cls := findClass_of_methodNamed B.named
  have hlocks := B.notSynchronized
  have hP : va_P (dC, dI) vwCl (WN ad cI (nI n) fb (ra 1) (ra 2) (ra 3)) s.heap := hP
  have hl := lv_entry ([.ref (ad 0), .int a]) (n := 2) (Nat.le_of_ble_eq_true rfl)
  rw [lg_entry_eq]
  generalize (lg_sl ([.ref (ad 0), .int a]) ++ List.replicate (2 - (lg_sl ([.ref (ad 0), .int a])).length) Slot.unset).toArray = ls at hl ⊢
  have hl : lv_has ls 2 [(0, .ref (ad 0)), (1, .int a)] := hl
  refine lv_iload_n hx hb dX1_missing_0 rfl (lv_at hl 1 rfl) ?_
  refine lv_if_lt (tgt := 12) hx hb dX1_missing_1 (by decide) (fun c1 => ?_) (fun c1 => ?_)
  · refine lv_iconst (v := (nI 1)) hx hb dX1_missing_12 (by decide) ?_
    refine lv_goto (tgt := 17) hx hb dX1_missing_13 (by decide) ?_
    exact W.zret (v := (nI 1)) hx hb hr rfl (fun t ht hW => ⟨_, rfl, Or.inl ⟨rfl, fun k hk e => by rw [e] at c1; exact nI_pos (by omega) c1⟩, ht⟩) (fun _ h => by cases h) dX1_missing_17
  · obtain ⟨k, hk, rfl⟩ := nI_of c1
    refine lv_iload_n hx hb dX1_missing_4 rfl (lv_at hl 1 rfl) ?_
    refine lv_aload_n hx hb dX1_missing_5 rfl (lv_at hl 0 rfl) ?_
    refine x_getM (v := .int (nI n)) hx hb hts hown hK hP 0 (by decide) q169 rfl rfl dX1_missing_6 ?_
    refine x_clt (tgt := 16) hx hb (by omega) (by omega) dX1_missing_9 (by decide) (fun c2 => ?_) (fun c2 => ?_)
    · refine lv_iconst (v := (nI 0)) hx hb dX1_missing_16 (by decide) ?_
      exact W.zret (v := (nI 0)) hx hb hr rfl (fun t ht hW => ⟨_, rfl, Or.inr ⟨rfl, k, c2, rfl⟩, ht⟩) (fun _ h => by cases h) dX1_missing_17
    · refine lv_iconst (v := (nI 1)) hx hb dX1_missing_12 (by decide) ?_
      refine lv_goto (tgt := 17) hx hb dX1_missing_13 (by decide) ?_
      exact W.zret (v := (nI 1)) hx hb hr rfl (fun t ht hW => ⟨_, rfl, Or.inl ⟨rfl, fun k2 hk2 e => by have := (nI_eq hk (by omega)).mp e; omega⟩, ht⟩) (fun _ h => by cases h) dX1_missing_17
set_option maxHeartbeats 4000000 in
set_option maxRecDepth 100000 in
/-- noPacket(a, b, c) -/
theorem m1_noPacket (l : Launch) (a b c0 : Int32) : Met l yX1_noPacket (ws_ yX1_noPacket cX1_noPacket 3 (some .boolean)) { frames := 0, cells := 0, slots := 0, locals := 0 } (va_Pc [.int a, .int b, .int c0] (fun _ => True)) (vp_Si (fun (r : Int32) => (r = 0 ∧ ∃ x y z : Nat, x < 32 ∧ y < 32 ∧ z < 4 ∧ a = nI x ∧ b = nI y ∧ c0 = nI z) ∨ (r = 1 ∧ p_noP a b c0))) 0 0 (fun _ => False) := by
  refine Met.ofW (cc := cX1_noPacket) (maxL := 3) (ret := (some .boolean)) (by decide) rfl ?_
  intro p e s m args below meth c s₁ B hml hv
  obtain ⟨rfl, -⟩ := hv
  have hx := B.exec
  have hb := B.bytes
  have hr := B.returns
  have hts := atoms_spec (ws := (ws_ yX1_noPacket cX1_noPacket 3 (some .boolean))) B.pre
  have hts : ∀ w ∈ lw_all, w.before _ s = true := fun w h => hts w (List.mem_cons_of_mem _ h)
  have hown : s.vm.findClass RX1 = some m.cls := findClass_of_methodNamed B.named
  have hlocks := B.notSynchronized
  have hl := lv_entry ([.int a, .int b, .int c0]) (n := 3) (Nat.le_of_ble_eq_true rfl)
  rw [lg_entry_eq]
  generalize (lg_sl ([.int a, .int b, .int c0]) ++ List.replicate (3 - (lg_sl ([.int a, .int b, .int c0])).length) Slot.unset).toArray = ls at hl ⊢
  have hl : lv_has ls 3 [(0, .int a), (1, .int b), (2, .int c0)] := hl
  refine lv_iload_n hx hb dX1_noPacket_0 rfl (lv_at hl 0 rfl) ?_
  refine lv_if_lt (tgt := 29) hx hb dX1_noPacket_1 (by decide) (fun c1 => ?_) (fun c1 => ?_)
  · refine lv_iconst (v := (nI 1)) hx hb dX1_noPacket_29 (by decide) ?_
    refine lv_goto (tgt := 34) hx hb dX1_noPacket_30 (by decide) ?_
    exact W.zret (v := (nI 1)) hx hb hr rfl (fun t ht hW => ⟨_, rfl, Or.inr ⟨rfl, fun x y z hx1 hy1 hz1 e => by obtain ⟨e1, e2, e3⟩ := e; rw [e1] at c1; exact nI_pos (by omega) c1⟩, ht⟩) (fun _ h => by cases h) dX1_noPacket_34
  · obtain ⟨x0, gx, rfl⟩ := nI_of c1
    refine lv_iload_n hx hb dX1_noPacket_4 rfl (lv_at hl 0 rfl) ?_
    refine lv_bipush (v := (nI 31)) hx hb dX1_noPacket_5 (by decide) ?_
    refine x_cgt (tgt := 29) hx hb (by omega) (by omega) dX1_noPacket_7 (by decide) (fun cx => ?_) (fun cx => ?_)
    · refine lv_iconst (v := (nI 1)) hx hb dX1_noPacket_29 (by decide) ?_
      refine lv_goto (tgt := 34) hx hb dX1_noPacket_30 (by decide) ?_
      exact W.zret (v := (nI 1)) hx hb hr rfl (fun t ht hW => ⟨_, rfl, Or.inr ⟨rfl, fun x y z hx1 hy1 hz1 e => by obtain ⟨e1, e2, e3⟩ := e; have := (nI_eq gx (by omega)).mp e1; omega⟩, ht⟩) (fun _ h => by cases h) dX1_noPacket_34
    · refine lv_iload_n hx hb dX1_noPacket_10 rfl (lv_at hl 1 rfl) ?_
      refine lv_if_lt (tgt := 29) hx hb dX1_noPacket_11 (by decide) (fun c1 => ?_) (fun c1 => ?_)
      · refine lv_iconst (v := (nI 1)) hx hb dX1_noPacket_29 (by decide) ?_
        refine lv_goto (tgt := 34) hx hb dX1_noPacket_30 (by decide) ?_
        exact W.zret (v := (nI 1)) hx hb hr rfl (fun t ht hW => ⟨_, rfl, Or.inr ⟨rfl, fun x y z hx1 hy1 hz1 e => by obtain ⟨e1, e2, e3⟩ := e; rw [e2] at c1; exact nI_pos (by omega) c1⟩, ht⟩) (fun _ h => by cases h) dX1_noPacket_34
      · obtain ⟨y0, gy, rfl⟩ := nI_of c1
        refine lv_iload_n hx hb dX1_noPacket_14 rfl (lv_at hl 1 rfl) ?_
        refine lv_bipush (v := (nI 31)) hx hb dX1_noPacket_15 (by decide) ?_
        refine x_cgt (tgt := 29) hx hb (by omega) (by omega) dX1_noPacket_17 (by decide) (fun cy => ?_) (fun cy => ?_)
        · refine lv_iconst (v := (nI 1)) hx hb dX1_noPacket_29 (by decide) ?_
          refine lv_goto (tgt := 34) hx hb dX1_noPacket_30 (by decide) ?_
          exact W.zret (v := (nI 1)) hx hb hr rfl (fun t ht hW => ⟨_, rfl, Or.inr ⟨rfl, fun x y z hx1 hy1 hz1 e => by obtain ⟨e1, e2, e3⟩ := e; have := (nI_eq gy (by omega)).mp e2; omega⟩, ht⟩) (fun _ h => by cases h) dX1_noPacket_34
        · refine lv_iload_n hx hb dX1_noPacket_20 rfl (lv_at hl 2 rfl) ?_
          refine lv_if_lt (tgt := 29) hx hb dX1_noPacket_21 (by decide) (fun c1 => ?_) (fun c1 => ?_)
          · refine lv_iconst (v := (nI 1)) hx hb dX1_noPacket_29 (by decide) ?_
            refine lv_goto (tgt := 34) hx hb dX1_noPacket_30 (by decide) ?_
            exact W.zret (v := (nI 1)) hx hb hr rfl (fun t ht hW => ⟨_, rfl, Or.inr ⟨rfl, fun x y z hx1 hy1 hz1 e => by obtain ⟨e1, e2, e3⟩ := e; rw [e3] at c1; exact nI_pos (by omega) c1⟩, ht⟩) (fun _ h => by cases h) dX1_noPacket_34
          · obtain ⟨z0, gz, rfl⟩ := nI_of c1
            refine lv_iload_n hx hb dX1_noPacket_24 rfl (lv_at hl 2 rfl) ?_
            refine lv_iconst (v := (nI 3)) hx hb dX1_noPacket_25 (by decide) ?_
            refine x_cle (tgt := 33) hx hb (by omega) (by omega) dX1_noPacket_26 (by decide) (fun cz => ?_) (fun cz => ?_)
            · refine lv_iconst (v := (nI 0)) hx hb dX1_noPacket_33 (by decide) ?_
              exact W.zret (v := (nI 0)) hx hb hr rfl (fun t ht hW => ⟨_, rfl, Or.inl ⟨rfl, x0, y0, z0, by omega, by omega, by omega, rfl, rfl, rfl⟩, ht⟩) (fun _ h => by cases h) dX1_noPacket_34
            · refine lv_iconst (v := (nI 1)) hx hb dX1_noPacket_29 (by decide) ?_
              refine lv_goto (tgt := 34) hx hb dX1_noPacket_30 (by decide) ?_
              exact W.zret (v := (nI 1)) hx hb hr rfl (fun t ht hW => ⟨_, rfl, Or.inr ⟨rfl, fun x y z hx1 hy1 hz1 e => by obtain ⟨e1, e2, e3⟩ := e; have := (nI_eq gz (by omega)).mp e3; omega⟩, ht⟩) (fun _ h => by cases h) dX1_noPacket_34
end
section
set_option maxHeartbeats 4000000 in
set_option maxRecDepth 100000 in
/-- insert -/
theorem m1_insert (l : Launch) (dC : Nat → ClassId) (dI : Nat → Nat → Nat) (ad : Nat → Nat) (cI : ClassId) (sz : Nat) (n fb : Nat) (q : Nat → pV) (ra : Nat → Nat → Int32) (a b c0 d : Int32) (hI : p_IM n q fb ra) : Met l yX1_insert (ws_ yX1_insert cX1_insert 6 (some .int)) { frames := 1, cells := 0, slots := 0, locals := 24 } (va_Pc [.ref (ad 0), .int a, .int b, .int c0, .int d] (PreW (dC, dI) (tyM cI) (WN ad cI (nI n) (nI fb) (ra 1) (ra 2) (ra 3)) sz)) (va_Qi (fun (r : Int32) (u : pS × (Nat → Nat → Int32)) => (r, u.1) = o_ins n q fb a b c0 d ∧ p_IM u.1.1 u.1.2.1 u.1.2.2 u.2) (fun (u : pS × (Nat → Nat → Int32)) => PosW (dC, dI) (tyM cI) (va_A (WN ad cI (nI n) (nI fb) (ra 1) (ra 2) (ra 3)) sz) (WM ad cI (nI u.1.1) (nI u.1.2.2) u.2)) (va_A (WN ad cI (nI n) (nI fb) (ra 1) (ra 2) (ra 3)) sz)) 0 0 (va_A (WN ad cI (nI n) (nI fb) (ra 1) (ra 2) (ra 3)) sz) := by
  refine Met.ofW (cc := cX1_insert) (maxL := 6) (ret := (some .int)) (by decide) rfl ?_
  intro p e s m args below meth c s₁ B hml hv
  obtain ⟨rfl, hsz, hP, hK, hD0⟩ := hv
  have hx := B.exec
  have hb := B.bytes
  have hr := B.returns
  have hts := atoms_spec (ws := (ws_ yX1_insert cX1_insert 6 (some .int))) B.pre
  have hts : ∀ w ∈ lw_all, w.before _ s = true := fun w h => hts w (List.mem_cons_of_mem _ h)
  have hown : s.vm.findClass RX1 = some m.cls := findClass_of_methodNamed B.named
  have hlocks := B.notSynchronized
  subst hsz
  have hD := hD0.self (sz := s.heap.size)
  generalize hAe : va_A (WN ad cI (nI n) (nI fb) (ra 1) (ra 2) (ra 3)) s.heap.size = A at hD ⊢
  have hA : ∀ q : Nat, s.heap.size ≤ q → A q := fun q h => by rw [← hAe]; exact Or.inr h
  have hS : va_S A s.heap s.heap [] := va_S.rf
  have hP : va_P (dC, dI) vwCl (WN ad cI (nI n) (nI fb) (ra 1) (ra 2) (ra 3)) s.heap := hP
  have hl := lv_entry ([.ref (ad 0), .int a, .int b, .int c0, .int d]) (n := 6) (Nat.le_of_ble_eq_true rfl)
  rw [lg_entry_eq]
  generalize (lg_sl ([.ref (ad 0), .int a, .int b, .int c0, .int d]) ++ List.replicate (6 - (lg_sl ([.ref (ad 0), .int a, .int b, .int c0, .int d])).length) Slot.unset).toArray = ls at hl ⊢
  have hl : lv_has ls 6 [(0, .ref (ad 0)), (1, .int a), (2, .int b), (3, .int c0), (4, .int d)] := hl
  have hn := hI.1.1
  refine lv_iload_n hx hb dX1_insert_0 rfl (lv_at hl 1 rfl) ?_
  refine lv_if_lt (tgt := 21) hx hb dX1_insert_1 (by decide) (fun c1 => ?_) (fun c1 => ?_)
  · refine lv_iconst (v := -1) hx hb dX1_insert_21 (by decide) ?_
    exact W.iret (v := (-1)) hx hb hr (fun t ht hW => ⟨⟨_, ((n, q, fb), ra), rfl, ⟨(o_ins_n q fb hn (Or.inl (c1))).symm, hI⟩, by rw [ht]; exact hP, va_K.moved hW.alike hK, hD⟩, hS.F ht⟩) hS.2.2 dX1_insert_22
  · obtain ⟨k, gk, rfl⟩ := nI_of c1
    refine lv_iload_n hx hb dX1_insert_4 rfl (lv_at hl 1 rfl) ?_
    refine lv_aload_n hx hb dX1_insert_5 rfl (lv_at hl 0 rfl) ?_
    refine x_getM (v := .int (nI n)) hx hb hts hown hK hP 0 (by decide) q169 rfl rfl dX1_insert_6 ?_
    refine x_cgt (tgt := 21) hx hb (by omega) (by omega) dX1_insert_9 (by decide) (fun ck => ?_) (fun ck => ?_)
    · refine lv_iconst (v := -1) hx hb dX1_insert_21 (by decide) ?_
      exact W.iret (v := (-1)) hx hb hr (fun t ht hW => ⟨⟨_, ((n, q, fb), ra), rfl, ⟨(o_ins_n q fb hn (Or.inr (Or.inl (nI_lt ck (by omega))))).symm, hI⟩, by rw [ht]; exact hP, va_K.moved hW.alike hK, hD⟩, hS.F ht⟩) hS.2.2 dX1_insert_22
    · refine lv_aload_n hx hb dX1_insert_12 rfl (lv_at hl 0 rfl) ?_
      refine x_getM (v := .int (nI n)) hx hb hts hown hK hP 0 (by decide) q169 rfl rfl dX1_insert_13 ?_
      refine lv_bipush (v := (nI 12)) hx hb dX1_insert_16 (by decide) ?_
      refine x_cne (tgt := 23) hx hb (by omega) (by omega) dX1_insert_18 (by decide) (fun c12 => ?_) (fun c12 => ?_)
      · have hn12 : n < 12 := by omega
        refine lv_iload_n hx hb dX1_insert_23 rfl (lv_at hl 2 rfl) ?_
        refine lv_if_lt (tgt := 57) hx hb dX1_insert_24 (by decide) (fun c1 => ?_) (fun c1 => ?_)
        · refine lv_iconst (v := -1) hx hb dX1_insert_57 (by decide) ?_
          exact W.iret (v := (-1)) hx hb hr (fun t ht hW => ⟨⟨_, ((n, q, fb), ra), rfl, ⟨(o_ins_n q fb hn (Or.inr (Or.inr (Or.inr (Or.inl (c1)))))).symm, hI⟩, by rw [ht]; exact hP, va_K.moved hW.alike hK, hD⟩, hS.F ht⟩) hS.2.2 dX1_insert_58
        · obtain ⟨s0, gs, rfl⟩ := nI_of c1
          refine lv_iload_n hx hb dX1_insert_27 rfl (lv_at hl 2 rfl) ?_
          refine lv_sipush (v := (nI 1023)) hx hb dX1_insert_28 (by decide) ?_
          refine x_cgt (tgt := 57) hx hb (by omega) (by omega) dX1_insert_31 (by decide) (fun cs => ?_) (fun cs => ?_)
          · refine lv_iconst (v := -1) hx hb dX1_insert_57 (by decide) ?_
            exact W.iret (v := (-1)) hx hb hr (fun t ht hW => ⟨⟨_, ((n, q, fb), ra), rfl, ⟨(o_ins_n q fb hn (Or.inr (Or.inr (Or.inr (Or.inr (Or.inl (nI_lt cs (by omega)))))))).symm, hI⟩, by rw [ht]; exact hP, va_K.moved hW.alike hK, hD⟩, hS.F ht⟩) hS.2.2 dX1_insert_58
          · refine lv_iload_n hx hb dX1_insert_34 rfl (lv_at hl 3 rfl) ?_
            refine lv_if_lt (tgt := 57) hx hb dX1_insert_35 (by decide) (fun c1 => ?_) (fun c1 => ?_)
            · refine lv_iconst (v := -1) hx hb dX1_insert_57 (by decide) ?_
              exact W.iret (v := (-1)) hx hb hr (fun t ht hW => ⟨⟨_, ((n, q, fb), ra), rfl, ⟨(o_ins_n q fb hn (Or.inr (Or.inr (Or.inr (Or.inr (Or.inr (Or.inl (c1)))))))).symm, hI⟩, by rw [ht]; exact hP, va_K.moved hW.alike hK, hD⟩, hS.F ht⟩) hS.2.2 dX1_insert_58
            · obtain ⟨dd0, gdd, rfl⟩ := nI_of c1
              refine lv_iload_n hx hb dX1_insert_38 rfl (lv_at hl 3 rfl) ?_
              refine lv_sipush (v := (nI 1023)) hx hb dX1_insert_39 (by decide) ?_
              refine x_cgt (tgt := 57) hx hb (by omega) (by omega) dX1_insert_42 (by decide) (fun cdd => ?_) (fun cdd => ?_)
              · refine lv_iconst (v := -1) hx hb dX1_insert_57 (by decide) ?_
                exact W.iret (v := (-1)) hx hb hr (fun t ht hW => ⟨⟨_, ((n, q, fb), ra), rfl, ⟨(o_ins_n q fb hn (Or.inr (Or.inr (Or.inr (Or.inr (Or.inr (Or.inr (Or.inl (nI_lt cdd (by omega)))))))))).symm, hI⟩, by rw [ht]; exact hP, va_K.moved hW.alike hK, hD⟩, hS.F ht⟩) hS.2.2 dX1_insert_58
              · refine lv_iload hx hb dX1_insert_45 (lv_at hl 4 rfl) ?_
                refine lv_if_lt (tgt := 57) hx hb dX1_insert_47 (by decide) (fun c1 => ?_) (fun c1 => ?_)
                · refine lv_iconst (v := -1) hx hb dX1_insert_57 (by decide) ?_
                  exact W.iret (v := (-1)) hx hb hr (fun t ht hW => ⟨⟨_, ((n, q, fb), ra), rfl, ⟨(o_ins_n q fb hn (Or.inr (Or.inr (Or.inr (Or.inr (Or.inr (Or.inr (Or.inr (Or.inl (c1)))))))))).symm, hI⟩, by rw [ht]; exact hP, va_K.moved hW.alike hK, hD⟩, hS.F ht⟩) hS.2.2 dX1_insert_58
                · obtain ⟨t0, gt, rfl⟩ := nI_of c1
                  refine lv_iload hx hb dX1_insert_50 (lv_at hl 4 rfl) ?_
                  refine lv_bipush (v := (nI 63)) hx hb dX1_insert_52 (by decide) ?_
                  refine x_cle (tgt := 59) hx hb (by omega) (by omega) dX1_insert_54 (by decide) (fun ct => ?_) (fun ct => ?_)
                  · refine lv_aload_n hx hb dX1_insert_59 rfl (lv_at hl 0 rfl) ?_
                    refine x_getM (v := .int (nI n)) hx hb hts hown hK hP 0 (by decide) q169 rfl rfl dX1_insert_60 ?_
                    refine lv_istore (lv' := [(5, .int (nI n)), (0, .ref (ad 0)), (1, .int (nI k)), (2, .int (nI s0)), (3, .int (nI dd0)), (4, .int (nI t0))]) hx hb dX1_insert_63 hl (by decide) rfl (fun ls hl => ?_)
                    have loop : ∀ (f : Nat) (i : Nat) (rb : Nat → Nat → Int32), k ≤ i → i ≤ n → i < k + f → (∀ g j, rb g j = if i < j ∧ j ≤ n then ra g (j - 1) else ra g j) → ∀ (H : Heap) (locs : List Loc) (ls : Array Slot), va_P (dC, dI) vwCl (WN ad cI (nI n) (nI fb) (rb 1) (rb 2) (rb 3)) H → va_D A (WN ad cI (nI n) (nI fb) (rb 1) (rb 2) (rb 3)) → va_S A s.heap H locs → lv_has ls 6 [(0, .ref (ad 0)), (1, .int (nI k)), (2, .int (nI s0)), (3, .int (nI dd0)), (4, .int (nI t0)), (5, .int (nI i))] → W p l e (headSpec (ws_ yX1_insert cX1_insert 6 (some .int)) { frames := 1, cells := 0, slots := 0, locals := 24 }).room s m ([.ref (ad 0), .int (nI k), .int (nI s0), .int (nI dd0), .int (nI t0)] : List Value).toArray below meth c H locs 0 0 (MQ below (va_Qi (fun (r : Int32) (u : pS × (Nat → Nat → Int32)) => (r, u.1) = o_ins n q fb (nI k) (nI s0) (nI dd0) (nI t0) ∧ p_IM u.1.1 u.1.2.1 u.1.2.2 u.2) (fun (u : pS × (Nat → Nat → Int32)) => PosW (dC, dI) (tyM cI) A (WM ad cI (nI u.1.1) (nI u.1.2.2) u.2)) A) ([.ref (ad 0), .int (nI k), .int (nI s0), .int (nI dd0), .int (nI t0)] : List Value).toArray s 0 0 A) (F0 m 65 ls []) := by
                      intro f
                      induction f with
                      | zero => intros; omega
                      | succ f ih =>
                        intro i rb h1 h2 h3 hrb H locs ls hP hD hS hl
                        refine lv_iload hx hb dX1_insert_65 (lv_at hl 5 rfl) ?_
                        refine lv_iload_n hx hb dX1_insert_67 rfl (lv_at hl 1 rfl) ?_
                        refine x_cle (tgt := 87) hx hb (by omega) (by omega) dX1_insert_68 (by decide) (fun ci => ?_) (fun ci => ?_)
                        · obtain rfl : i = k := by omega
                          refine lv_aload_n hx hb dX1_insert_87 rfl (lv_at hl 0 rfl) ?_
                          refine lv_iload_n hx hb dX1_insert_88 rfl (lv_at hl 1 rfl) ?_
                          refine lv_iload_n hx hb dX1_insert_89 rfl (lv_at hl 2 rfl) ?_
                          refine lv_iload_n hx hb dX1_insert_90 rfl (lv_at hl 3 rfl) ?_
                          refine lv_iload hx hb dX1_insert_91 (lv_at hl 4 rfl) ?_
                          refine x_callv (va_runV (As := [.int (nI i), .int (nI s0), .int (nI dd0), .int (nI t0)]) (rest := []) ⟨hx, hb, hml, hown, hts⟩ (m1_write l dC dI ad cI H.size (nI n) (nI fb) rb (e_M (s0, dd0, t0)) i (by omega)) (cwV 4 hts (lw_V q193 q195 qs11 q18 q196) rfl rfl rfl (by decide +kernel) ⟨Nat.le_of_ble_eq_true rfl, Nat.le_of_ble_eq_true rfl⟩) (x_preV (ci := 1) (q0 := 0) hK hP hD rfl rfl) rfl rfl hl.1 rfl (lv_room (Nat.le_of_ble_eq_true rfl)) dX1_insert_93 ⟨Nat.le_refl _, Nat.le_refl _⟩) hD hS hA (fun _ H locs _ hP hD hS => ?_)
                          have hP : va_P (dC, dI) vwCl (WN ad cI (nI n) (nI fb) (upd (rb 1) i (nI s0)) (upd (rb 2) i (nI dd0)) (upd (rb 3) i (nI t0))) H := hP
                          have hD : va_D A (WN ad cI (nI n) (nI fb) (upd (rb 1) i (nI s0)) (upd (rb 2) i (nI dd0)) (upd (rb 3) i (nI t0))) := hD
                          refine lv_aload_n hx hb dX1_insert_96 rfl (lv_at hl 0 rfl) ?_
                          refine lv_dup hx hb dX1_insert_97 rfl ?_
                          refine x_getM (v := .int (nI n)) hx hb hts hown hK hP 0 (by decide) q169 rfl rfl dX1_insert_98 ?_
                          refine lv_iconst (v := (nI 1)) hx hb dX1_insert_101 (by decide) ?_
                          refine x_add hx hb dX1_insert_102 ?_
                          refine x_putM (v := .int (nI (n + 1))) (ty := .int) hx hb hts hown hK hP hD hS 0 (by decide) q169 rfl rfl (by decide +kernel) rfl rfl (Nat.le_of_ble_eq_true rfl) dX1_insert_103 (fun H locs hP hD hS => ?_)
                          have hP : va_P (dC, dI) vwCl (WN ad cI (nI (n + 1)) (nI fb) (upd (rb 1) i (nI s0)) (upd (rb 2) i (nI dd0)) (upd (rb 3) i (nI t0))) H := hP
                          have hD : va_D A (WN ad cI (nI (n + 1)) (nI fb) (upd (rb 1) i (nI s0)) (upd (rb 2) i (nI dd0)) (upd (rb 3) i (nI t0))) := hD
                          refine lv_aload_n hx hb dX1_insert_106 rfl (lv_at hl 0 rfl) ?_
                          refine x_getM (v := .int (nI (n + 1))) hx hb hts hown hK hP 0 (by decide) q169 rfl rfl dX1_insert_107 ?_
                          exact W.iret (v := (nI (n + 1))) hx hb hr (fun t ht hW => ⟨⟨_, ((n + 1, q_ins q i (s0, dd0, t0), fb), fun g => upd (rb g) i (e_M (s0, dd0, t0) g)), rfl, ⟨(o_ins_y q fb h2 hn12 cs cdd ct).symm, p_ok_ins hI.1 h2 hn12 cs cdd ct, p_rep_ins hI.2 h2 (fun g _ _ j hj => s_up_end (v := e_M (s0, dd0, t0)) hrb g hj)⟩, by rw [ht]; exact hP, va_K.moved hW.alike hK, hD⟩, hS.F ht⟩) hS.2.2 dX1_insert_110
                        · refine lv_aload_n hx hb dX1_insert_71 rfl (lv_at hl 0 rfl) ?_
                          refine lv_iload hx hb dX1_insert_72 (lv_at hl 5 rfl) ?_
                          refine lv_iload hx hb dX1_insert_74 (lv_at hl 5 rfl) ?_
                          refine lv_iconst (v := (nI 1)) hx hb dX1_insert_76 (by decide) ?_
                          refine x_sub hx hb (by omega) dX1_insert_77 ?_
                          refine x_callv (va_runV (As := [.int (nI i), .int (nI (i - 1))]) (rest := []) ⟨hx, hb, hml, hown, hts⟩ (m1_copy l dC dI ad cI H.size (nI n) (nI fb) rb i (i - 1) (by omega) (by omega)) (cwV 2 hts (lw_V q189 q191 qs10 q18 q192) rfl rfl rfl (by decide +kernel) ⟨Nat.le_of_ble_eq_true rfl, Nat.le_of_ble_eq_true rfl⟩) (x_preV (ci := 1) (q0 := 0) hK hP hD rfl rfl) rfl rfl hl.1 rfl (lv_room (Nat.le_of_ble_eq_true rfl)) dX1_insert_78 ⟨Nat.le_refl _, Nat.le_refl _⟩) hD hS hA (fun _ H locs _ hP hD hS => ?_)
                          have hP : va_P (dC, dI) vwCl (WN ad cI (nI n) (nI fb) (upd (rb 1) i (rb 1 (i - 1))) (upd (rb 2) i (rb 2 (i - 1))) (upd (rb 3) i (rb 3 (i - 1)))) H := hP
                          have hD : va_D A (WN ad cI (nI n) (nI fb) (upd (rb 1) i (rb 1 (i - 1))) (upd (rb 2) i (rb 2 (i - 1))) (upd (rb 3) i (rb 3 (i - 1)))) := hD
                          refine lv_iinc (v := (nI (i - 1))) (lv' := [(5, .int (nI (i - 1))), (0, .ref (ad 0)), (1, .int (nI k)), (2, .int (nI s0)), (3, .int (nI dd0)), (4, .int (nI t0))]) hx hb dX1_insert_81 hl (k := 5) rfl (x_dec (by omega)) (by decide) rfl (fun ls hl => ?_)
                          refine lv_goto (tgt := 65) hx hb dX1_insert_84 (by decide) ?_
                          exact ih (i - 1) (fun g => upd (rb g) i (rb g (i - 1))) (by omega) (by omega) (by omega) (s_up_step hrb (by omega) h2) _ _ _ hP hD hS (lv_sub hl [1, 2, 3, 4, 5, 0] rfl)
                    exact loop (n + 1) n ra (by omega) (by omega) (by omega) s_up_0 _ _ _ hP hD hS (lv_sub hl [1, 2, 3, 4, 5, 0] rfl)
                  · refine lv_iconst (v := -1) hx hb dX1_insert_57 (by decide) ?_
                    exact W.iret (v := (-1)) hx hb hr (fun t ht hW => ⟨⟨_, ((n, q, fb), ra), rfl, ⟨(o_ins_n q fb hn (Or.inr (Or.inr (Or.inr (Or.inr (Or.inr (Or.inr (Or.inr (Or.inr (nI_lt ct (by omega))))))))))).symm, hI⟩, by rw [ht]; exact hP, va_K.moved hW.alike hK, hD⟩, hS.F ht⟩) hS.2.2 dX1_insert_58
      · refine lv_iconst (v := -1) hx hb dX1_insert_21 (by decide) ?_
        exact W.iret (v := (-1)) hx hb hr (fun t ht hW => ⟨⟨_, ((n, q, fb), ra), rfl, ⟨(o_ins_n q fb hn (Or.inr (Or.inr (Or.inl (c12))))).symm, hI⟩, by rw [ht]; exact hP, va_K.moved hW.alike hK, hD⟩, hS.F ht⟩) hS.2.2 dX1_insert_22
set_option maxHeartbeats 4000000 in
set_option maxRecDepth 100000 in
/-- remove -/
theorem m1_remove (l : Launch) (dC : Nat → ClassId) (dI : Nat → Nat → Nat) (ad : Nat → Nat) (cI : ClassId) (sz : Nat) (n fb : Nat) (q : Nat → pV) (ra : Nat → Nat → Int32) (a : Int32) (hI : p_IM n q fb ra) : Met l yX1_remove (ws_ yX1_remove cX1_remove 3 (some .int)) { frames := 1, cells := 0, slots := 0, locals := 22 } (va_Pc [.ref (ad 0), .int a] (PreW (dC, dI) (tyM cI) (WN ad cI (nI n) (nI fb) (ra 1) (ra 2) (ra 3)) sz)) (va_Qi (fun (r : Int32) (u : pS × (Nat → Nat → Int32)) => (r, u.1) = o_rem n q fb a ∧ p_IM u.1.1 u.1.2.1 u.1.2.2 u.2) (fun (u : pS × (Nat → Nat → Int32)) => PosW (dC, dI) (tyM cI) (va_A (WN ad cI (nI n) (nI fb) (ra 1) (ra 2) (ra 3)) sz) (WM ad cI (nI u.1.1) (nI u.1.2.2) u.2)) (va_A (WN ad cI (nI n) (nI fb) (ra 1) (ra 2) (ra 3)) sz)) 0 0 (va_A (WN ad cI (nI n) (nI fb) (ra 1) (ra 2) (ra 3)) sz) := by
  refine Met.ofW (cc := cX1_remove) (maxL := 3) (ret := (some .int)) (by decide) rfl ?_
  intro p e s m args below meth c s₁ B hml hv
  obtain ⟨rfl, hsz, hP, hK, hD0⟩ := hv
  have hx := B.exec
  have hb := B.bytes
  have hr := B.returns
  have hts := atoms_spec (ws := (ws_ yX1_remove cX1_remove 3 (some .int))) B.pre
  have hts : ∀ w ∈ lw_all, w.before _ s = true := fun w h => hts w (List.mem_cons_of_mem _ h)
  have hown : s.vm.findClass RX1 = some m.cls := findClass_of_methodNamed B.named
  have hlocks := B.notSynchronized
  subst hsz
  have hD := hD0.self (sz := s.heap.size)
  generalize hAe : va_A (WN ad cI (nI n) (nI fb) (ra 1) (ra 2) (ra 3)) s.heap.size = A at hD ⊢
  have hA : ∀ q : Nat, s.heap.size ≤ q → A q := fun q h => by rw [← hAe]; exact Or.inr h
  have hS : va_S A s.heap s.heap [] := va_S.rf
  have hP : va_P (dC, dI) vwCl (WN ad cI (nI n) (nI fb) (ra 1) (ra 2) (ra 3)) s.heap := hP
  have hl := lv_entry ([.ref (ad 0), .int a]) (n := 3) (Nat.le_of_ble_eq_true rfl)
  rw [lg_entry_eq]
  generalize (lg_sl ([.ref (ad 0), .int a]) ++ List.replicate (3 - (lg_sl ([.ref (ad 0), .int a])).length) Slot.unset).toArray = ls at hl ⊢
  have hl : lv_has ls 3 [(0, .ref (ad 0)), (1, .int a)] := hl
  have hn := hI.1.1
  refine lv_aload_n hx hb dX1_remove_0 rfl (lv_at hl 0 rfl) ?_
  refine lv_iload_n hx hb dX1_remove_1 rfl (lv_at hl 1 rfl) ?_
  refine vp_callSi (W.runV (As := [.int a]) (rest := []) ⟨hx, hb, hml, hown, hts⟩ (m1_missing l dC dI ad cI n (nI fb) ra a hn) (cwV 1 hts (lw_V q201 q203 qs12 q18 q204) rfl rfl rfl (by decide +kernel) ⟨Nat.le_of_ble_eq_true rfl, Nat.le_of_ble_eq_true rfl⟩) (x_preVR (ci := 1) (q0 := 0) hK hP rfl rfl) rfl rfl hl.1 rfl (lv_room (Nat.le_of_ble_eq_true rfl)) dX1_remove_2 ⟨Nat.le_refl _, Nat.le_refl _⟩) (fun r1 h1 => ?_)
  rcases h1 with ⟨rfl, h1⟩ | ⟨rfl, k, hk, rfl⟩
  · refine lv_if_eq (tgt := 10) hx hb dX1_remove_5 (by decide) (fun c9 => absurd c9 (by decide)) (fun _ => ?_)
    refine lv_iconst (v := -1) hx hb dX1_remove_8 (by decide) ?_
    exact W.iret (v := (-1)) hx hb hr (fun t ht hW => ⟨⟨_, ((n, q, fb), ra), rfl, ⟨(o_rem_n q fb hn h1).symm, hI⟩, by rw [ht]; exact hP, va_K.moved hW.alike hK, hD⟩, hS.F ht⟩) hS.2.2 dX1_remove_9
  · refine lv_if_eq (tgt := 10) hx hb dX1_remove_5 (by decide) (fun _ => ?_) (fun c9 => absurd (by decide) c9)
    refine lv_aload_n hx hb dX1_remove_10 rfl (lv_at hl 0 rfl) ?_
    refine lv_dup hx hb dX1_remove_11 rfl ?_
    refine x_getM (v := .int (nI n)) hx hb hts hown hK hP 0 (by decide) q169 rfl rfl dX1_remove_12 ?_
    refine lv_iconst (v := (nI 1)) hx hb dX1_remove_15 (by decide) ?_
    refine x_sub hx hb (by omega) dX1_remove_16 ?_
    refine x_putM (v := .int (nI (n - 1))) (ty := .int) hx hb hts hown hK hP hD hS 0 (by decide) q169 rfl rfl (by decide +kernel) rfl rfl (Nat.le_of_ble_eq_true rfl) dX1_remove_17 (fun H locs hP hD hS => ?_)
    have hP : va_P (dC, dI) vwCl (WN ad cI (nI (n - 1)) (nI fb) (ra 1) (ra 2) (ra 3)) H := hP
    have hD : va_D A (WN ad cI (nI (n - 1)) (nI fb) (ra 1) (ra 2) (ra 3)) := hD
    refine lv_iload_n hx hb dX1_remove_20 rfl (lv_at hl 1 rfl) ?_
    refine lv_istore_n (lv' := [(2, .int (nI k)), (0, .ref (ad 0)), (1, .int (nI k))]) hx hb dX1_remove_21 rfl hl (by decide) rfl (fun ls hl => ?_)
    have loop : ∀ (f : Nat) (i : Nat) (rb : Nat → Nat → Int32), k ≤ i → i ≤ n - 1 → n ≤ i + f → (∀ g j, rb g j = if k ≤ j ∧ j < i then ra g (j + 1) else ra g j) → ∀ (H : Heap) (locs : List Loc) (ls : Array Slot), va_P (dC, dI) vwCl (WN ad cI (nI (n - 1)) (nI fb) (rb 1) (rb 2) (rb 3)) H → va_D A (WN ad cI (nI (n - 1)) (nI fb) (rb 1) (rb 2) (rb 3)) → va_S A s.heap H locs → lv_has ls 3 [(0, .ref (ad 0)), (1, .int (nI k)), (2, .int (nI i))] → W p l e (headSpec (ws_ yX1_remove cX1_remove 3 (some .int)) { frames := 1, cells := 0, slots := 0, locals := 22 }).room s m ([.ref (ad 0), .int (nI k)] : List Value).toArray below meth c H locs 0 0 (MQ below (va_Qi (fun (r : Int32) (u : pS × (Nat → Nat → Int32)) => (r, u.1) = o_rem n q fb (nI k) ∧ p_IM u.1.1 u.1.2.1 u.1.2.2 u.2) (fun (u : pS × (Nat → Nat → Int32)) => PosW (dC, dI) (tyM cI) A (WM ad cI (nI u.1.1) (nI u.1.2.2) u.2)) A) ([.ref (ad 0), .int (nI k)] : List Value).toArray s 0 0 A) (F0 m 22 ls []) := by
      intro f
      induction f with
      | zero => intros; omega
      | succ f ih =>
        intro i rb h1 h2 h3 hrb H locs ls hP hD hS hl
        refine lv_iload_n hx hb dX1_remove_22 rfl (lv_at hl 2 rfl) ?_
        refine lv_aload_n hx hb dX1_remove_23 rfl (lv_at hl 0 rfl) ?_
        refine x_getM (v := .int (nI (n - 1))) hx hb hts hown hK hP 0 (by decide) q169 rfl rfl dX1_remove_24 ?_
        refine x_cge (tgt := 44) hx hb (by omega) (by omega) dX1_remove_27 (by decide) (fun ci => ?_) (fun ci => ?_)
        · refine lv_aload_n hx hb dX1_remove_44 rfl (lv_at hl 0 rfl) ?_
          refine x_getM (v := .int (nI (n - 1))) hx hb hts hown hK hP 0 (by decide) q169 rfl rfl dX1_remove_45 ?_
          exact W.iret (v := (nI (n - 1))) hx hb hr (fun t ht hW => ⟨⟨_, ((n - 1, q_del q k, fb), rb), rfl, ⟨(o_rem_y q fb hn hk).symm, p_ok_del hI.1 hk, p_rep_del hI.2 hk (fun g _ _ j hj => s_dn_end hrb g (by omega))⟩, by rw [ht]; exact hP, va_K.moved hW.alike hK, hD⟩, hS.F ht⟩) hS.2.2 dX1_remove_48
        · refine lv_aload_n hx hb dX1_remove_30 rfl (lv_at hl 0 rfl) ?_
          refine lv_iload_n hx hb dX1_remove_31 rfl (lv_at hl 2 rfl) ?_
          refine lv_iload_n hx hb dX1_remove_32 rfl (lv_at hl 2 rfl) ?_
          refine lv_iconst (v := (nI 1)) hx hb dX1_remove_33 (by decide) ?_
          refine x_add hx hb dX1_remove_34 ?_
          refine x_callv (va_runV (As := [.int (nI i), .int (nI (i + 1))]) (rest := []) ⟨hx, hb, hml, hown, hts⟩ (m1_copy l dC dI ad cI H.size (nI (n - 1)) (nI fb) rb i (i + 1) (by omega) (by omega)) (cwV 2 hts (lw_V q189 q191 qs10 q18 q192) rfl rfl rfl (by decide +kernel) ⟨Nat.le_of_ble_eq_true rfl, Nat.le_of_ble_eq_true rfl⟩) (x_preV (ci := 1) (q0 := 0) hK hP hD rfl rfl) rfl rfl hl.1 rfl (lv_room (Nat.le_of_ble_eq_true rfl)) dX1_remove_35 ⟨Nat.le_refl _, Nat.le_refl _⟩) hD hS hA (fun _ H locs _ hP hD hS => ?_)
          have hP : va_P (dC, dI) vwCl (WN ad cI (nI (n - 1)) (nI fb) (upd (rb 1) i (rb 1 (i + 1))) (upd (rb 2) i (rb 2 (i + 1))) (upd (rb 3) i (rb 3 (i + 1)))) H := hP
          have hD : va_D A (WN ad cI (nI (n - 1)) (nI fb) (upd (rb 1) i (rb 1 (i + 1))) (upd (rb 2) i (rb 2 (i + 1))) (upd (rb 3) i (rb 3 (i + 1)))) := hD
          refine lv_iinc (v := (nI (i + 1))) (lv' := [(2, .int (nI (i + 1))), (0, .ref (ad 0)), (1, .int (nI k))]) hx hb dX1_remove_38 hl (k := 2) rfl (x_inc _) (by decide) rfl (fun ls hl => ?_)
          refine lv_goto (tgt := 22) hx hb dX1_remove_41 (by decide) ?_
          exact ih (i + 1) (fun g => upd (rb g) i (rb g (i + 1))) (by omega) (by omega) (by omega) (s_dn_step hrb h1) _ _ _ hP hD hS (lv_sub hl [1, 2, 0] rfl)
    exact loop n k ra (by omega) (by omega) (by omega) s_dn_0 _ _ _ hP hD hS (lv_sub hl [1, 2, 0] rfl)
set_option maxHeartbeats 4000000 in
set_option maxRecDepth 100000 in
/-- shift -/
theorem m1_shift (l : Launch) (dC : Nat → ClassId) (dI : Nat → Nat → Nat) (ad : Nat → Nat) (cI : ClassId) (sz : Nat) (n fb : Nat) (q : Nat → pV) (ra : Nat → Nat → Int32) (a b : Int32) (hI : p_IM n q fb ra) : Met l yX1_shift (ws_ yX1_shift cX1_shift 6 (some .int)) { frames := 2, cells := 0, slots := 0, locals := 49 } (va_Pc [.ref (ad 0), .int a, .int b] (PreW (dC, dI) (tyM cI) (WN ad cI (nI n) (nI fb) (ra 1) (ra 2) (ra 3)) sz)) (va_Qi (fun (r : Int32) (u : pS × (Nat → Nat → Int32)) => (r, u.1) = o_shi n q fb a b ∧ p_IM u.1.1 u.1.2.1 u.1.2.2 u.2) (fun (u : pS × (Nat → Nat → Int32)) => PosW (dC, dI) (tyM cI) (va_A (WN ad cI (nI n) (nI fb) (ra 1) (ra 2) (ra 3)) sz) (WM ad cI (nI u.1.1) (nI u.1.2.2) u.2)) (va_A (WN ad cI (nI n) (nI fb) (ra 1) (ra 2) (ra 3)) sz)) 0 0 (va_A (WN ad cI (nI n) (nI fb) (ra 1) (ra 2) (ra 3)) sz) := by
  refine Met.ofW (cc := cX1_shift) (maxL := 6) (ret := (some .int)) (by decide) rfl ?_
  intro p e s m args below meth c s₁ B hml hv
  obtain ⟨rfl, hsz, hP, hK, hD0⟩ := hv
  have hx := B.exec
  have hb := B.bytes
  have hr := B.returns
  have hts := atoms_spec (ws := (ws_ yX1_shift cX1_shift 6 (some .int))) B.pre
  have hts : ∀ w ∈ lw_all, w.before _ s = true := fun w h => hts w (List.mem_cons_of_mem _ h)
  have hown : s.vm.findClass RX1 = some m.cls := findClass_of_methodNamed B.named
  have hlocks := B.notSynchronized
  subst hsz
  have hD := hD0.self (sz := s.heap.size)
  generalize hAe : va_A (WN ad cI (nI n) (nI fb) (ra 1) (ra 2) (ra 3)) s.heap.size = A at hD ⊢
  have hA : ∀ q : Nat, s.heap.size ≤ q → A q := fun q h => by rw [← hAe]; exact Or.inr h
  have hS : va_S A s.heap s.heap [] := va_S.rf
  have hP : va_P (dC, dI) vwCl (WN ad cI (nI n) (nI fb) (ra 1) (ra 2) (ra 3)) s.heap := hP
  have hl := lv_entry ([.ref (ad 0), .int a, .int b]) (n := 6) (Nat.le_of_ble_eq_true rfl)
  rw [lg_entry_eq]
  generalize (lg_sl ([.ref (ad 0), .int a, .int b]) ++ List.replicate (6 - (lg_sl ([.ref (ad 0), .int a, .int b])).length) Slot.unset).toArray = ls at hl ⊢
  have hl : lv_has ls 6 [(0, .ref (ad 0)), (1, .int a), (2, .int b)] := hl
  have hn := hI.1.1
  refine lv_aload_n hx hb dX1_shift_0 rfl (lv_at hl 0 rfl) ?_
  refine lv_iload_n hx hb dX1_shift_1 rfl (lv_at hl 1 rfl) ?_
  refine vp_callSi (W.runV (As := [.int a]) (rest := []) ⟨hx, hb, hml, hown, hts⟩ (m1_missing l dC dI ad cI n (nI fb) ra a hn) (cwV 1 hts (lw_V q201 q203 qs12 q18 q204) rfl rfl rfl (by decide +kernel) ⟨Nat.le_of_ble_eq_true rfl, Nat.le_of_ble_eq_true rfl⟩) (x_preVR (ci := 1) (q0 := 0) hK hP rfl rfl) rfl rfl hl.1 rfl (lv_room (Nat.le_of_ble_eq_true rfl)) dX1_shift_2 ⟨Nat.le_refl _, Nat.le_refl _⟩) (fun r1 h1 => ?_)
  rcases h1 with ⟨rfl, h1⟩ | ⟨rfl, k, hk, rfl⟩
  · refine lv_if_ne (tgt := 16) hx hb dX1_shift_5 (by decide) (fun _ => ?_) (fun c9 => absurd c9 (by decide))
    refine lv_iconst (v := -1) hx hb dX1_shift_16 (by decide) ?_
    exact W.iret (v := (-1)) hx hb hr (fun t ht hW => ⟨⟨_, ((n, q, fb), ra), rfl, ⟨(o_shi_n q fb hn (Or.inl h1)).symm, hI⟩, by rw [ht]; exact hP, va_K.moved hW.alike hK, hD⟩, hS.F ht⟩) hS.2.2 dX1_shift_17
  · refine lv_if_ne (tgt := 16) hx hb dX1_shift_5 (by decide) (fun c9 => absurd (by decide) c9) (fun _ => ?_)
    refine lv_aload_n hx hb dX1_shift_8 rfl (lv_at hl 0 rfl) ?_
    refine lv_iload_n hx hb dX1_shift_9 rfl (lv_at hl 2 rfl) ?_
    refine vp_callSi (W.runV (As := [.int b]) (rest := []) ⟨hx, hb, hml, hown, hts⟩ (m1_missing l dC dI ad cI n (nI fb) ra b hn) (cwV 1 hts (lw_V q201 q203 qs12 q18 q204) rfl rfl rfl (by decide +kernel) ⟨Nat.le_of_ble_eq_true rfl, Nat.le_of_ble_eq_true rfl⟩) (x_preVR (ci := 1) (q0 := 0) hK hP rfl rfl) rfl rfl hl.1 rfl (lv_room (Nat.le_of_ble_eq_true rfl)) dX1_shift_10 ⟨Nat.le_refl _, Nat.le_refl _⟩) (fun r1 h1 => ?_)
    rcases h1 with ⟨rfl, h1⟩ | ⟨rfl, j, hj, rfl⟩
    · refine lv_if_eq (tgt := 18) hx hb dX1_shift_13 (by decide) (fun c9 => absurd c9 (by decide)) (fun _ => ?_)
      refine lv_iconst (v := -1) hx hb dX1_shift_16 (by decide) ?_
      exact W.iret (v := (-1)) hx hb hr (fun t ht hW => ⟨⟨_, ((n, q, fb), ra), rfl, ⟨(o_shi_n q fb hn (Or.inr h1)).symm, hI⟩, by rw [ht]; exact hP, va_K.moved hW.alike hK, hD⟩, hS.F ht⟩) hS.2.2 dX1_shift_17
    · refine lv_if_eq (tgt := 18) hx hb dX1_shift_13 (by decide) (fun _ => ?_) (fun c9 => absurd (by decide) c9)
      obtain ⟨hq1, hq2, hq3⟩ := hI.1.2.2 k hk
      refine lv_aload_n hx hb dX1_shift_18 rfl (lv_at hl 0 rfl) ?_
      refine x_getM (v := .ref (ad 1)) hx hb hts hown hK hP 1 (by decide) q170 rfl rfl dX1_shift_19 ?_
      refine lv_iload_n hx hb dX1_shift_22 rfl (lv_at hl 1 rfl) ?_
      refine x_iald (v := (nI ((q k).1))) hx hb hK hP 1 0 rfl rfl (by omega) (by decide) (hI.2 k hk 1 (by decide) (by decide)) dX1_shift_23 ?_
      refine lv_istore_n (lv' := [(3, .int (nI ((q k).1))), (0, .ref (ad 0)), (1, .int (nI k)), (2, .int (nI j))]) hx hb dX1_shift_24 rfl hl (by decide) rfl (fun ls hl => ?_)
      refine lv_aload_n hx hb dX1_shift_25 rfl (lv_at hl 1 rfl) ?_
      refine x_getM (v := .ref (ad 2)) hx hb hts hown hK hP 2 (by decide) q171 rfl rfl dX1_shift_26 ?_
      refine lv_iload_n hx hb dX1_shift_29 rfl (lv_at hl 2 rfl) ?_
      refine x_iald (v := (nI ((q k).2.1))) hx hb hK hP 2 0 rfl rfl (by omega) (by decide) (hI.2 k hk 2 (by decide) (by decide)) dX1_shift_30 ?_
      refine lv_istore (lv' := [(4, .int (nI ((q k).2.1))), (3, .int (nI ((q k).1))), (0, .ref (ad 0)), (1, .int (nI k)), (2, .int (nI j))]) hx hb dX1_shift_31 hl (by decide) rfl (fun ls hl => ?_)
      refine lv_aload_n hx hb dX1_shift_33 rfl (lv_at hl 2 rfl) ?_
      refine x_getM (v := .ref (ad 3)) hx hb hts hown hK hP 3 (by decide) q172 rfl rfl dX1_shift_34 ?_
      refine lv_iload_n hx hb dX1_shift_37 rfl (lv_at hl 3 rfl) ?_
      refine x_iald (v := (nI ((q k).2.2))) hx hb hK hP 3 0 rfl rfl (by omega) (by decide) (hI.2 k hk 3 (by decide) (by decide)) dX1_shift_38 ?_
      refine lv_istore (lv' := [(5, .int (nI ((q k).2.2))), (4, .int (nI ((q k).2.1))), (3, .int (nI ((q k).1))), (0, .ref (ad 0)), (1, .int (nI k)), (2, .int (nI j))]) hx hb dX1_shift_39 hl (by decide) rfl (fun ls hl => ?_)
      refine lv_aload_n hx hb dX1_shift_41 rfl (lv_at hl 3 rfl) ?_
      refine lv_iload_n hx hb dX1_shift_42 rfl (lv_at hl 4 rfl) ?_
      refine x_calli (va_runV (As := [.int (nI k)]) (rest := []) ⟨hx, hb, hml, hown, hts⟩ (m1_remove l dC dI ad cI s.heap.size n fb q ra (nI k) hI) (cwV 1 hts (lw_V q209 q198 q199 q18 q200) rfl rfl rfl (by decide +kernel) ⟨Nat.le_of_ble_eq_true rfl, Nat.le_of_ble_eq_true rfl⟩) (x_preV (ci := 1) (q0 := 0) hK hP hD rfl rfl) rfl rfl hl.1 rfl (lv_room (Nat.le_of_ble_eq_true rfl)) dX1_shift_43 ⟨Nat.le_refl _, Nat.le_refl _⟩) hD hS hA (fun r2 u H locs h2 hP hD hS => ?_)
      obtain ⟨u1, rb⟩ := u
      obtain ⟨e1, e2⟩ := Prod.mk.inj (h2.1.trans (o_rem_y q fb hn hk))
      dsimp only at e2
      subst e2
      have hI2 : p_IM (n - 1) (q_del q k) fb rb := h2.2
      have hP : va_P (dC, dI) vwCl (WN ad cI (nI (n - 1)) (nI fb) (rb 1) (rb 2) (rb 3)) H := hP
      have hD : va_D A (WN ad cI (nI (n - 1)) (nI fb) (rb 1) (rb 2) (rb 3)) := hD
      refine lv_pop hx hb dX1_shift_46 rfl ?_
      refine lv_aload_n hx hb dX1_shift_47 rfl (lv_at hl 3 rfl) ?_
      refine lv_iload_n hx hb dX1_shift_48 rfl (lv_at hl 5 rfl) ?_
      refine lv_iload_n hx hb dX1_shift_49 rfl (lv_at hl 2 rfl) ?_
      refine lv_iload hx hb dX1_shift_50 (lv_at hl 1 rfl) ?_
      refine lv_iload hx hb dX1_shift_52 (lv_at hl 0 rfl) ?_
      refine x_calli (va_runV (As := [.int (nI j), .int (nI ((q k).1)), .int (nI ((q k).2.1)), .int (nI ((q k).2.2))]) (rest := []) ⟨hx, hb, hml, hown, hts⟩ (m1_insert l dC dI ad cI H.size (n - 1) fb (q_del q k) rb (nI j) (nI (q k).1) (nI (q k).2.1) (nI (q k).2.2) hI2) (cwV 4 hts (lw_V q210 q186 q187 q18 q188) rfl rfl rfl (by decide +kernel) ⟨Nat.le_of_ble_eq_true rfl, Nat.le_of_ble_eq_true rfl⟩) (x_preV (ci := 1) (q0 := 0) hK hP hD rfl rfl) rfl rfl hl.1 rfl (lv_room (Nat.le_of_ble_eq_true rfl)) dX1_shift_54 ⟨Nat.le_refl _, Nat.le_refl _⟩) hD hS hA (fun r3 u H locs h3 hP hD hS => ?_)
      obtain ⟨u1, rc⟩ := u
      have e9 : n - 1 + 1 = n := by omega
      have e3 := h3.1.trans (o_ins_y (q_del q k) fb (show j ≤ n - 1 by omega) (by omega) (by omega) (by omega) (by omega))
      rw [e9] at e3
      obtain ⟨e3, e4⟩ := Prod.mk.inj e3
      dsimp only at e4
      subst e4
      have hI3 : p_IM n (q_ins (q_del q k) j (q k)) fb rc := h3.2
      have hP : va_P (dC, dI) vwCl (WN ad cI (nI n) (nI fb) (rc 1) (rc 2) (rc 3)) H := hP
      have hD : va_D A (WN ad cI (nI n) (nI fb) (rc 1) (rc 2) (rc 3)) := hD
      refine lv_pop hx hb dX1_shift_57 rfl ?_
      refine lv_iconst (v := (nI 0)) hx hb dX1_shift_58 (by decide) ?_
      exact W.iret (v := (nI 0)) hx hb hr (fun t ht hW => ⟨⟨_, ((n, q_ins (q_del q k) j (q k), fb), rc), rfl, ⟨(o_shi_y q fb hn hk hj).symm, hI3⟩, by rw [ht]; exact hP, va_K.moved hW.alike hK, hD⟩, hS.F ht⟩) hS.2.2 dX1_shift_59
set_option maxHeartbeats 4000000 in
set_option maxRecDepth 100000 in
/-- otherwise -/
theorem m1_otherwise (l : Launch) (dC : Nat → ClassId) (dI : Nat → Nat → Nat) (ad : Nat → Nat) (cI : ClassId) (sz : Nat) (n fb : Nat) (q : Nat → pV) (ra : Nat → Nat → Int32) (a : Int32) (hI : p_IM n q fb ra) : Met l yX1_otherwise (ws_ yX1_otherwise cX1_otherwise 3 (some .int)) { frames := 0, cells := 0, slots := 0, locals := 0 } (va_Pc [.ref (ad 0), .int a] (PreW (dC, dI) (tyM cI) (WN ad cI (nI n) (nI fb) (ra 1) (ra 2) (ra 3)) sz)) (va_Qi (fun (r : Int32) (u : pS × (Nat → Nat → Int32)) => (r, u.1) = o_oth n q fb a ∧ p_IM u.1.1 u.1.2.1 u.1.2.2 u.2) (fun (u : pS × (Nat → Nat → Int32)) => PosW (dC, dI) (tyM cI) (va_A (WN ad cI (nI n) (nI fb) (ra 1) (ra 2) (ra 3)) sz) (WM ad cI (nI u.1.1) (nI u.1.2.2) u.2)) (va_A (WN ad cI (nI n) (nI fb) (ra 1) (ra 2) (ra 3)) sz)) 0 0 (va_A (WN ad cI (nI n) (nI fb) (ra 1) (ra 2) (ra 3)) sz) := by
  refine Met.ofW (cc := cX1_otherwise) (maxL := 3) (ret := (some .int)) (by decide) rfl ?_
  intro p e s m args below meth c s₁ B hml hv
  obtain ⟨rfl, hsz, hP, hK, hD0⟩ := hv
  have hx := B.exec
  have hb := B.bytes
  have hr := B.returns
  have hts := atoms_spec (ws := (ws_ yX1_otherwise cX1_otherwise 3 (some .int))) B.pre
  have hts : ∀ w ∈ lw_all, w.before _ s = true := fun w h => hts w (List.mem_cons_of_mem _ h)
  have hown : s.vm.findClass RX1 = some m.cls := findClass_of_methodNamed B.named
  have hlocks := B.notSynchronized
  subst hsz
  have hD := hD0.self (sz := s.heap.size)
  generalize hAe : va_A (WN ad cI (nI n) (nI fb) (ra 1) (ra 2) (ra 3)) s.heap.size = A at hD ⊢
  have hA : ∀ q : Nat, s.heap.size ≤ q → A q := fun q h => by rw [← hAe]; exact Or.inr h
  have hS : va_S A s.heap s.heap [] := va_S.rf
  have hP : va_P (dC, dI) vwCl (WN ad cI (nI n) (nI fb) (ra 1) (ra 2) (ra 3)) s.heap := hP
  have hl := lv_entry ([.ref (ad 0), .int a]) (n := 3) (Nat.le_of_ble_eq_true rfl)
  rw [lg_entry_eq]
  generalize (lg_sl ([.ref (ad 0), .int a]) ++ List.replicate (3 - (lg_sl ([.ref (ad 0), .int a])).length) Slot.unset).toArray = ls at hl ⊢
  have hl : lv_has ls 3 [(0, .ref (ad 0)), (1, .int a)] := hl
  refine lv_aload_n hx hb dX1_otherwise_0 rfl (lv_at hl 0 rfl) ?_
  refine x_getM (v := .int (nI fb)) hx hb hts hown hK hP 4 (by decide) q173 rfl rfl dX1_otherwise_1 ?_
  refine lv_istore_n (lv' := [(2, .int (nI fb)), (0, .ref (ad 0)), (1, .int a)]) hx hb dX1_otherwise_4 rfl hl (by decide) rfl (fun ls hl => ?_)
  refine lv_aload_n hx hb dX1_otherwise_5 rfl (lv_at hl 1 rfl) ?_
  refine lv_iload_n hx hb dX1_otherwise_6 rfl (lv_at hl 2 rfl) ?_
  refine lv_iconst (v := (nI 3)) hx hb dX1_otherwise_7 (by decide) ?_
  refine lv_iand hx hb dX1_otherwise_8 (x_top (pk_and a 2 (by decide)) ?_)
  refine x_putM (v := .int (nI (a.toBitVec.toNat % 4))) (ty := .int) hx hb hts hown hK hP hD hS 4 (by decide) q173 rfl rfl (by decide +kernel) rfl rfl (Nat.le_of_ble_eq_true rfl) dX1_otherwise_9 (fun H locs hP hD hS => ?_)
  have hP : va_P (dC, dI) vwCl (WN ad cI (nI n) (nI (a.toBitVec.toNat % 4)) (ra 1) (ra 2) (ra 3)) H := hP
  have hD : va_D A (WN ad cI (nI n) (nI (a.toBitVec.toNat % 4)) (ra 1) (ra 2) (ra 3)) := hD
  refine lv_iload_n hx hb dX1_otherwise_12 rfl (lv_at hl 0 rfl) ?_
  exact W.iret (v := (nI fb)) hx hb hr (fun t ht hW => ⟨⟨_, ((n, q, a.toBitVec.toNat % 4), ra), rfl, ⟨rfl, ⟨hI.1.1, Nat.mod_lt _ (by decide), hI.1.2.2⟩, hI.2⟩, by rw [ht]; exact hP, va_K.moved hW.alike hK, hD⟩, hS.F ht⟩) hS.2.2 dX1_otherwise_13
end
section
set_option maxHeartbeats 4000000 in
set_option maxRecDepth 100000 in
/-- matches(i, x) -/
theorem m1_matches (l : Launch) (dC : Nat → ClassId) (dI : Nat → Nat → Nat) (ad : Nat → Nat) (cI : ClassId) (n fb : Nat) (q : Nat → pV) (ra : Nat → Nat → Int32) (i x : Nat) (hI : p_IM n q fb ra) (hi : i < n) (hx4 : x < 4096) : Met l yX1_matches (ws_ yX1_matches cX1_matches 7 (some .boolean)) { frames := 0, cells := 0, slots := 0, locals := 0 } (va_Pc [.ref (ad 0), .int (nI i), .int (nI x)] (RoW (dC, dI) (tyM cI) (WN ad cI (nI n) (nI fb) (ra 1) (ra 2) (ra 3)))) (vp_Si (fun (r : Int32) => (r = 1 ∧ p_m (q i) (x / 128) (x / 4 % 32) (x % 4) = true) ∨ (r = 0 ∧ p_m (q i) (x / 128) (x / 4 % 32) (x % 4) = false))) 0 0 (fun _ => False) := by
  refine Met.ofW (cc := cX1_matches) (maxL := 7) (ret := (some .boolean)) (by decide) rfl ?_
  intro p e s m args below meth c s₁ B hml hv
  obtain ⟨rfl, hP, hK⟩ := hv
  have hx := B.exec
  have hb := B.bytes
  have hr := B.returns
  have hts := atoms_spec (ws := (ws_ yX1_matches cX1_matches 7 (some .boolean))) B.pre
  have hts : ∀ w ∈ lw_all, w.before _ s = true := fun w h => hts w (List.mem_cons_of_mem _ h)
  have hown : s.vm.findClass RX1 = some m.cls := findClass_of_methodNamed B.named
  have hlocks := B.notSynchronized
  have hP : va_P (dC, dI) vwCl (WN ad cI (nI n) (nI fb) (ra 1) (ra 2) (ra 3)) s.heap := hP
  have hl := lv_entry ([.ref (ad 0), .int (nI i), .int (nI x)]) (n := 7) (Nat.le_of_ble_eq_true rfl)
  rw [lg_entry_eq]
  generalize (lg_sl ([.ref (ad 0), .int (nI i), .int (nI x)]) ++ List.replicate (7 - (lg_sl ([.ref (ad 0), .int (nI i), .int (nI x)])).length) Slot.unset).toArray = ls at hl ⊢
  have hl : lv_has ls 7 [(0, .ref (ad 0)), (1, .int (nI i)), (2, .int (nI x))] := hl
  have hn := hI.1.1
  obtain ⟨hq1, hq2, hq3⟩ := hI.1.2.2 i hi
  refine lv_iload_n hx hb dX1_matches_0 rfl (lv_at hl 2 rfl) ?_
  refine lv_sipush (v := (nI 128)) hx hb dX1_matches_1 (by decide) ?_
  refine x_div hx hb (by omega) (by decide) (by decide) dX1_matches_4 ?_
  refine lv_istore_n (lv' := [(3, .int (nI (x / 128))), (0, .ref (ad 0)), (1, .int (nI i)), (2, .int (nI x))]) hx hb dX1_matches_5 rfl hl (by decide) rfl (fun ls hl => ?_)
  refine lv_iload_n hx hb dX1_matches_6 rfl (lv_at hl 3 rfl) ?_
  refine lv_iconst (v := (nI 4)) hx hb dX1_matches_7 (by decide) ?_
  refine x_div hx hb (by omega) (by decide) (by decide) dX1_matches_8 ?_
  refine lv_bipush (v := (nI 32)) hx hb dX1_matches_9 (by decide) ?_
  refine x_rem hx hb (by omega) (by decide) (by decide) dX1_matches_11 ?_
  refine lv_istore (lv' := [(4, .int (nI ((x / 4) % 32))), (3, .int (nI (x / 128))), (0, .ref (ad 0)), (1, .int (nI i)), (2, .int (nI x))]) hx hb dX1_matches_12 hl (by decide) rfl (fun ls hl => ?_)
  refine lv_iload_n hx hb dX1_matches_14 rfl (lv_at hl 1 rfl) ?_
  refine lv_aload_n hx hb dX1_matches_15 rfl (lv_at hl 2 rfl) ?_
  refine x_getM (v := .ref (ad 1)) hx hb hts hown hK hP 1 (by decide) q170 rfl rfl dX1_matches_16 ?_
  refine lv_iload_n hx hb dX1_matches_19 rfl (lv_at hl 3 rfl) ?_
  refine x_iald (v := (nI ((q i).1))) hx hb hK hP 1 0 rfl rfl (by omega) (by decide) (hI.2 i hi 1 (by decide) (by decide)) dX1_matches_20 ?_
  refine lv_bipush (v := (nI 32)) hx hb dX1_matches_21 (by decide) ?_
  refine x_div hx hb (by omega) (by decide) (by decide) dX1_matches_23 ?_
  have L45 : ∀ (b1 : Nat), (b1 = 1 ∧ ((q i).1 / 32 ≤ x / 128 ∧ x / 128 ≤ (q i).1 % 32)) ∨ (b1 = 0 ∧ ¬ ((q i).1 / 32 ≤ x / 128 ∧ x / 128 ≤ (q i).1 % 32)) → ∀ (ls : Array Slot), lv_has ls 7 [(0, .ref (ad 0)), (1, .int (nI i)), (2, .int (nI x)), (3, .int (nI (x / 128))), (4, .int (nI ((x / 4) % 32)))] → W p l e (headSpec (ws_ yX1_matches cX1_matches 7 (some .boolean)) { frames := 0, cells := 0, slots := 0, locals := 0 }).room s m ([.ref (ad 0), .int (nI i), .int (nI x)] : List Value).toArray below meth c s.heap [] 0 0 (MQ below (vp_Si (fun (r : Int32) => (r = 1 ∧ p_m (q i) (x / 128) (x / 4 % 32) (x % 4) = true) ∨ (r = 0 ∧ p_m (q i) (x / 128) (x / 4 % 32) (x % 4) = false))) ([.ref (ad 0), .int (nI i), .int (nI x)] : List Value).toArray s 0 0 (fun _ => False)) (F0 m 45 ls [.int (nI b1)]) := by
    intro b1 hb1 ls hl
    refine lv_istore (lv' := [(5, .int (nI b1)), (0, .ref (ad 0)), (1, .int (nI i)), (2, .int (nI x)), (3, .int (nI (x / 128))), (4, .int (nI ((x / 4) % 32)))]) hx hb dX1_matches_45 hl (by decide) rfl (fun ls hl => ?_)
    refine lv_iload hx hb dX1_matches_47 (lv_at hl 5 rfl) ?_
    refine lv_aload_n hx hb dX1_matches_49 rfl (lv_at hl 1 rfl) ?_
    refine x_getM (v := .ref (ad 2)) hx hb hts hown hK hP 2 (by decide) q171 rfl rfl dX1_matches_50 ?_
    refine lv_iload_n hx hb dX1_matches_53 rfl (lv_at hl 2 rfl) ?_
    refine x_iald (v := (nI ((q i).2.1))) hx hb hK hP 2 0 rfl rfl (by omega) (by decide) (hI.2 i hi 2 (by decide) (by decide)) dX1_matches_54 ?_
    refine lv_bipush (v := (nI 32)) hx hb dX1_matches_55 (by decide) ?_
    refine x_div hx hb (by omega) (by decide) (by decide) dX1_matches_57 ?_
    have L80 : ∀ (b2 : Nat), (b2 = 1 ∧ ((q i).2.1 / 32 ≤ x / 4 % 32 ∧ x / 4 % 32 ≤ (q i).2.1 % 32)) ∨ (b2 = 0 ∧ ¬ ((q i).2.1 / 32 ≤ x / 4 % 32 ∧ x / 4 % 32 ≤ (q i).2.1 % 32)) → ∀ (ls : Array Slot), lv_has ls 7 [(0, .ref (ad 0)), (1, .int (nI i)), (2, .int (nI x)), (5, .int (nI b1))] → W p l e (headSpec (ws_ yX1_matches cX1_matches 7 (some .boolean)) { frames := 0, cells := 0, slots := 0, locals := 0 }).room s m ([.ref (ad 0), .int (nI i), .int (nI x)] : List Value).toArray below meth c s.heap [] 0 0 (MQ below (vp_Si (fun (r : Int32) => (r = 1 ∧ p_m (q i) (x / 128) (x / 4 % 32) (x % 4) = true) ∨ (r = 0 ∧ p_m (q i) (x / 128) (x / 4 % 32) (x % 4) = false))) ([.ref (ad 0), .int (nI i), .int (nI x)] : List Value).toArray s 0 0 (fun _ => False)) (F0 m 80 ls [.int (nI b2)]) := by
      intro b2 hb2 ls hl
      refine lv_istore (lv' := [(6, .int (nI b2)), (0, .ref (ad 0)), (1, .int (nI i)), (2, .int (nI x)), (5, .int (nI b1))]) hx hb dX1_matches_80 hl (by decide) rfl (fun ls hl => ?_)
      refine lv_iload hx hb dX1_matches_82 (lv_at hl 4 rfl) ?_
      refine x_ieq (tgt := 112) hx hb (by omega) dX1_matches_84 (by decide) (fun z1 => ?_) (fun z1 => ?_)
      · refine lv_iconst (v := (nI 0)) hx hb dX1_matches_112 (by decide) ?_
        exact W.zret (v := (nI 0)) hx hb hr rfl (fun t ht hW => ⟨_, rfl, Or.inr ⟨rfl, p_m_no (fun z => by omega)⟩, ht⟩) (fun _ h => by cases h) dX1_matches_113
      · refine lv_iload hx hb dX1_matches_87 (lv_at hl 0 rfl) ?_
        refine x_ieq (tgt := 112) hx hb (by omega) dX1_matches_89 (by decide) (fun z2 => ?_) (fun z2 => ?_)
        · refine lv_iconst (v := (nI 0)) hx hb dX1_matches_112 (by decide) ?_
          exact W.zret (v := (nI 0)) hx hb hr rfl (fun t ht hW => ⟨_, rfl, Or.inr ⟨rfl, p_m_no (fun z => by omega)⟩, ht⟩) (fun _ h => by cases h) dX1_matches_113
        · refine lv_aload_n hx hb dX1_matches_92 rfl (lv_at hl 1 rfl) ?_
          refine x_getM (v := .ref (ad 3)) hx hb hts hown hK hP 3 (by decide) q172 rfl rfl dX1_matches_93 ?_
          refine lv_iload_n hx hb dX1_matches_96 rfl (lv_at hl 2 rfl) ?_
          refine x_iald (v := (nI ((q i).2.2))) hx hb hK hP 3 0 rfl rfl (by omega) (by decide) (hI.2 i hi 3 (by decide) (by decide)) dX1_matches_97 ?_
          refine lv_iload_n hx hb dX1_matches_98 rfl (lv_at hl 3 rfl) ?_
          refine lv_iconst (v := (nI 4)) hx hb dX1_matches_99 (by decide) ?_
          refine x_rem hx hb (by omega) (by decide) (by decide) dX1_matches_100 ?_
          refine x_shrv hx hb (by omega) (by omega) dX1_matches_101 ?_
          refine lv_iconst (v := (nI 1)) hx hb dX1_matches_102 (by decide) ?_
          refine x_and (K := 2) hx hb 1 rfl rfl (by decide) (Nat.lt_of_le_of_lt (Nat.div_le_self _ _) (by omega)) dX1_matches_103 ?_
          refine lv_iconst (v := (nI 1)) hx hb dX1_matches_104 (by decide) ?_
          refine x_cne (tgt := 112) hx hb (by omega) (by omega) dX1_matches_105 (by decide) (fun z3 => ?_) (fun z3 => ?_)
          · refine lv_iconst (v := (nI 0)) hx hb dX1_matches_112 (by decide) ?_
            exact W.zret (v := (nI 0)) hx hb hr rfl (fun t ht hW => ⟨_, rfl, Or.inr ⟨rfl, p_m_no (fun z => z3 z.2.2)⟩, ht⟩) (fun _ h => by cases h) dX1_matches_113
          · refine lv_iconst (v := (nI 1)) hx hb dX1_matches_108 (by decide) ?_
            refine lv_goto (tgt := 113) hx hb dX1_matches_109 (by decide) ?_
            exact W.zret (v := (nI 1)) hx hb hr rfl (fun t ht hW => ⟨_, rfl, Or.inl ⟨rfl, p_m_iff.mpr ⟨by omega, by omega, z3⟩⟩, ht⟩) (fun _ h => by cases h) dX1_matches_113
    refine x_clt (tgt := 79) hx hb (by omega) (by omega) dX1_matches_58 (by decide) (fun y1 => ?_) (fun y1 => ?_)
    · refine lv_iconst (v := (nI 0)) hx hb dX1_matches_79 (by decide) ?_
      exact L80 0 (Or.inr ⟨rfl, by omega⟩) _ (lv_sub hl [1, 2, 3, 0] rfl)
    · refine lv_iload hx hb dX1_matches_61 (lv_at hl 5 rfl) ?_
      refine lv_aload_n hx hb dX1_matches_63 rfl (lv_at hl 1 rfl) ?_
      refine x_getM (v := .ref (ad 2)) hx hb hts hown hK hP 2 (by decide) q171 rfl rfl dX1_matches_64 ?_
      refine lv_iload_n hx hb dX1_matches_67 rfl (lv_at hl 2 rfl) ?_
      refine x_iald (v := (nI ((q i).2.1))) hx hb hK hP 2 0 rfl rfl (by omega) (by decide) (hI.2 i hi 2 (by decide) (by decide)) dX1_matches_68 ?_
      refine lv_bipush (v := (nI 32)) hx hb dX1_matches_69 (by decide) ?_
      refine x_rem hx hb (by omega) (by decide) (by decide) dX1_matches_71 ?_
      refine x_cgt (tgt := 79) hx hb (by omega) (by omega) dX1_matches_72 (by decide) (fun y2 => ?_) (fun y2 => ?_)
      · refine lv_iconst (v := (nI 0)) hx hb dX1_matches_79 (by decide) ?_
        exact L80 0 (Or.inr ⟨rfl, by omega⟩) _ (lv_sub hl [1, 2, 3, 0] rfl)
      · refine lv_iconst (v := (nI 1)) hx hb dX1_matches_75 (by decide) ?_
        refine lv_goto (tgt := 80) hx hb dX1_matches_76 (by decide) ?_
        exact L80 1 (Or.inl ⟨rfl, by omega⟩) _ (lv_sub hl [1, 2, 3, 0] rfl)
  refine x_clt (tgt := 44) hx hb (by omega) (by omega) dX1_matches_24 (by decide) (fun y1 => ?_) (fun y1 => ?_)
  · refine lv_iconst (v := (nI 0)) hx hb dX1_matches_44 (by decide) ?_
    exact L45 0 (Or.inr ⟨rfl, by omega⟩) _ (lv_sub hl [2, 3, 4, 1, 0] rfl)
  · refine lv_iload_n hx hb dX1_matches_27 rfl (lv_at hl 1 rfl) ?_
    refine lv_aload_n hx hb dX1_matches_28 rfl (lv_at hl 2 rfl) ?_
    refine x_getM (v := .ref (ad 1)) hx hb hts hown hK hP 1 (by decide) q170 rfl rfl dX1_matches_29 ?_
    refine lv_iload_n hx hb dX1_matches_32 rfl (lv_at hl 3 rfl) ?_
    refine x_iald (v := (nI ((q i).1))) hx hb hK hP 1 0 rfl rfl (by omega) (by decide) (hI.2 i hi 1 (by decide) (by decide)) dX1_matches_33 ?_
    refine lv_bipush (v := (nI 32)) hx hb dX1_matches_34 (by decide) ?_
    refine x_rem hx hb (by omega) (by decide) (by decide) dX1_matches_36 ?_
    refine x_cgt (tgt := 44) hx hb (by omega) (by omega) dX1_matches_37 (by decide) (fun y2 => ?_) (fun y2 => ?_)
    · refine lv_iconst (v := (nI 0)) hx hb dX1_matches_44 (by decide) ?_
      exact L45 0 (Or.inr ⟨rfl, by omega⟩) _ (lv_sub hl [2, 3, 4, 1, 0] rfl)
    · refine lv_iconst (v := (nI 1)) hx hb dX1_matches_40 (by decide) ?_
      refine lv_goto (tgt := 45) hx hb dX1_matches_41 (by decide) ?_
      exact L45 1 (Or.inl ⟨rfl, by omega⟩) _ (lv_sub hl [2, 3, 4, 1, 0] rfl)
set_option maxHeartbeats 4000000 in
set_option maxRecDepth 100000 in
/-- deciding(x, w) -/
theorem m1_deciding (l : Launch) (dC : Nat → ClassId) (dI : Nat → Nat → Nat) (ad : Nat → Nat) (cI : ClassId) (n fb : Nat) (q : Nat → pV) (ra : Nat → Nat → Int32) (x w0 : Nat) (w : Int32) (hI : p_IM n q fb ra) (hx4 : x < 4096) (hw0 : w0 ≤ n) (hw : w = p_cd n w0) : Met l yX1_deciding (ws_ yX1_deciding cX1_deciding 4 (some .int)) { frames := 1, cells := 0, slots := 0, locals := 26 } (va_Pc [.ref (ad 0), .int (nI x), .int w] (RoW (dC, dI) (tyM cI) (WN ad cI (nI n) (nI fb) (ra 1) (ra 2) (ra 3)))) (vp_Si (fun (r : Int32) => r = p_cd n (p_DP2 n q w0 x))) 0 0 (fun _ => False) := by
  refine Met.ofW (cc := cX1_deciding) (maxL := 4) (ret := (some .int)) (by decide) rfl ?_
  intro p e s m args below meth c s₁ B hml hv
  obtain ⟨rfl, hP, hK⟩ := hv
  have hx := B.exec
  have hb := B.bytes
  have hr := B.returns
  have hts := atoms_spec (ws := (ws_ yX1_deciding cX1_deciding 4 (some .int))) B.pre
  have hts : ∀ w ∈ lw_all, w.before _ s = true := fun w h => hts w (List.mem_cons_of_mem _ h)
  have hown : s.vm.findClass RX1 = some m.cls := findClass_of_methodNamed B.named
  have hlocks := B.notSynchronized
  have hP : va_P (dC, dI) vwCl (WN ad cI (nI n) (nI fb) (ra 1) (ra 2) (ra 3)) s.heap := hP
  have hl := lv_entry ([.ref (ad 0), .int (nI x), .int w]) (n := 4) (Nat.le_of_ble_eq_true rfl)
  rw [lg_entry_eq]
  generalize (lg_sl ([.ref (ad 0), .int (nI x), .int w]) ++ List.replicate (4 - (lg_sl ([.ref (ad 0), .int (nI x), .int w])).length) Slot.unset).toArray = ls at hl ⊢
  have hl : lv_has ls 4 [(0, .ref (ad 0)), (1, .int (nI x)), (2, .int w)] := hl
  have hn := hI.1.1
  refine lv_iconst (v := (nI 0)) hx hb dX1_deciding_0 (by decide) ?_
  refine lv_istore_n (lv' := [(3, .int (nI 0)), (0, .ref (ad 0)), (1, .int (nI x)), (2, .int w)]) hx hb dX1_deciding_1 rfl hl (by decide) rfl (fun ls hl => ?_)
  have loop : ∀ (f : Nat) (i : Nat), i ≤ n → n < i + f → (∀ j, j < i → (p_m (q j) (x / 128) (x / 4 % 32) (x % 4) && decide (j ≠ w0)) = false) → ∀ (ls : Array Slot), lv_has ls 4 [(0, .ref (ad 0)), (1, .int (nI x)), (2, .int w), (3, .int (nI i))] → W p l e (headSpec (ws_ yX1_deciding cX1_deciding 4 (some .int)) { frames := 1, cells := 0, slots := 0, locals := 26 }).room s m ([.ref (ad 0), .int (nI x), .int w] : List Value).toArray below meth c s.heap [] 0 0 (MQ below (vp_Si (fun (r : Int32) => r = p_cd n (p_DP2 n q w0 x))) ([.ref (ad 0), .int (nI x), .int w] : List Value).toArray s 0 0 (fun _ => False)) (F0 m 2 ls []) := by
    intro f
    induction f with
    | zero => intros; omega
    | succ f ih =>
      intro i h1 h2 h3 ls hl
      refine lv_iload_n hx hb dX1_deciding_2 rfl (lv_at hl 3 rfl) ?_
      refine lv_aload_n hx hb dX1_deciding_3 rfl (lv_at hl 0 rfl) ?_
      refine x_getM (v := .int (nI n)) hx hb hts hown hK hP 0 (by decide) q169 rfl rfl dX1_deciding_4 ?_
      refine x_cge (tgt := 32) hx hb (by omega) (by omega) dX1_deciding_7 (by decide) (fun ci => ?_) (fun ci => ?_)
      · obtain rfl : i = n := by omega
        refine lv_iconst (v := -1) hx hb dX1_deciding_32 (by decide) ?_
        exact W.iret (v := (-1)) hx hb hr (fun t ht hW => ⟨_, rfl, by rw [show p_DP2 i q w0 x = i from p_first_is (Nat.le_refl i) h3 (fun z => absurd z (Nat.lt_irrefl i))]; exact (p_cd_n i).symm, ht⟩) (fun _ h => by cases h) dX1_deciding_33
      · refine lv_iload_n hx hb dX1_deciding_10 rfl (lv_at hl 3 rfl) ?_
        refine lv_iload_n hx hb dX1_deciding_11 rfl (lv_at hl 2 rfl) ?_
        refine lv_icmp_eq (tgt := 26) hx hb dX1_deciding_12 (by decide) (fun cw => ?_) (fun cw => ?_)
        · refine lv_iinc (v := (nI (i + 1))) (lv' := [(3, .int (nI (i + 1))), (0, .ref (ad 0)), (1, .int (nI x)), (2, .int w)]) hx hb dX1_deciding_26 hl (k := 3) rfl (x_inc _) (by decide) rfl (fun ls hl => ?_)
          refine lv_goto (tgt := 2) hx hb dX1_deciding_29 (by decide) ?_
          have hiw : w0 = i := (p_cd_eq hn ci hw0).mp (hw ▸ cw).symm
          exact ih (i + 1) (by omega) (by omega) (fun j hj => by
                          by_cases e : j = i
                          · rw [e, hiw, decide_eq_false (fun z => z rfl), Bool.and_false]
                          · exact h3 j (by omega)) _ (lv_sub hl [1, 2, 3, 0] rfl)
        · refine lv_aload_n hx hb dX1_deciding_15 rfl (lv_at hl 0 rfl) ?_
          refine lv_iload_n hx hb dX1_deciding_16 rfl (lv_at hl 3 rfl) ?_
          refine lv_iload_n hx hb dX1_deciding_17 rfl (lv_at hl 1 rfl) ?_
          refine vp_callSi (W.runV (As := [.int (nI i), .int (nI x)]) (rest := []) ⟨hx, hb, hml, hown, hts⟩ (m1_matches l dC dI ad cI n fb q ra i x hI ci hx4) (cwV 2 hts (lw_V q226 q228 qs14 q18 q229) rfl rfl rfl (by decide +kernel) ⟨Nat.le_of_ble_eq_true rfl, Nat.le_of_ble_eq_true rfl⟩) (x_preVR (ci := 1) (q0 := 0) hK hP rfl rfl) rfl rfl hl.1 rfl (lv_room (Nat.le_of_ble_eq_true rfl)) dX1_deciding_18 ⟨Nat.le_refl _, Nat.le_refl _⟩) (fun r1 hm => ?_)
          have hiw : i ≠ w0 := fun z => cw (by rw [hw, ← z, p_cd_lt ci])
          rcases hm with ⟨rfl, hm⟩ | ⟨rfl, hm⟩
          · refine lv_if_eq (tgt := 26) hx hb dX1_deciding_21 (by decide) (fun c9 => absurd c9 (by decide)) (fun _ => ?_)
            refine lv_iload_n hx hb dX1_deciding_24 rfl (lv_at hl 3 rfl) ?_
            exact W.iret (v := (nI i)) hx hb hr (fun t ht hW => ⟨_, rfl, by rw [show p_DP2 n q w0 x = i from p_first_is h1 h3 (fun _ => by rw [hm, decide_eq_true hiw]; rfl), p_cd_lt ci], ht⟩) (fun _ h => by cases h) dX1_deciding_25
          · refine lv_if_eq (tgt := 26) hx hb dX1_deciding_21 (by decide) (fun _ => ?_) (fun c9 => absurd (by decide) c9)
            refine lv_iinc (v := (nI (i + 1))) (lv' := [(3, .int (nI (i + 1))), (0, .ref (ad 0)), (1, .int (nI x)), (2, .int w)]) hx hb dX1_deciding_26 hl (k := 3) rfl (x_inc _) (by decide) rfl (fun ls hl => ?_)
            refine lv_goto (tgt := 2) hx hb dX1_deciding_29 (by decide) ?_
            exact ih (i + 1) (by omega) (by omega) (fun j hj => by
                            by_cases e : j = i
                            · rw [e, hm, Bool.false_and]
                            · exact h3 j (by omega)) _ (lv_sub hl [1, 2, 3, 0] rfl)
  exact loop (n + 1) 0 (by omega) (by omega) (fun j hj => absurd hj (Nat.not_lt_zero j)) _ (lv_sub hl [1, 2, 3, 0] rfl)
set_option maxHeartbeats 4000000 in
set_option maxRecDepth 100000 in
/-- actionOf(k) -/
theorem m1_actionOf (l : Launch) (dC : Nat → ClassId) (dI : Nat → Nat → Nat) (ad : Nat → Nat) (cI : ClassId) (n fb : Nat) (q : Nat → pV) (ra : Nat → Nat → Int32) (k : Nat) (a : Int32) (hI : p_IM n q fb ra) (hk : k ≤ n) (ha : a = p_cd n k) : Met l yX1_actionOf (ws_ yX1_actionOf cX1_actionOf 2 (some .int)) { frames := 0, cells := 0, slots := 0, locals := 0 } (va_Pc [.ref (ad 0), .int a] (RoW (dC, dI) (tyM cI) (WN ad cI (nI n) (nI fb) (ra 1) (ra 2) (ra 3)))) (vp_Si (fun (r : Int32) => r = nI (p_act n q fb k))) 0 0 (fun _ => False) := by
  refine Met.ofW (cc := cX1_actionOf) (maxL := 2) (ret := (some .int)) (by decide) rfl ?_
  intro p e s m args below meth c s₁ B hml hv
  obtain ⟨rfl, hP, hK⟩ := hv
  have hx := B.exec
  have hb := B.bytes
  have hr := B.returns
  have hts := atoms_spec (ws := (ws_ yX1_actionOf cX1_actionOf 2 (some .int))) B.pre
  have hts : ∀ w ∈ lw_all, w.before _ s = true := fun w h => hts w (List.mem_cons_of_mem _ h)
  have hown : s.vm.findClass RX1 = some m.cls := findClass_of_methodNamed B.named
  have hlocks := B.notSynchronized
  have hP : va_P (dC, dI) vwCl (WN ad cI (nI n) (nI fb) (ra 1) (ra 2) (ra 3)) s.heap := hP
  have hl := lv_entry ([.ref (ad 0), .int a]) (n := 2) (Nat.le_of_ble_eq_true rfl)
  rw [lg_entry_eq]
  generalize (lg_sl ([.ref (ad 0), .int a]) ++ List.replicate (2 - (lg_sl ([.ref (ad 0), .int a])).length) Slot.unset).toArray = ls at hl ⊢
  have hl : lv_has ls 2 [(0, .ref (ad 0)), (1, .int a)] := hl
  have hn := hI.1.1
  by_cases hkn : k < n
  · rw [p_cd_lt hkn] at ha
    subst ha
    obtain ⟨hq1, hq2, hq3⟩ := hI.1.2.2 k hkn
    refine lv_iload_n hx hb dX1_actionOf_0 rfl (lv_at hl 1 rfl) ?_
    refine x_igeN (tgt := 11) hx hb (by omega) dX1_actionOf_1 (by decide) ?_
    refine lv_aload_n hx hb dX1_actionOf_11 rfl (lv_at hl 0 rfl) ?_
    refine x_getM (v := .ref (ad 3)) hx hb hts hown hK hP 3 (by decide) q172 rfl rfl dX1_actionOf_12 ?_
    refine lv_iload_n hx hb dX1_actionOf_15 rfl (lv_at hl 1 rfl) ?_
    refine x_iald (v := (nI ((q k).2.2))) hx hb hK hP 3 0 rfl rfl (by omega) (by decide) (hI.2 k hkn 3 (by decide) (by decide)) dX1_actionOf_16 ?_
    refine lv_bipush (v := (nI 16)) hx hb dX1_actionOf_17 (by decide) ?_
    refine x_div hx hb (by omega) (by decide) (by decide) dX1_actionOf_19 ?_
    exact W.iret (v := (nI (((q k).2.2) / 16))) hx hb hr (fun t ht hW => ⟨_, rfl, by unfold p_act; rw [if_pos hkn], ht⟩) (fun _ h => by cases h) dX1_actionOf_20
  · obtain rfl : k = n := by omega
    rw [p_cd_n] at ha
    subst ha
    refine lv_iload_n hx hb dX1_actionOf_0 rfl (lv_at hl 1 rfl) ?_
    refine lv_if_ge (tgt := 11) hx hb dX1_actionOf_1 (by decide) (fun c9 => absurd c9 (by decide)) (fun _ => ?_)
    refine lv_aload_n hx hb dX1_actionOf_4 rfl (lv_at hl 0 rfl) ?_
    refine x_getM (v := .int (nI fb)) hx hb hts hown hK hP 4 (by decide) q173 rfl rfl dX1_actionOf_5 ?_
    refine lv_goto (tgt := 20) hx hb dX1_actionOf_8 (by decide) ?_
    exact W.iret (v := (nI fb)) hx hb hr (fun t ht hW => ⟨_, rfl, by unfold p_act; rw [if_neg hkn], ht⟩) (fun _ h => by cases h) dX1_actionOf_20
set_option maxHeartbeats 4000000 in
set_option maxRecDepth 100000 in
/-- decide -/
theorem m1_decide (l : Launch) (dC : Nat → ClassId) (dI : Nat → Nat → Nat) (ad : Nat → Nat) (cI : ClassId) (n fb : Nat) (q : Nat → pV) (ra : Nat → Nat → Int32) (a b c0 : Int32) (hI : p_IM n q fb ra) : Met l yX1_decide (ws_ yX1_decide cX1_decide 4 (some .int)) { frames := 2, cells := 0, slots := 0, locals := 49 } (va_Pc [.ref (ad 0), .int a, .int b, .int c0] (RoW (dC, dI) (tyM cI) (WN ad cI (nI n) (nI fb) (ra 1) (ra 2) (ra 3)))) (vp_Si (fun (r : Int32) => r = (o_dec n q fb a b c0).1)) 0 0 (fun _ => False) := by
  refine Met.ofW (cc := cX1_decide) (maxL := 4) (ret := (some .int)) (by decide) rfl ?_
  intro p e s m args below meth c s₁ B hml hv
  obtain ⟨rfl, hP, hK⟩ := hv
  have hx := B.exec
  have hb := B.bytes
  have hr := B.returns
  have hts := atoms_spec (ws := (ws_ yX1_decide cX1_decide 4 (some .int))) B.pre
  have hts : ∀ w ∈ lw_all, w.before _ s = true := fun w h => hts w (List.mem_cons_of_mem _ h)
  have hown : s.vm.findClass RX1 = some m.cls := findClass_of_methodNamed B.named
  have hlocks := B.notSynchronized
  have hP : va_P (dC, dI) vwCl (WN ad cI (nI n) (nI fb) (ra 1) (ra 2) (ra 3)) s.heap := hP
  have hl := lv_entry ([.ref (ad 0), .int a, .int b, .int c0]) (n := 4) (Nat.le_of_ble_eq_true rfl)
  rw [lg_entry_eq]
  generalize (lg_sl ([.ref (ad 0), .int a, .int b, .int c0]) ++ List.replicate (4 - (lg_sl ([.ref (ad 0), .int a, .int b, .int c0])).length) Slot.unset).toArray = ls at hl ⊢
  have hl : lv_has ls 4 [(0, .ref (ad 0)), (1, .int a), (2, .int b), (3, .int c0)] := hl
  refine lv_iload_n hx hb dX1_decide_0 rfl (lv_at hl 1 rfl) ?_
  refine lv_iload_n hx hb dX1_decide_1 rfl (lv_at hl 2 rfl) ?_
  refine lv_iload_n hx hb dX1_decide_2 rfl (lv_at hl 3 rfl) ?_
  refine vp_callSi (W.runS (As := [.int a, .int b, .int c0]) (rest := []) ⟨hx, hb, hml, hown, hts⟩ (m1_noPacket l a b c0) (va_cwS 3 hts (lw_S q219 q220 q18 q221) rfl rfl rfl (by decide +kernel) ⟨Nat.le_of_ble_eq_true rfl, Nat.le_of_ble_eq_true rfl⟩) (x_preS0) rfl rfl hl.1 rfl (lv_room (Nat.le_of_ble_eq_true rfl)) dX1_decide_3 ⟨Nat.le_refl _, Nat.le_refl _⟩) (fun r1 h1 => ?_)
  rcases h1 with ⟨rfl, x, y, z, hx1, hy1, hz1, rfl, rfl, rfl⟩ | ⟨rfl, hno⟩
  · refine lv_if_eq (tgt := 12) hx hb dX1_decide_6 (by decide) (fun _ => ?_) (fun c9 => absurd (by decide) c9)
    refine lv_aload_n hx hb dX1_decide_12 rfl (lv_at hl 0 rfl) ?_
    refine lv_sipush (v := (nI 128)) hx hb dX1_decide_13 (by decide) ?_
    refine lv_iload_n hx hb dX1_decide_16 rfl (lv_at hl 1 rfl) ?_
    refine x_mul hx hb dX1_decide_17 ?_
    refine lv_iconst (v := (nI 4)) hx hb dX1_decide_18 (by decide) ?_
    refine lv_iload_n hx hb dX1_decide_19 rfl (lv_at hl 2 rfl) ?_
    refine x_mul hx hb dX1_decide_20 ?_
    refine x_add hx hb dX1_decide_21 ?_
    refine lv_iload_n hx hb dX1_decide_22 rfl (lv_at hl 3 rfl) ?_
    refine x_add hx hb dX1_decide_23 ?_
    refine lv_iconst (v := -1) hx hb dX1_decide_24 (by decide) ?_
    refine vp_callSi (W.runV (As := [.int (nI (128 * x + 4 * y + z)), .int (-1)]) (rest := []) ⟨hx, hb, hml, hown, hts⟩ (m1_deciding l dC dI ad cI n fb q ra (128 * x + 4 * y + z) n (-1) hI (by omega) (Nat.le_refl n) (p_cd_n n).symm) (cwV 2 hts (lw_V q222 q224 qs13 q18 q225) rfl rfl rfl (by decide +kernel) ⟨Nat.le_of_ble_eq_true rfl, Nat.le_of_ble_eq_true rfl⟩) (x_preVR (ci := 1) (q0 := 0) hK hP rfl rfl) rfl rfl hl.1 rfl (lv_room (Nat.le_of_ble_eq_true rfl)) dX1_decide_25 ⟨Nat.le_refl _, Nat.le_refl _⟩) (fun r2 h2 => ?_)
    exact W.iret (v := r2) hx hb hr (fun t ht hW => ⟨_, rfl, by rw [h2, o_dec_y q fb hx1 hy1 hz1, p_DP2_pk n q n hx1 hy1 hz1, p_D2_n], ht⟩) (fun _ h => by cases h) dX1_decide_28
  · refine lv_if_eq (tgt := 12) hx hb dX1_decide_6 (by decide) (fun c9 => absurd c9 (by decide)) (fun _ => ?_)
    refine lv_bipush (v := -2) hx hb dX1_decide_9 (by decide) ?_
    exact W.iret (v := (-2)) hx hb hr (fun t ht hW => ⟨_, rfl, by rw [o_dec_n q fb hno], ht⟩) (fun _ h => by cases h) dX1_decide_11
set_option maxHeartbeats 4000000 in
set_option maxRecDepth 100000 in
/-- action -/
theorem m1_action (l : Launch) (dC : Nat → ClassId) (dI : Nat → Nat → Nat) (ad : Nat → Nat) (cI : ClassId) (n fb : Nat) (q : Nat → pV) (ra : Nat → Nat → Int32) (a b c0 : Int32) (hI : p_IM n q fb ra) : Met l yX1_action (ws_ yX1_action cX1_action 5 (some .int)) { frames := 3, cells := 0, slots := 0, locals := 72 } (va_Pc [.ref (ad 0), .int a, .int b, .int c0] (RoW (dC, dI) (tyM cI) (WN ad cI (nI n) (nI fb) (ra 1) (ra 2) (ra 3)))) (vp_Si (fun (r : Int32) => r = (o_act n q fb a b c0).1)) 0 0 (fun _ => False) := by
  refine Met.ofW (cc := cX1_action) (maxL := 5) (ret := (some .int)) (by decide) rfl ?_
  intro p e s m args below meth c s₁ B hml hv
  obtain ⟨rfl, hP, hK⟩ := hv
  have hx := B.exec
  have hb := B.bytes
  have hr := B.returns
  have hts := atoms_spec (ws := (ws_ yX1_action cX1_action 5 (some .int))) B.pre
  have hts : ∀ w ∈ lw_all, w.before _ s = true := fun w h => hts w (List.mem_cons_of_mem _ h)
  have hown : s.vm.findClass RX1 = some m.cls := findClass_of_methodNamed B.named
  have hlocks := B.notSynchronized
  have hP : va_P (dC, dI) vwCl (WN ad cI (nI n) (nI fb) (ra 1) (ra 2) (ra 3)) s.heap := hP
  have hl := lv_entry ([.ref (ad 0), .int a, .int b, .int c0]) (n := 5) (Nat.le_of_ble_eq_true rfl)
  rw [lg_entry_eq]
  generalize (lg_sl ([.ref (ad 0), .int a, .int b, .int c0]) ++ List.replicate (5 - (lg_sl ([.ref (ad 0), .int a, .int b, .int c0])).length) Slot.unset).toArray = ls at hl ⊢
  have hl : lv_has ls 5 [(0, .ref (ad 0)), (1, .int a), (2, .int b), (3, .int c0)] := hl
  have hn := hI.1.1
  refine lv_aload_n hx hb dX1_action_0 rfl (lv_at hl 0 rfl) ?_
  refine lv_iload_n hx hb dX1_action_1 rfl (lv_at hl 1 rfl) ?_
  refine lv_iload_n hx hb dX1_action_2 rfl (lv_at hl 2 rfl) ?_
  refine lv_iload_n hx hb dX1_action_3 rfl (lv_at hl 3 rfl) ?_
  refine vp_callSi (W.runV (As := [.int a, .int b, .int c0]) (rest := []) ⟨hx, hb, hml, hown, hts⟩ (m1_decide l dC dI ad cI n fb q ra a b c0 hI) (cwV 3 hts (lw_V q234 q216 q217 q18 q218) rfl rfl rfl (by decide +kernel) ⟨Nat.le_of_ble_eq_true rfl, Nat.le_of_ble_eq_true rfl⟩) (x_preVR (ci := 1) (q0 := 0) hK hP rfl rfl) rfl rfl hl.1 rfl (lv_room (Nat.le_of_ble_eq_true rfl)) dX1_action_4 ⟨Nat.le_refl _, Nat.le_refl _⟩) (fun r1 h1 => ?_)
  rcases p_pkt a b c0 with ⟨x, y, z, hx1, hy1, hz1, rfl, rfl, rfl⟩ | hno
  · rw [o_dec_y q fb hx1 hy1 hz1] at h1
    have h1 : r1 = p_cd n (p_D n q x y z) := h1
    refine lv_istore (lv' := [(4, .int r1), (0, .ref (ad 0)), (1, .int (nI x)), (2, .int (nI y)), (3, .int (nI z))]) hx hb dX1_action_7 hl (by decide) rfl (fun ls hl => ?_)
    refine lv_iload hx hb dX1_action_9 (lv_at hl 0 rfl) ?_
    refine lv_bipush (v := -2) hx hb dX1_action_11 (by decide) ?_
    refine lv_icmp_ne (tgt := 21) hx hb dX1_action_13 (by decide) (fun _ => ?_) (fun c9 => absurd c9 (by rw [h1]; exact p_cd_m2 hn))
    refine lv_aload_n hx hb dX1_action_21 rfl (lv_at hl 1 rfl) ?_
    refine lv_iload hx hb dX1_action_22 (lv_at hl 0 rfl) ?_
    refine vp_callSi (W.runV (As := [.int r1]) (rest := []) ⟨hx, hb, hml, hown, hts⟩ (m1_actionOf l dC dI ad cI n fb q ra (p_D n q x y z) r1 hI (p_D_le n q x y z) h1) (cwV 1 hts (lw_V q235 q237 qs15 q18 q238) rfl rfl rfl (by decide +kernel) ⟨Nat.le_of_ble_eq_true rfl, Nat.le_of_ble_eq_true rfl⟩) (x_preVR (ci := 1) (q0 := 0) hK hP rfl rfl) rfl rfl hl.1 rfl (lv_room (Nat.le_of_ble_eq_true rfl)) dX1_action_24 ⟨Nat.le_refl _, Nat.le_refl _⟩) (fun r2 h2 => ?_)
    exact W.iret (v := r2) hx hb hr (fun t ht hW => ⟨_, rfl, by rw [h2, o_act_y q fb hx1 hy1 hz1], ht⟩) (fun _ h => by cases h) dX1_action_27
  · rw [o_dec_n q fb hno] at h1
    have h1 : r1 = -2 := h1
    refine lv_istore (lv' := [(4, .int r1), (0, .ref (ad 0)), (1, .int a), (2, .int b), (3, .int c0)]) hx hb dX1_action_7 hl (by decide) rfl (fun ls hl => ?_)
    refine lv_iload hx hb dX1_action_9 (lv_at hl 0 rfl) ?_
    refine lv_bipush (v := -2) hx hb dX1_action_11 (by decide) ?_
    refine lv_icmp_ne (tgt := 21) hx hb dX1_action_13 (by decide) (fun c9 => absurd h1 c9) (fun _ => ?_)
    refine lv_bipush (v := -2) hx hb dX1_action_16 (by decide) ?_
    refine lv_goto (tgt := 27) hx hb dX1_action_18 (by decide) ?_
    exact W.iret (v := (-2)) hx hb hr (fun t ht hW => ⟨_, rfl, by rw [o_act_n q fb hno], ht⟩) (fun _ h => by cases h) dX1_action_27
end
section
set_option maxHeartbeats 4000000 in
set_option maxRecDepth 100000 in
/-- decided -/
theorem m1_decided (l : Launch) (dC : Nat → ClassId) (dI : Nat → Nat → Nat) (ad : Nat → Nat) (cI : ClassId) (n fb : Nat) (q : Nat → pV) (ra : Nat → Nat → Int32) (a : Int32) (hI : p_IM n q fb ra) : Met l yX1_decided (ws_ yX1_decided cX1_decided 4 (some .int)) { frames := 2, cells := 0, slots := 0, locals := 49 } (va_Pc [.ref (ad 0), .int a] (RoW (dC, dI) (tyM cI) (WN ad cI (nI n) (nI fb) (ra 1) (ra 2) (ra 3)))) (vp_Si (fun (r : Int32) => r = (o_ded n q fb a).1)) 0 0 (fun _ => False) := by
  refine Met.ofW (cc := cX1_decided) (maxL := 4) (ret := (some .int)) (by decide) rfl ?_
  intro p e s m args below meth c s₁ B hml hv
  obtain ⟨rfl, hP, hK⟩ := hv
  have hx := B.exec
  have hb := B.bytes
  have hr := B.returns
  have hts := atoms_spec (ws := (ws_ yX1_decided cX1_decided 4 (some .int))) B.pre
  have hts : ∀ w ∈ lw_all, w.before _ s = true := fun w h => hts w (List.mem_cons_of_mem _ h)
  have hown : s.vm.findClass RX1 = some m.cls := findClass_of_methodNamed B.named
  have hlocks := B.notSynchronized
  have hP : va_P (dC, dI) vwCl (WN ad cI (nI n) (nI fb) (ra 1) (ra 2) (ra 3)) s.heap := hP
  have hl := lv_entry ([.ref (ad 0), .int a]) (n := 4) (Nat.le_of_ble_eq_true rfl)
  rw [lg_entry_eq]
  generalize (lg_sl ([.ref (ad 0), .int a]) ++ List.replicate (4 - (lg_sl ([.ref (ad 0), .int a])).length) Slot.unset).toArray = ls at hl ⊢
  have hl : lv_has ls 4 [(0, .ref (ad 0)), (1, .int a)] := hl
  have hn := hI.1.1
  have L16 : ∀ (k : Nat), k ≤ n → a = p_cd n k → ∀ (ls : Array Slot), lv_has ls 4 [(0, .ref (ad 0)), (1, .int a)] → W p l e (headSpec (ws_ yX1_decided cX1_decided 4 (some .int)) { frames := 2, cells := 0, slots := 0, locals := 49 }).room s m ([.ref (ad 0), .int a] : List Value).toArray below meth c s.heap [] 0 0 (MQ below (vp_Si (fun (r : Int32) => r = (o_ded n q fb a).1)) ([.ref (ad 0), .int a] : List Value).toArray s 0 0 (fun _ => False)) (F0 m 16 ls []) := by
    intro k hk ha ls hl
    refine lv_iconst (v := (nI 0)) hx hb dX1_decided_16 (by decide) ?_
    refine lv_istore_n (lv' := [(2, .int (nI 0)), (0, .ref (ad 0)), (1, .int a)]) hx hb dX1_decided_17 rfl hl (by decide) rfl (fun ls hl => ?_)
    refine lv_iconst (v := (nI 0)) hx hb dX1_decided_18 (by decide) ?_
    refine lv_istore_n (lv' := [(3, .int (nI 0)), (2, .int (nI 0)), (0, .ref (ad 0)), (1, .int a)]) hx hb dX1_decided_19 rfl hl (by decide) rfl (fun ls hl => ?_)
    have loop : ∀ (f : Nat) (x : Nat), x ≤ 4096 → 4096 < x + f → ∀ (ls : Array Slot), lv_has ls 4 [(0, .ref (ad 0)), (1, .int a), (2, .int (nI (p_NX n q k x))), (3, .int (nI x))] → W p l e (headSpec (ws_ yX1_decided cX1_decided 4 (some .int)) { frames := 2, cells := 0, slots := 0, locals := 49 }).room s m ([.ref (ad 0), .int a] : List Value).toArray below meth c s.heap [] 0 0 (MQ below (vp_Si (fun (r : Int32) => r = (o_ded n q fb a).1)) ([.ref (ad 0), .int a] : List Value).toArray s 0 0 (fun _ => False)) (F0 m 20 ls []) := by
      intro f
      induction f with
      | zero => intros; omega
      | succ f ih =>
        intro x h1 h2 ls hl
        refine lv_iload_n hx hb dX1_decided_20 rfl (lv_at hl 3 rfl) ?_
        refine lv_sipush (v := (nI 4096)) hx hb dX1_decided_21 (by decide) ?_
        refine x_cge (tgt := 46) hx hb (by omega) (by omega) dX1_decided_24 (by decide) (fun ci => ?_) (fun ci => ?_)
        · have ex : x = 4096 := by omega
          refine lv_iload_n hx hb dX1_decided_46 rfl (lv_at hl 2 rfl) ?_
          exact W.iret (v := (nI (p_NX n q k x))) hx hb hr (fun t ht hW => ⟨_, rfl, by rw [ex, ha]; exact o_ded_e q fb hn hk, ht⟩) (fun _ h => by cases h) dX1_decided_47
        · refine lv_aload_n hx hb dX1_decided_27 rfl (lv_at hl 0 rfl) ?_
          refine lv_iload_n hx hb dX1_decided_28 rfl (lv_at hl 3 rfl) ?_
          refine lv_iconst (v := -1) hx hb dX1_decided_29 (by decide) ?_
          refine vp_callSi (W.runV (As := [.int (nI x), .int (-1)]) (rest := []) ⟨hx, hb, hml, hown, hts⟩ (m1_deciding l dC dI ad cI n fb q ra x n (-1) hI ci (Nat.le_refl n) (p_cd_n n).symm) (cwV 2 hts (lw_V q222 q224 qs13 q18 q225) rfl rfl rfl (by decide +kernel) ⟨Nat.le_of_ble_eq_true rfl, Nat.le_of_ble_eq_true rfl⟩) (x_preVR (ci := 1) (q0 := 0) hK hP rfl rfl) rfl rfl hl.1 rfl (lv_room (Nat.le_of_ble_eq_true rfl)) dX1_decided_30 ⟨Nat.le_refl _, Nat.le_refl _⟩) (fun r2 h2 => ?_)
          have h2 : r2 = p_cd n (p_DP n q x) := h2.trans (by rw [show p_DP2 n q n x = p_DP n q x from p_D2_n n q _ _ _])
          have hj : r2 = a ↔ p_DP n q x = k := by rw [h2, ha]; exact p_cd_inj hn (p_D_le n q _ _ _) hk
          refine lv_iload_n hx hb dX1_decided_33 rfl (lv_at hl 1 rfl) ?_
          refine lv_icmp_ne (tgt := 40) hx hb dX1_decided_34 (by decide) (fun cd => ?_) (fun cd => ?_)
          · rw [p_NX_n (fun z => cd (hj.mpr z))] at hl
            refine lv_iinc (v := (nI (x + 1))) (lv' := [(3, .int (nI (x + 1))), (0, .ref (ad 0)), (1, .int a), (2, .int (nI (p_NX n q k (x + 1))))]) hx hb dX1_decided_40 hl (k := 3) rfl (x_inc _) (by decide) rfl (fun ls hl => ?_)
            refine lv_goto (tgt := 20) hx hb dX1_decided_43 (by decide) ?_
            exact ih (x + 1) (by omega) (by omega) _ (lv_sub hl [1, 2, 3, 0] rfl)
          · refine lv_iinc (v := (nI (p_NX n q k x + 1))) (lv' := [(2, .int (nI (p_NX n q k x + 1))), (0, .ref (ad 0)), (1, .int a), (3, .int (nI x))]) hx hb dX1_decided_37 hl (k := 2) rfl (x_inc _) (by decide) rfl (fun ls hl => ?_)
            rw [p_NX_y (hj.mp cd)] at hl
            refine lv_iinc (v := (nI (x + 1))) (lv' := [(3, .int (nI (x + 1))), (2, .int (nI (p_NX n q k (x + 1)))), (0, .ref (ad 0)), (1, .int a)]) hx hb dX1_decided_40 hl (k := 3) rfl (x_inc _) (by decide) rfl (fun ls hl => ?_)
            refine lv_goto (tgt := 20) hx hb dX1_decided_43 (by decide) ?_
            exact ih (x + 1) (by omega) (by omega) _ (lv_sub hl [2, 3, 1, 0] rfl)
    exact loop 4097 0 (by omega) (by omega) _ (lv_sub hl [2, 3, 1, 0] rfl)
  refine lv_iload_n hx hb dX1_decided_0 rfl (lv_at hl 1 rfl) ?_
  refine lv_iconst (v := -1) hx hb dX1_decided_1 (by decide) ?_
  refine lv_icmp_eq (tgt := 16) hx hb dX1_decided_2 (by decide) (fun c1 => ?_) (fun c1 => ?_)
  · exact L16 n (Nat.le_refl n) (c1.trans (p_cd_n n).symm) _ (lv_sub hl [0, 1] rfl)
  · refine lv_aload_n hx hb dX1_decided_5 rfl (lv_at hl 0 rfl) ?_
    refine lv_iload_n hx hb dX1_decided_6 rfl (lv_at hl 1 rfl) ?_
    refine vp_callSi (W.runV (As := [.int a]) (rest := []) ⟨hx, hb, hml, hown, hts⟩ (m1_missing l dC dI ad cI n (nI fb) ra a hn) (cwV 1 hts (lw_V q201 q203 qs12 q18 q204) rfl rfl rfl (by decide +kernel) ⟨Nat.le_of_ble_eq_true rfl, Nat.le_of_ble_eq_true rfl⟩) (x_preVR (ci := 1) (q0 := 0) hK hP rfl rfl) rfl rfl hl.1 rfl (lv_room (Nat.le_of_ble_eq_true rfl)) dX1_decided_7 ⟨Nat.le_refl _, Nat.le_refl _⟩) (fun r1 h1 => ?_)
    rcases h1 with ⟨rfl, h1⟩ | ⟨rfl, k, hk, hak⟩
    · refine lv_if_eq (tgt := 16) hx hb dX1_decided_10 (by decide) (fun c9 => absurd c9 (by decide)) (fun _ => ?_)
      refine lv_bipush (v := -2) hx hb dX1_decided_13 (by decide) ?_
      exact W.iret (v := (-2)) hx hb hr (fun t ht hW => ⟨_, rfl, by rw [o_ded_n q fb hn c1 h1], ht⟩) (fun _ h => by cases h) dX1_decided_15
    · refine lv_if_eq (tgt := 16) hx hb dX1_decided_10 (by decide) (fun _ => ?_) (fun c9 => absurd (by decide) c9)
      exact L16 k (by omega) (hak.trans (p_cd_lt hk).symm) _ (lv_sub hl [0, 1] rfl)
end
section
set_option maxHeartbeats 4000000 in
set_option maxRecDepth 100000 in
/-- having -/
theorem m1_having (l : Launch) (dC : Nat → ClassId) (dI : Nat → Nat → Nat) (ad : Nat → Nat) (cI : ClassId) (n fb : Nat) (q : Nat → pV) (ra : Nat → Nat → Int32) (a : Int32) (hI : p_IM n q fb ra) : Met l yX1_having (ws_ yX1_having cX1_having 5 (some .int)) { frames := 2, cells := 0, slots := 0, locals := 49 } (va_Pc [.ref (ad 0), .int a] (RoW (dC, dI) (tyM cI) (WN ad cI (nI n) (nI fb) (ra 1) (ra 2) (ra 3)))) (vp_Si (fun (r : Int32) => r = (o_hav n q fb a).1)) 0 0 (fun _ => False) := by
  refine Met.ofW (cc := cX1_having) (maxL := 5) (ret := (some .int)) (by decide) rfl ?_
  intro p e s m args below meth c s₁ B hml hv
  obtain ⟨rfl, hP, hK⟩ := hv
  have hx := B.exec
  have hb := B.bytes
  have hr := B.returns
  have hts := atoms_spec (ws := (ws_ yX1_having cX1_having 5 (some .int))) B.pre
  have hts : ∀ w ∈ lw_all, w.before _ s = true := fun w h => hts w (List.mem_cons_of_mem _ h)
  have hown : s.vm.findClass RX1 = some m.cls := findClass_of_methodNamed B.named
  have hlocks := B.notSynchronized
  have hP : va_P (dC, dI) vwCl (WN ad cI (nI n) (nI fb) (ra 1) (ra 2) (ra 3)) s.heap := hP
  have hl := lv_entry ([.ref (ad 0), .int a]) (n := 5) (Nat.le_of_ble_eq_true rfl)
  rw [lg_entry_eq]
  generalize (lg_sl ([.ref (ad 0), .int a]) ++ List.replicate (5 - (lg_sl ([.ref (ad 0), .int a])).length) Slot.unset).toArray = ls at hl ⊢
  have hl : lv_has ls 5 [(0, .ref (ad 0)), (1, .int a)] := hl
  have hn := hI.1.1
  refine lv_iconst (v := (nI 0)) hx hb dX1_having_0 (by decide) ?_
  refine lv_istore_n (lv' := [(2, .int (nI 0)), (0, .ref (ad 0)), (1, .int a)]) hx hb dX1_having_1 rfl hl (by decide) rfl (fun ls hl => ?_)
  refine lv_iconst (v := (nI 0)) hx hb dX1_having_2 (by decide) ?_
  refine lv_istore_n (lv' := [(3, .int (nI 0)), (2, .int (nI 0)), (0, .ref (ad 0)), (1, .int a)]) hx hb dX1_having_3 rfl hl (by decide) rfl (fun ls hl => ?_)
  have loop : ∀ (f : Nat) (x : Nat), x ≤ 4096 → 4096 < x + f → ∀ (ls : Array Slot), lv_has ls 5 [(0, .ref (ad 0)), (1, .int a), (2, .int (nI (p_HX n q fb (a.toBitVec.toNat % 4) x))), (3, .int (nI x))] → W p l e (headSpec (ws_ yX1_having cX1_having 5 (some .int)) { frames := 2, cells := 0, slots := 0, locals := 49 }).room s m ([.ref (ad 0), .int a] : List Value).toArray below meth c s.heap [] 0 0 (MQ below (vp_Si (fun (r : Int32) => r = (o_hav n q fb a).1)) ([.ref (ad 0), .int a] : List Value).toArray s 0 0 (fun _ => False)) (F0 m 4 ls []) := by
    intro f
    induction f with
    | zero => intros; omega
    | succ f ih =>
      intro x h1 h2 ls hl
      refine lv_iload_n hx hb dX1_having_4 rfl (lv_at hl 3 rfl) ?_
      refine lv_sipush (v := (nI 4096)) hx hb dX1_having_5 (by decide) ?_
      refine x_cge (tgt := 40) hx hb (by omega) (by omega) dX1_having_8 (by decide) (fun ci => ?_) (fun ci => ?_)
      · have ex : x = 4096 := by omega
        refine lv_iload_n hx hb dX1_having_40 rfl (lv_at hl 2 rfl) ?_
        exact W.iret (v := (nI (p_HX n q fb (a.toBitVec.toNat % 4) x))) hx hb hr (fun t ht hW => ⟨_, rfl, by rw [ex]; exact o_hav_e q fb a, ht⟩) (fun _ h => by cases h) dX1_having_41
      · refine lv_aload_n hx hb dX1_having_11 rfl (lv_at hl 0 rfl) ?_
        refine lv_iload_n hx hb dX1_having_12 rfl (lv_at hl 3 rfl) ?_
        refine lv_iconst (v := -1) hx hb dX1_having_13 (by decide) ?_
        refine vp_callSi (W.runV (As := [.int (nI x), .int (-1)]) (rest := []) ⟨hx, hb, hml, hown, hts⟩ (m1_deciding l dC dI ad cI n fb q ra x n (-1) hI ci (Nat.le_refl n) (p_cd_n n).symm) (cwV 2 hts (lw_V q222 q224 qs13 q18 q225) rfl rfl rfl (by decide +kernel) ⟨Nat.le_of_ble_eq_true rfl, Nat.le_of_ble_eq_true rfl⟩) (x_preVR (ci := 1) (q0 := 0) hK hP rfl rfl) rfl rfl hl.1 rfl (lv_room (Nat.le_of_ble_eq_true rfl)) dX1_having_14 ⟨Nat.le_refl _, Nat.le_refl _⟩) (fun r2 h2 => ?_)
        have h2 : r2 = p_cd n (p_DP n q x) := h2.trans (by rw [show p_DP2 n q n x = p_DP n q x from p_D2_n n q _ _ _])
        refine lv_istore (lv' := [(4, .int r2), (0, .ref (ad 0)), (1, .int a), (2, .int (nI (p_HX n q fb (a.toBitVec.toNat % 4) x))), (3, .int (nI x))]) hx hb dX1_having_17 hl (by decide) rfl (fun ls hl => ?_)
        refine lv_aload_n hx hb dX1_having_19 rfl (lv_at hl 1 rfl) ?_
        refine lv_iload hx hb dX1_having_20 (lv_at hl 0 rfl) ?_
        refine vp_callSi (W.runV (As := [.int r2]) (rest := []) ⟨hx, hb, hml, hown, hts⟩ (m1_actionOf l dC dI ad cI n fb q ra (p_DP n q x) r2 hI (p_D_le n q _ _ _) h2) (cwV 1 hts (lw_V q235 q237 qs15 q18 q238) rfl rfl rfl (by decide +kernel) ⟨Nat.le_of_ble_eq_true rfl, Nat.le_of_ble_eq_true rfl⟩) (x_preVR (ci := 1) (q0 := 0) hK hP rfl rfl) rfl rfl hl.1 rfl (lv_room (Nat.le_of_ble_eq_true rfl)) dX1_having_22 ⟨Nat.le_refl _, Nat.le_refl _⟩) (fun r3 h3 => ?_)
        subst h3
        have hal := p_act_lt hI.1 (p_DP n q x)
        refine lv_iload_n hx hb dX1_having_25 rfl (lv_at hl 2 rfl) ?_
        refine lv_iconst (v := (nI 3)) hx hb dX1_having_26 (by decide) ?_
        refine lv_iand hx hb dX1_having_27 (x_top (pk_and a 2 (by decide)) ?_)
        refine x_cne (tgt := 34) hx hb (by omega) (by omega) dX1_having_28 (by decide) (fun cd => ?_) (fun cd => ?_)
        · rw [p_HX_n cd] at hl
          refine lv_iinc (v := (nI (x + 1))) (lv' := [(3, .int (nI (x + 1))), (4, .int r2), (0, .ref (ad 0)), (1, .int a), (2, .int (nI (p_HX n q fb (a.toBitVec.toNat % 4) (x + 1))))]) hx hb dX1_having_34 hl (k := 4) rfl (x_inc _) (by decide) rfl (fun ls hl => ?_)
          refine lv_goto (tgt := 4) hx hb dX1_having_37 (by decide) ?_
          exact ih (x + 1) (by omega) (by omega) _ (lv_sub hl [2, 3, 4, 0] rfl)
        · refine lv_iinc (v := (nI (p_HX n q fb (a.toBitVec.toNat % 4) x + 1))) (lv' := [(2, .int (nI (p_HX n q fb (a.toBitVec.toNat % 4) x + 1))), (4, .int r2), (0, .ref (ad 0)), (1, .int a), (3, .int (nI x))]) hx hb dX1_having_31 hl (k := 3) rfl (x_inc _) (by decide) rfl (fun ls hl => ?_)
          rw [p_HX_y cd] at hl
          refine lv_iinc (v := (nI (x + 1))) (lv' := [(3, .int (nI (x + 1))), (2, .int (nI (p_HX n q fb (a.toBitVec.toNat % 4) (x + 1)))), (4, .int r2), (0, .ref (ad 0)), (1, .int a)]) hx hb dX1_having_34 hl (k := 4) rfl (x_inc _) (by decide) rfl (fun ls hl => ?_)
          refine lv_goto (tgt := 4) hx hb dX1_having_37 (by decide) ?_
          exact ih (x + 1) (by omega) (by omega) _ (lv_sub hl [3, 4, 1, 0] rfl)
  exact loop 4097 0 (by omega) (by omega) _ (lv_sub hl [2, 3, 1, 0] rfl)
end
section
set_option maxHeartbeats 4000000 in
set_option maxRecDepth 100000 in
/-- use -/
theorem m1_use (l : Launch) (dC : Nat → ClassId) (dI : Nat → Nat → Nat) (ad : Nat → Nat) (cI : ClassId) (n fb : Nat) (q : Nat → pV) (ra : Nat → Nat → Int32) (a : Int32) (hI : p_IM n q fb ra) : Met l yX1_use (ws_ yX1_use cX1_use 5 (some .int)) { frames := 2, cells := 0, slots := 0, locals := 49 } (va_Pc [.ref (ad 0), .int a] (RoW (dC, dI) (tyM cI) (WN ad cI (nI n) (nI fb) (ra 1) (ra 2) (ra 3)))) (vp_Si (fun (r : Int32) => r = (o_use n q fb a).1)) 0 0 (fun _ => False) := by
  refine Met.ofW (cc := cX1_use) (maxL := 5) (ret := (some .int)) (by decide) rfl ?_
  intro p e s m args below meth c s₁ B hml hv
  obtain ⟨rfl, hP, hK⟩ := hv
  have hx := B.exec
  have hb := B.bytes
  have hr := B.returns
  have hts := atoms_spec (ws := (ws_ yX1_use cX1_use 5 (some .int))) B.pre
  have hts : ∀ w ∈ lw_all, w.before _ s = true := fun w h => hts w (List.mem_cons_of_mem _ h)
  have hown : s.vm.findClass RX1 = some m.cls := findClass_of_methodNamed B.named
  have hlocks := B.notSynchronized
  have hP : va_P (dC, dI) vwCl (WN ad cI (nI n) (nI fb) (ra 1) (ra 2) (ra 3)) s.heap := hP
  have hl := lv_entry ([.ref (ad 0), .int a]) (n := 5) (Nat.le_of_ble_eq_true rfl)
  rw [lg_entry_eq]
  generalize (lg_sl ([.ref (ad 0), .int a]) ++ List.replicate (5 - (lg_sl ([.ref (ad 0), .int a])).length) Slot.unset).toArray = ls at hl ⊢
  have hl : lv_has ls 5 [(0, .ref (ad 0)), (1, .int a)] := hl
  have hn := hI.1.1
  refine lv_aload_n hx hb dX1_use_0 rfl (lv_at hl 0 rfl) ?_
  refine lv_iload_n hx hb dX1_use_1 rfl (lv_at hl 1 rfl) ?_
  refine vp_callSi (W.runV (As := [.int a]) (rest := []) ⟨hx, hb, hml, hown, hts⟩ (m1_missing l dC dI ad cI n (nI fb) ra a hn) (cwV 1 hts (lw_V q201 q203 qs12 q18 q204) rfl rfl rfl (by decide +kernel) ⟨Nat.le_of_ble_eq_true rfl, Nat.le_of_ble_eq_true rfl⟩) (x_preVR (ci := 1) (q0 := 0) hK hP rfl rfl) rfl rfl hl.1 rfl (lv_room (Nat.le_of_ble_eq_true rfl)) dX1_use_2 ⟨Nat.le_refl _, Nat.le_refl _⟩) (fun r1 h1 => ?_)
  rcases h1 with ⟨rfl, h1⟩ | ⟨rfl, k, hk, rfl⟩
  · refine lv_if_eq (tgt := 11) hx hb dX1_use_5 (by decide) (fun c9 => absurd c9 (by decide)) (fun _ => ?_)
    refine lv_bipush (v := -2) hx hb dX1_use_8 (by decide) ?_
    exact W.iret (v := (-2)) hx hb hr (fun t ht hW => ⟨_, rfl, by rw [o_use_n q fb hn h1], ht⟩) (fun _ h => by cases h) dX1_use_10
  · refine lv_if_eq (tgt := 11) hx hb dX1_use_5 (by decide) (fun _ => ?_) (fun c9 => absurd (by decide) c9)
    refine lv_iconst (v := (nI 1)) hx hb dX1_use_11 (by decide) ?_
    refine lv_istore_n (lv' := [(2, .int (nI 1)), (0, .ref (ad 0)), (1, .int (nI k))]) hx hb dX1_use_12 rfl hl (by decide) rfl (fun ls hl => ?_)
    refine lv_iconst (v := (nI 0)) hx hb dX1_use_13 (by decide) ?_
    refine lv_istore_n (lv' := [(3, .int (nI 0)), (2, .int (nI 1)), (0, .ref (ad 0)), (1, .int (nI k))]) hx hb dX1_use_14 rfl hl (by decide) rfl (fun ls hl => ?_)
    have loop : ∀ (f : Nat) (x dd : Nat), x ≤ 4096 → 4096 < x + f → ((dd = 1 ∧ ∀ y, y < x → ¬ p_DP n q y = k) ∨ (dd = 0 ∧ ∃ y, y < x ∧ p_DP n q y = k)) → (∀ y, y < x → p_DP n q y = k → p_act n q fb (p_DP2 n q k y) = p_act n q fb k) → ∀ (ls : Array Slot), lv_has ls 5 [(0, .ref (ad 0)), (1, .int (nI k)), (2, .int (nI dd)), (3, .int (nI x))] → W p l e (headSpec (ws_ yX1_use cX1_use 5 (some .int)) { frames := 2, cells := 0, slots := 0, locals := 49 }).room s m ([.ref (ad 0), .int (nI k)] : List Value).toArray below meth c s.heap [] 0 0 (MQ below (vp_Si (fun (r : Int32) => r = (o_use n q fb (nI k)).1)) ([.ref (ad 0), .int (nI k)] : List Value).toArray s 0 0 (fun _ => False)) (F0 m 15 ls []) := by
      intro f
      induction f with
      | zero => intros; omega
      | succ f ih =>
        intro x dd h1 h2 h3 h4 ls hl
        refine lv_iload_n hx hb dX1_use_15 rfl (lv_at hl 3 rfl) ?_
        refine lv_sipush (v := (nI 4096)) hx hb dX1_use_16 (by decide) ?_
        refine x_cge (tgt := 64) hx hb (by omega) (by omega) dX1_use_19 (by decide) (fun ci => ?_) (fun ci => ?_)
        · have ex : x = 4096 := by omega
          rw [ex] at h3 h4
          have hdd : dd < 2 := by omega
          refine lv_iload_n hx hb dX1_use_64 rfl (lv_at hl 2 rfl) ?_
          refine x_ieq (tgt := 72) hx hb (by omega) dX1_use_65 (by decide) (fun cz => ?_) (fun cz => ?_)
          · refine lv_iconst (v := (nI 2)) hx hb dX1_use_72 (by decide) ?_
            exact W.iret (v := (nI 2)) hx hb hr (fun t ht hW => ⟨_, rfl, by
                              rcases h3 with ⟨z, h3⟩ | ⟨z, y, hy, h3⟩
                              · omega
                              · rw [o_use_y q fb hn hk, p_use_2 hy h3 h4]; rfl, ht⟩) (fun _ h => by cases h) dX1_use_73
          · refine lv_iconst (v := (nI 1)) hx hb dX1_use_68 (by decide) ?_
            refine lv_goto (tgt := 73) hx hb dX1_use_69 (by decide) ?_
            exact W.iret (v := (nI 1)) hx hb hr (fun t ht hW => ⟨_, rfl, by
                              rcases h3 with ⟨z, h3⟩ | ⟨z, y, hy, h3⟩
                              · rw [o_use_y q fb hn hk, p_use_1 h3]; rfl
                              · omega, ht⟩) (fun _ h => by cases h) dX1_use_73
        · refine lv_aload_n hx hb dX1_use_22 rfl (lv_at hl 0 rfl) ?_
          refine lv_iload_n hx hb dX1_use_23 rfl (lv_at hl 3 rfl) ?_
          refine lv_iconst (v := -1) hx hb dX1_use_24 (by decide) ?_
          refine vp_callSi (W.runV (As := [.int (nI x), .int (-1)]) (rest := []) ⟨hx, hb, hml, hown, hts⟩ (m1_deciding l dC dI ad cI n fb q ra x n (-1) hI ci (Nat.le_refl n) (p_cd_n n).symm) (cwV 2 hts (lw_V q222 q224 qs13 q18 q225) rfl rfl rfl (by decide +kernel) ⟨Nat.le_of_ble_eq_true rfl, Nat.le_of_ble_eq_true rfl⟩) (x_preVR (ci := 1) (q0 := 0) hK hP rfl rfl) rfl rfl hl.1 rfl (lv_room (Nat.le_of_ble_eq_true rfl)) dX1_use_25 ⟨Nat.le_refl _, Nat.le_refl _⟩) (fun r2 h2a => ?_)
          have h2a : r2 = p_cd n (p_DP n q x) := h2a.trans (by rw [show p_DP2 n q n x = p_DP n q x from p_D2_n n q _ _ _])
          have hj : r2 = nI k ↔ p_DP n q x = k := by rw [h2a]; exact p_cd_eq hn hk (p_D_le n q _ _ _)
          refine lv_iload_n hx hb dX1_use_28 rfl (lv_at hl 1 rfl) ?_
          refine lv_icmp_ne (tgt := 58) hx hb dX1_use_29 (by decide) (fun cd => ?_) (fun cd => ?_)
          · refine lv_iinc (v := (nI (x + 1))) (lv' := [(3, .int (nI (x + 1))), (0, .ref (ad 0)), (1, .int (nI k)), (2, .int (nI dd))]) hx hb dX1_use_58 hl (k := 3) rfl (x_inc _) (by decide) rfl (fun ls hl => ?_)
            refine lv_goto (tgt := 15) hx hb dX1_use_61 (by decide) ?_
            exact ih (x + 1) dd (by omega) (by omega) (by
                              rcases h3 with ⟨z, h3⟩ | ⟨z, y, hy, h3⟩
                              · exact Or.inl ⟨z, fun y hy => by
                                  by_cases e : y = x
                                  · rw [e]; exact fun z => cd (hj.mpr z)
                                  · exact h3 y (by omega)⟩
                              · exact Or.inr ⟨z, y, by omega, h3⟩) (fun y hy hz => by
                              by_cases e : y = x
                              · rw [e] at hz; exact absurd (hj.mpr hz) cd
                              · exact h4 y (by omega) hz) _ (lv_sub hl [1, 2, 3, 0] rfl)
          · have cd := hj.mp cd
            refine lv_iconst (v := (nI 0)) hx hb dX1_use_32 (by decide) ?_
            refine lv_istore_n (lv' := [(2, .int (nI 0)), (0, .ref (ad 0)), (1, .int (nI k)), (3, .int (nI x))]) hx hb dX1_use_33 rfl hl (by decide) rfl (fun ls hl => ?_)
            refine lv_aload_n hx hb dX1_use_34 rfl (lv_at hl 1 rfl) ?_
            refine lv_iload_n hx hb dX1_use_35 rfl (lv_at hl 3 rfl) ?_
            refine lv_iload_n hx hb dX1_use_36 rfl (lv_at hl 2 rfl) ?_
            refine vp_callSi (W.runV (As := [.int (nI x), .int (nI k)]) (rest := []) ⟨hx, hb, hml, hown, hts⟩ (m1_deciding l dC dI ad cI n fb q ra x k (nI k) hI ci (by omega) (p_cd_lt hk).symm) (cwV 2 hts (lw_V q222 q224 qs13 q18 q225) rfl rfl rfl (by decide +kernel) ⟨Nat.le_of_ble_eq_true rfl, Nat.le_of_ble_eq_true rfl⟩) (x_preVR (ci := 1) (q0 := 0) hK hP rfl rfl) rfl rfl hl.1 rfl (lv_room (Nat.le_of_ble_eq_true rfl)) dX1_use_37 ⟨Nat.le_refl _, Nat.le_refl _⟩) (fun r3 h5 => ?_)
            refine lv_istore (lv' := [(4, .int r3), (2, .int (nI 0)), (0, .ref (ad 0)), (1, .int (nI k)), (3, .int (nI x))]) hx hb dX1_use_40 hl (by decide) rfl (fun ls hl => ?_)
            refine lv_aload_n hx hb dX1_use_42 rfl (lv_at hl 2 rfl) ?_
            refine lv_iload hx hb dX1_use_43 (lv_at hl 0 rfl) ?_
            refine vp_callSi (W.runV (As := [.int r3]) (rest := []) ⟨hx, hb, hml, hown, hts⟩ (m1_actionOf l dC dI ad cI n fb q ra (p_DP2 n q k x) r3 hI (p_D2_le n q _ _ _ _) h5) (cwV 1 hts (lw_V q235 q237 qs15 q18 q238) rfl rfl rfl (by decide +kernel) ⟨Nat.le_of_ble_eq_true rfl, Nat.le_of_ble_eq_true rfl⟩) (x_preVR (ci := 1) (q0 := 0) hK hP rfl rfl) rfl rfl hl.1 rfl (lv_room (Nat.le_of_ble_eq_true rfl)) dX1_use_45 ⟨Nat.le_refl _, Nat.le_refl _⟩) (fun r4 h6 => ?_)
            subst h6
            refine lv_aload_n hx hb dX1_use_48 rfl (lv_at hl 2 rfl) ?_
            refine lv_iload_n hx hb dX1_use_49 rfl (lv_at hl 3 rfl) ?_
            refine vp_callSi (W.runV (As := [.int (nI k)]) (rest := [.int (nI (p_act n q fb (p_DP2 n q k x)))]) ⟨hx, hb, hml, hown, hts⟩ (m1_actionOf l dC dI ad cI n fb q ra k (nI k) hI (by omega) (p_cd_lt hk).symm) (cwV 1 hts (lw_V q235 q237 qs15 q18 q238) rfl rfl rfl (by decide +kernel) ⟨Nat.le_of_ble_eq_true rfl, Nat.le_of_ble_eq_true rfl⟩) (x_preVR (ci := 1) (q0 := 0) hK hP rfl rfl) rfl rfl hl.1 rfl (lv_room (Nat.le_of_ble_eq_true rfl)) dX1_use_50 ⟨Nat.le_refl _, Nat.le_refl _⟩) (fun r5 h7 => ?_)
            subst h7
            have hal := p_act_lt hI.1 (p_DP2 n q k x)
            have hal2 := p_act_lt hI.1 k
            refine x_ceq (tgt := 58) hx hb (by omega) (by omega) dX1_use_53 (by decide) (fun ca => ?_) (fun ca => ?_)
            · refine lv_iinc (v := (nI (x + 1))) (lv' := [(3, .int (nI (x + 1))), (4, .int r3), (2, .int (nI 0)), (0, .ref (ad 0)), (1, .int (nI k))]) hx hb dX1_use_58 hl (k := 4) rfl (x_inc _) (by decide) rfl (fun ls hl => ?_)
              refine lv_goto (tgt := 15) hx hb dX1_use_61 (by decide) ?_
              exact ih (x + 1) 0 (by omega) (by omega) (Or.inr ⟨rfl, x, by omega, cd⟩) (fun y hy hz => by
                                by_cases e : y = x
                                · rw [e]; exact ca
                                · exact h4 y (by omega) hz) _ (lv_sub hl [3, 4, 2, 0] rfl)
            · refine lv_iconst (v := (nI 0)) hx hb dX1_use_56 (by decide) ?_
              exact W.iret (v := (nI 0)) hx hb hr (fun t ht hW => ⟨_, rfl, by rw [o_use_y q fb hn hk, p_use_0 ci cd ca]; rfl, ht⟩) (fun _ h => by cases h) dX1_use_57
    exact loop 4097 0 1 (by omega) (by omega) (Or.inl ⟨rfl, fun y hy => absurd hy (Nat.not_lt_zero y)⟩) (fun y hy => absurd hy (Nat.not_lt_zero y)) _ (lv_sub hl [2, 3, 1, 0] rfl)
end
section
set_option maxHeartbeats 4000000 in
set_option maxRecDepth 100000 in
/-- witness -/
theorem m1_witness (l : Launch) (dC : Nat → ClassId) (dI : Nat → Nat → Nat) (ad : Nat → Nat) (cI : ClassId) (n fb : Nat) (q : Nat → pV) (ra : Nat → Nat → Int32) (a : Int32) (hI : p_IM n q fb ra) : Met l yX1_witness (ws_ yX1_witness cX1_witness 3 (some .int)) { frames := 2, cells := 0, slots := 0, locals := 49 } (va_Pc [.ref (ad 0), .int a] (RoW (dC, dI) (tyM cI) (WN ad cI (nI n) (nI fb) (ra 1) (ra 2) (ra 3)))) (vp_Si (fun (r : Int32) => r = (o_wit n q fb a).1)) 0 0 (fun _ => False) := by
  refine Met.ofW (cc := cX1_witness) (maxL := 3) (ret := (some .int)) (by decide) rfl ?_
  intro p e s m args below meth c s₁ B hml hv
  obtain ⟨rfl, hP, hK⟩ := hv
  have hx := B.exec
  have hb := B.bytes
  have hr := B.returns
  have hts := atoms_spec (ws := (ws_ yX1_witness cX1_witness 3 (some .int))) B.pre
  have hts : ∀ w ∈ lw_all, w.before _ s = true := fun w h => hts w (List.mem_cons_of_mem _ h)
  have hown : s.vm.findClass RX1 = some m.cls := findClass_of_methodNamed B.named
  have hlocks := B.notSynchronized
  have hP : va_P (dC, dI) vwCl (WN ad cI (nI n) (nI fb) (ra 1) (ra 2) (ra 3)) s.heap := hP
  have hl := lv_entry ([.ref (ad 0), .int a]) (n := 3) (Nat.le_of_ble_eq_true rfl)
  rw [lg_entry_eq]
  generalize (lg_sl ([.ref (ad 0), .int a]) ++ List.replicate (3 - (lg_sl ([.ref (ad 0), .int a])).length) Slot.unset).toArray = ls at hl ⊢
  have hl : lv_has ls 3 [(0, .ref (ad 0)), (1, .int a)] := hl
  have hn := hI.1.1
  have L16 : ∀ (k : Nat), k ≤ n → a = p_cd n k → ∀ (ls : Array Slot), lv_has ls 3 [(0, .ref (ad 0)), (1, .int a)] → W p l e (headSpec (ws_ yX1_witness cX1_witness 3 (some .int)) { frames := 2, cells := 0, slots := 0, locals := 49 }).room s m ([.ref (ad 0), .int a] : List Value).toArray below meth c s.heap [] 0 0 (MQ below (vp_Si (fun (r : Int32) => r = (o_wit n q fb a).1)) ([.ref (ad 0), .int a] : List Value).toArray s 0 0 (fun _ => False)) (F0 m 16 ls []) := by
    intro k hk ha ls hl
    refine lv_iconst (v := (nI 0)) hx hb dX1_witness_16 (by decide) ?_
    refine lv_istore_n (lv' := [(2, .int (nI 0)), (0, .ref (ad 0)), (1, .int a)]) hx hb dX1_witness_17 rfl hl (by decide) rfl (fun ls hl => ?_)
    have loop : ∀ (f : Nat) (x : Nat), x ≤ 4096 → 4096 < x + f → (∀ y, y < x → ¬ p_DP n q y = k) → ∀ (ls : Array Slot), lv_has ls 3 [(0, .ref (ad 0)), (1, .int a), (2, .int (nI x))] → W p l e (headSpec (ws_ yX1_witness cX1_witness 3 (some .int)) { frames := 2, cells := 0, slots := 0, locals := 49 }).room s m ([.ref (ad 0), .int a] : List Value).toArray below meth c s.heap [] 0 0 (MQ below (vp_Si (fun (r : Int32) => r = (o_wit n q fb a).1)) ([.ref (ad 0), .int a] : List Value).toArray s 0 0 (fun _ => False)) (F0 m 18 ls []) := by
      intro f
      induction f with
      | zero => intros; omega
      | succ f ih =>
        intro x h1 h2 h3 ls hl
        refine lv_iload_n hx hb dX1_witness_18 rfl (lv_at hl 2 rfl) ?_
        refine lv_sipush (v := (nI 4096)) hx hb dX1_witness_19 (by decide) ?_
        refine x_cge (tgt := 43) hx hb (by omega) (by omega) dX1_witness_22 (by decide) (fun ci => ?_) (fun ci => ?_)
        · have ex : x = 4096 := by omega
          rw [ex] at h3
          refine lv_iconst (v := -1) hx hb dX1_witness_43 (by decide) ?_
          exact W.iret (v := (-1)) hx hb hr (fun t ht hW => ⟨_, rfl, by rw [ha]; exact o_wit_1 q fb hn hk (p_wit_n h3), ht⟩) (fun _ h => by cases h) dX1_witness_44
        · refine lv_aload_n hx hb dX1_witness_25 rfl (lv_at hl 0 rfl) ?_
          refine lv_iload_n hx hb dX1_witness_26 rfl (lv_at hl 2 rfl) ?_
          refine lv_iconst (v := -1) hx hb dX1_witness_27 (by decide) ?_
          refine vp_callSi (W.runV (As := [.int (nI x), .int (-1)]) (rest := []) ⟨hx, hb, hml, hown, hts⟩ (m1_deciding l dC dI ad cI n fb q ra x n (-1) hI ci (Nat.le_refl n) (p_cd_n n).symm) (cwV 2 hts (lw_V q222 q224 qs13 q18 q225) rfl rfl rfl (by decide +kernel) ⟨Nat.le_of_ble_eq_true rfl, Nat.le_of_ble_eq_true rfl⟩) (x_preVR (ci := 1) (q0 := 0) hK hP rfl rfl) rfl rfl hl.1 rfl (lv_room (Nat.le_of_ble_eq_true rfl)) dX1_witness_28 ⟨Nat.le_refl _, Nat.le_refl _⟩) (fun r2 h2a => ?_)
          have h2a : r2 = p_cd n (p_DP n q x) := h2a.trans (by rw [show p_DP2 n q n x = p_DP n q x from p_D2_n n q _ _ _])
          have hj : r2 = a ↔ p_DP n q x = k := by rw [h2a, ha]; exact p_cd_inj hn (p_D_le n q _ _ _) hk
          refine lv_iload_n hx hb dX1_witness_31 rfl (lv_at hl 1 rfl) ?_
          refine lv_icmp_ne (tgt := 37) hx hb dX1_witness_32 (by decide) (fun cd => ?_) (fun cd => ?_)
          · refine lv_iinc (v := (nI (x + 1))) (lv' := [(2, .int (nI (x + 1))), (0, .ref (ad 0)), (1, .int a)]) hx hb dX1_witness_37 hl (k := 2) rfl (x_inc _) (by decide) rfl (fun ls hl => ?_)
            refine lv_goto (tgt := 18) hx hb dX1_witness_40 (by decide) ?_
            exact ih (x + 1) (by omega) (by omega) (fun y hy => by
                            by_cases e : y = x
                            · rw [e]; exact fun z => cd (hj.mpr z)
                            · exact h3 y (by omega)) _ (lv_sub hl [1, 2, 0] rfl)
          · refine lv_iload_n hx hb dX1_witness_35 rfl (lv_at hl 2 rfl) ?_
            exact W.iret (v := (nI x)) hx hb hr (fun t ht hW => ⟨_, rfl, by rw [ha]; exact o_wit_1 q fb hn hk (p_wit_y ci (hj.mp cd) h3), ht⟩) (fun _ h => by cases h) dX1_witness_36
    exact loop 4097 0 (by omega) (by omega) (fun y hy => absurd hy (Nat.not_lt_zero y)) _ (lv_sub hl [1, 2, 0] rfl)
  refine lv_iload_n hx hb dX1_witness_0 rfl (lv_at hl 1 rfl) ?_
  refine lv_iconst (v := -1) hx hb dX1_witness_1 (by decide) ?_
  refine lv_icmp_eq (tgt := 16) hx hb dX1_witness_2 (by decide) (fun c1 => ?_) (fun c1 => ?_)
  · exact L16 n (Nat.le_refl n) (c1.trans (p_cd_n n).symm) _ (lv_sub hl [0, 1] rfl)
  · refine lv_aload_n hx hb dX1_witness_5 rfl (lv_at hl 0 rfl) ?_
    refine lv_iload_n hx hb dX1_witness_6 rfl (lv_at hl 1 rfl) ?_
    refine vp_callSi (W.runV (As := [.int a]) (rest := []) ⟨hx, hb, hml, hown, hts⟩ (m1_missing l dC dI ad cI n (nI fb) ra a hn) (cwV 1 hts (lw_V q201 q203 qs12 q18 q204) rfl rfl rfl (by decide +kernel) ⟨Nat.le_of_ble_eq_true rfl, Nat.le_of_ble_eq_true rfl⟩) (x_preVR (ci := 1) (q0 := 0) hK hP rfl rfl) rfl rfl hl.1 rfl (lv_room (Nat.le_of_ble_eq_true rfl)) dX1_witness_7 ⟨Nat.le_refl _, Nat.le_refl _⟩) (fun r1 h1 => ?_)
    rcases h1 with ⟨rfl, h1⟩ | ⟨rfl, k, hk, hak⟩
    · refine lv_if_eq (tgt := 16) hx hb dX1_witness_10 (by decide) (fun c9 => absurd c9 (by decide)) (fun _ => ?_)
      refine lv_bipush (v := -2) hx hb dX1_witness_13 (by decide) ?_
      exact W.iret (v := (-2)) hx hb hr (fun t ht hW => ⟨_, rfl, by rw [o_wit_n q fb hn c1 h1], ht⟩) (fun _ h => by cases h) dX1_witness_15
    · refine lv_if_eq (tgt := 16) hx hb dX1_witness_10 (by decide) (fun _ => ?_) (fun c9 => absurd (by decide) c9)
      exact L16 k (by omega) (hak.trans (p_cd_lt hk).symm) _ (lv_sub hl [0, 1] rfl)
end
section
/-! ===== PolicyTable: the raw state, and what an operation's end says ===== -/
abbrev pR : Type := (Nat → Nat → Int32) × Int32 × Int32 × Int32 × (Nat → Int32) × (Nat → Int32) × (Nat → Int32) × (Nat → Int32)
abbrev WTr (ad : Nat → Nat) (cI cB : ClassId) (n fb : Int32) (u : pR) : va_W := WT ad cI cB n fb u.1 u.2.1 u.2.2.1 u.2.2.2.1 u.2.2.2.2.1 u.2.2.2.2.2.1 u.2.2.2.2.2.2.1 u.2.2.2.2.2.2.2
abbrev p_ITr (n : Nat) (q : Nat → pV) (fb : Nat) (u : pR) : Prop := p_IT n q fb u.1 u.2.1 u.2.2.1 u.2.2.2.1 u.2.2.2.2.1 u.2.2.2.2.2.1 u.2.2.2.2.2.2.1 u.2.2.2.2.2.2.2
end
section
set_option maxHeartbeats 4000000 in
set_option maxRecDepth 100000 in
/-- copyRule(i, j): the rule at i also at j -/
theorem m0_copyRule (l : Launch) (dC : Nat → ClassId) (dI : Nat → Nat → Nat) (ad : Nat → Nat) (cI cB : ClassId) (sz : Nat) (n fb : Int32) (ra : Nat → Nat → Int32) (pt co rc : Int32) (cf rf fi se : Nat → Int32) (i j : Nat) (hi : i < 12) (hj : j < 12) : Met l yX0_copyRule (ws_ yX0_copyRule cX0_copyRule 3 none) { frames := 0, cells := 0, slots := 0, locals := 0 } (va_Pc [.ref (ad 0), .int (nI i), .int (nI j)] (PreW (dC, dI) (tyT cI cB) (WA ad cI cB n fb (ra 2) (ra 3) (ra 4) (ra 5) (ra 6) (ra 7) pt co rc cf rf fi se) sz)) (va_Qv (fun (u : Unit) => True) (fun (u : Unit) => PosW (dC, dI) (tyT cI cB) (va_A (WA ad cI cB n fb (ra 2) (ra 3) (ra 4) (ra 5) (ra 6) (ra 7) pt co rc cf rf fi se) sz) (WT ad cI cB n fb (fun f => upd (ra f) j (ra f i)) pt co rc cf rf fi se)) (va_A (WA ad cI cB n fb (ra 2) (ra 3) (ra 4) (ra 5) (ra 6) (ra 7) pt co rc cf rf fi se) sz)) 0 0 (va_A (WA ad cI cB n fb (ra 2) (ra 3) (ra 4) (ra 5) (ra 6) (ra 7) pt co rc cf rf fi se) sz) := by
  refine Met.ofW (cc := cX0_copyRule) (maxL := 3) (ret := none) (by decide) rfl ?_
  intro p e s m args below meth c s₁ B hml hv
  obtain ⟨rfl, hsz, hP, hK, hD0⟩ := hv
  have hx := B.exec
  have hb := B.bytes
  have hr := B.returns
  have hts := atoms_spec (ws := (ws_ yX0_copyRule cX0_copyRule 3 none)) B.pre
  have hts : ∀ w ∈ lw_all, w.before _ s = true := fun w h => hts w (List.mem_cons_of_mem _ h)
  have hown : s.vm.findClass RX0 = some m.cls := findClass_of_methodNamed B.named
  have hlocks := B.notSynchronized
  subst hsz
  have hD := hD0.self (sz := s.heap.size)
  generalize hAe : va_A (WA ad cI cB n fb (ra 2) (ra 3) (ra 4) (ra 5) (ra 6) (ra 7) pt co rc cf rf fi se) s.heap.size = A at hD ⊢
  have hA : ∀ q : Nat, s.heap.size ≤ q → A q := fun q h => by rw [← hAe]; exact Or.inr h
  have hS : va_S A s.heap s.heap [] := va_S.rf
  have hP : va_P (dC, dI) vwCl (WA ad cI cB n fb (ra 2) (ra 3) (ra 4) (ra 5) (ra 6) (ra 7) pt co rc cf rf fi se) s.heap := hP
  have hl := lv_entry ([.ref (ad 0), .int (nI i), .int (nI j)]) (n := 3) (Nat.le_of_ble_eq_true rfl)
  rw [lg_entry_eq]
  generalize (lg_sl ([.ref (ad 0), .int (nI i), .int (nI j)]) ++ List.replicate (3 - (lg_sl ([.ref (ad 0), .int (nI i), .int (nI j)])).length) Slot.unset).toArray = ls at hl ⊢
  have hl : lv_has ls 3 [(0, .ref (ad 0)), (1, .int (nI i)), (2, .int (nI j))] := hl
  refine lv_aload_n hx hb dX0_copyRule_0 rfl (lv_at hl 0 rfl) ?_
  refine x_getT (v := .ref (ad 2)) hx hb hts hown hK hP 2 (by decide) q29 rfl rfl dX0_copyRule_1 ?_
  refine lv_iload_n hx hb dX0_copyRule_4 rfl (lv_at hl 2 rfl) ?_
  refine lv_aload_n hx hb dX0_copyRule_5 rfl (lv_at hl 0 rfl) ?_
  refine x_getT (v := .ref (ad 2)) hx hb hts hown hK hP 2 (by decide) q29 rfl rfl dX0_copyRule_6 ?_
  refine lv_iload_n hx hb dX0_copyRule_9 rfl (lv_at hl 1 rfl) ?_
  refine x_iald (v := (ra 2 i)) hx hb hK hP 1 0 rfl rfl (by omega) (by decide) rfl dX0_copyRule_10 ?_
  refine x_iast hx hb hK hP hD hS 1 0 rfl rfl (by omega) (by decide) dX0_copyRule_11 (fun H locs hP hD hS => ?_)
  have hP : va_P (dC, dI) vwCl (WA ad cI cB n fb (upd (ra 2) j (ra 2 i)) (ra 3) (ra 4) (ra 5) (ra 6) (ra 7) pt co rc cf rf fi se) H := hP
  have hD : va_D A (WA ad cI cB n fb (upd (ra 2) j (ra 2 i)) (ra 3) (ra 4) (ra 5) (ra 6) (ra 7) pt co rc cf rf fi se) := hD
  refine lv_aload_n hx hb dX0_copyRule_12 rfl (lv_at hl 0 rfl) ?_
  refine x_getT (v := .ref (ad 3)) hx hb hts hown hK hP 3 (by decide) q30 rfl rfl dX0_copyRule_13 ?_
  refine lv_iload_n hx hb dX0_copyRule_16 rfl (lv_at hl 2 rfl) ?_
  refine lv_aload_n hx hb dX0_copyRule_17 rfl (lv_at hl 0 rfl) ?_
  refine x_getT (v := .ref (ad 3)) hx hb hts hown hK hP 3 (by decide) q30 rfl rfl dX0_copyRule_18 ?_
  refine lv_iload_n hx hb dX0_copyRule_21 rfl (lv_at hl 1 rfl) ?_
  refine x_iald (v := (ra 3 i)) hx hb hK hP 2 0 rfl rfl (by omega) (by decide) rfl dX0_copyRule_22 ?_
  refine x_iast hx hb hK hP hD hS 2 0 rfl rfl (by omega) (by decide) dX0_copyRule_23 (fun H locs hP hD hS => ?_)
  have hP : va_P (dC, dI) vwCl (WA ad cI cB n fb (upd (ra 2) j (ra 2 i)) (upd (ra 3) j (ra 3 i)) (ra 4) (ra 5) (ra 6) (ra 7) pt co rc cf rf fi se) H := hP
  have hD : va_D A (WA ad cI cB n fb (upd (ra 2) j (ra 2 i)) (upd (ra 3) j (ra 3 i)) (ra 4) (ra 5) (ra 6) (ra 7) pt co rc cf rf fi se) := hD
  refine lv_aload_n hx hb dX0_copyRule_24 rfl (lv_at hl 0 rfl) ?_
  refine x_getT (v := .ref (ad 4)) hx hb hts hown hK hP 4 (by decide) q31 rfl rfl dX0_copyRule_25 ?_
  refine lv_iload_n hx hb dX0_copyRule_28 rfl (lv_at hl 2 rfl) ?_
  refine lv_aload_n hx hb dX0_copyRule_29 rfl (lv_at hl 0 rfl) ?_
  refine x_getT (v := .ref (ad 4)) hx hb hts hown hK hP 4 (by decide) q31 rfl rfl dX0_copyRule_30 ?_
  refine lv_iload_n hx hb dX0_copyRule_33 rfl (lv_at hl 1 rfl) ?_
  refine x_iald (v := (ra 4 i)) hx hb hK hP 3 0 rfl rfl (by omega) (by decide) rfl dX0_copyRule_34 ?_
  refine x_iast hx hb hK hP hD hS 3 0 rfl rfl (by omega) (by decide) dX0_copyRule_35 (fun H locs hP hD hS => ?_)
  have hP : va_P (dC, dI) vwCl (WA ad cI cB n fb (upd (ra 2) j (ra 2 i)) (upd (ra 3) j (ra 3 i)) (upd (ra 4) j (ra 4 i)) (ra 5) (ra 6) (ra 7) pt co rc cf rf fi se) H := hP
  have hD : va_D A (WA ad cI cB n fb (upd (ra 2) j (ra 2 i)) (upd (ra 3) j (ra 3 i)) (upd (ra 4) j (ra 4 i)) (ra 5) (ra 6) (ra 7) pt co rc cf rf fi se) := hD
  refine lv_aload_n hx hb dX0_copyRule_36 rfl (lv_at hl 0 rfl) ?_
  refine x_getT (v := .ref (ad 5)) hx hb hts hown hK hP 5 (by decide) q32 rfl rfl dX0_copyRule_37 ?_
  refine lv_iload_n hx hb dX0_copyRule_40 rfl (lv_at hl 2 rfl) ?_
  refine lv_aload_n hx hb dX0_copyRule_41 rfl (lv_at hl 0 rfl) ?_
  refine x_getT (v := .ref (ad 5)) hx hb hts hown hK hP 5 (by decide) q32 rfl rfl dX0_copyRule_42 ?_
  refine lv_iload_n hx hb dX0_copyRule_45 rfl (lv_at hl 1 rfl) ?_
  refine x_iald (v := (ra 5 i)) hx hb hK hP 4 0 rfl rfl (by omega) (by decide) rfl dX0_copyRule_46 ?_
  refine x_iast hx hb hK hP hD hS 4 0 rfl rfl (by omega) (by decide) dX0_copyRule_47 (fun H locs hP hD hS => ?_)
  have hP : va_P (dC, dI) vwCl (WA ad cI cB n fb (upd (ra 2) j (ra 2 i)) (upd (ra 3) j (ra 3 i)) (upd (ra 4) j (ra 4 i)) (upd (ra 5) j (ra 5 i)) (ra 6) (ra 7) pt co rc cf rf fi se) H := hP
  have hD : va_D A (WA ad cI cB n fb (upd (ra 2) j (ra 2 i)) (upd (ra 3) j (ra 3 i)) (upd (ra 4) j (ra 4 i)) (upd (ra 5) j (ra 5 i)) (ra 6) (ra 7) pt co rc cf rf fi se) := hD
  refine lv_aload_n hx hb dX0_copyRule_48 rfl (lv_at hl 0 rfl) ?_
  refine x_getT (v := .ref (ad 6)) hx hb hts hown hK hP 6 (by decide) q33 rfl rfl dX0_copyRule_49 ?_
  refine lv_iload_n hx hb dX0_copyRule_52 rfl (lv_at hl 2 rfl) ?_
  refine lv_aload_n hx hb dX0_copyRule_53 rfl (lv_at hl 0 rfl) ?_
  refine x_getT (v := .ref (ad 6)) hx hb hts hown hK hP 6 (by decide) q33 rfl rfl dX0_copyRule_54 ?_
  refine lv_iload_n hx hb dX0_copyRule_57 rfl (lv_at hl 1 rfl) ?_
  refine x_iald (v := (ra 6 i)) hx hb hK hP 5 0 rfl rfl (by omega) (by decide) rfl dX0_copyRule_58 ?_
  refine x_iast hx hb hK hP hD hS 5 0 rfl rfl (by omega) (by decide) dX0_copyRule_59 (fun H locs hP hD hS => ?_)
  have hP : va_P (dC, dI) vwCl (WA ad cI cB n fb (upd (ra 2) j (ra 2 i)) (upd (ra 3) j (ra 3 i)) (upd (ra 4) j (ra 4 i)) (upd (ra 5) j (ra 5 i)) (upd (ra 6) j (ra 6 i)) (ra 7) pt co rc cf rf fi se) H := hP
  have hD : va_D A (WA ad cI cB n fb (upd (ra 2) j (ra 2 i)) (upd (ra 3) j (ra 3 i)) (upd (ra 4) j (ra 4 i)) (upd (ra 5) j (ra 5 i)) (upd (ra 6) j (ra 6 i)) (ra 7) pt co rc cf rf fi se) := hD
  refine lv_aload_n hx hb dX0_copyRule_60 rfl (lv_at hl 0 rfl) ?_
  refine x_getT (v := .ref (ad 7)) hx hb hts hown hK hP 7 (by decide) q34 rfl rfl dX0_copyRule_61 ?_
  refine lv_iload_n hx hb dX0_copyRule_64 rfl (lv_at hl 2 rfl) ?_
  refine lv_aload_n hx hb dX0_copyRule_65 rfl (lv_at hl 0 rfl) ?_
  refine x_getT (v := .ref (ad 7)) hx hb hts hown hK hP 7 (by decide) q34 rfl rfl dX0_copyRule_66 ?_
  refine lv_iload_n hx hb dX0_copyRule_69 rfl (lv_at hl 1 rfl) ?_
  refine x_iald (v := (ra 7 i)) hx hb hK hP 6 0 rfl rfl (by omega) (by decide) rfl dX0_copyRule_70 ?_
  refine x_iast hx hb hK hP hD hS 6 0 rfl rfl (by omega) (by decide) dX0_copyRule_71 (fun H locs hP hD hS => ?_)
  have hP : va_P (dC, dI) vwCl (WA ad cI cB n fb (upd (ra 2) j (ra 2 i)) (upd (ra 3) j (ra 3 i)) (upd (ra 4) j (ra 4 i)) (upd (ra 5) j (ra 5 i)) (upd (ra 6) j (ra 6 i)) (upd (ra 7) j (ra 7 i)) pt co rc cf rf fi se) H := hP
  have hD : va_D A (WA ad cI cB n fb (upd (ra 2) j (ra 2 i)) (upd (ra 3) j (ra 3 i)) (upd (ra 4) j (ra 4 i)) (upd (ra 5) j (ra 5 i)) (upd (ra 6) j (ra 6 i)) (upd (ra 7) j (ra 7 i)) pt co rc cf rf fi se) := hD
  exact W.vret hx hb hr (fun t ht hW => ⟨⟨(), rfl, trivial, by rw [ht]; exact hP, va_K.moved hW.alike hK, hD⟩, hS.F ht⟩) hS.2.2 dX0_copyRule_72
set_option maxHeartbeats 4000000 in
set_option maxRecDepth 100000 in
/-- exchange(i, j) -/
theorem m0_exchange (l : Launch) (dC : Nat → ClassId) (dI : Nat → Nat → Nat) (ad : Nat → Nat) (cI cB : ClassId) (sz : Nat) (n fb : Int32) (ra : Nat → Nat → Int32) (pt co rc : Int32) (cf rf fi se : Nat → Int32) (i j : Nat) (hi : i < 12) (hj : j < 12) : Met l yX0_exchange (ws_ yX0_exchange cX0_exchange 9 none) { frames := 1, cells := 0, slots := 0, locals := 22 } (va_Pc [.ref (ad 0), .int (nI i), .int (nI j)] (PreW (dC, dI) (tyT cI cB) (WA ad cI cB n fb (ra 2) (ra 3) (ra 4) (ra 5) (ra 6) (ra 7) pt co rc cf rf fi se) sz)) (va_Qv (fun (u : Unit) => True) (fun (u : Unit) => PosW (dC, dI) (tyT cI cB) (va_A (WA ad cI cB n fb (ra 2) (ra 3) (ra 4) (ra 5) (ra 6) (ra 7) pt co rc cf rf fi se) sz) (WT ad cI cB n fb (fun f => upd (upd (ra f) i (ra f j)) j (ra f i)) pt co rc cf rf fi se)) (va_A (WA ad cI cB n fb (ra 2) (ra 3) (ra 4) (ra 5) (ra 6) (ra 7) pt co rc cf rf fi se) sz)) 0 0 (va_A (WA ad cI cB n fb (ra 2) (ra 3) (ra 4) (ra 5) (ra 6) (ra 7) pt co rc cf rf fi se) sz) := by
  refine Met.ofW (cc := cX0_exchange) (maxL := 9) (ret := none) (by decide) rfl ?_
  intro p e s m args below meth c s₁ B hml hv
  obtain ⟨rfl, hsz, hP, hK, hD0⟩ := hv
  have hx := B.exec
  have hb := B.bytes
  have hr := B.returns
  have hts := atoms_spec (ws := (ws_ yX0_exchange cX0_exchange 9 none)) B.pre
  have hts : ∀ w ∈ lw_all, w.before _ s = true := fun w h => hts w (List.mem_cons_of_mem _ h)
  have hown : s.vm.findClass RX0 = some m.cls := findClass_of_methodNamed B.named
  have hlocks := B.notSynchronized
  subst hsz
  have hD := hD0.self (sz := s.heap.size)
  generalize hAe : va_A (WA ad cI cB n fb (ra 2) (ra 3) (ra 4) (ra 5) (ra 6) (ra 7) pt co rc cf rf fi se) s.heap.size = A at hD ⊢
  have hA : ∀ q : Nat, s.heap.size ≤ q → A q := fun q h => by rw [← hAe]; exact Or.inr h
  have hS : va_S A s.heap s.heap [] := va_S.rf
  have hP : va_P (dC, dI) vwCl (WA ad cI cB n fb (ra 2) (ra 3) (ra 4) (ra 5) (ra 6) (ra 7) pt co rc cf rf fi se) s.heap := hP
  have hl := lv_entry ([.ref (ad 0), .int (nI i), .int (nI j)]) (n := 9) (Nat.le_of_ble_eq_true rfl)
  rw [lg_entry_eq]
  generalize (lg_sl ([.ref (ad 0), .int (nI i), .int (nI j)]) ++ List.replicate (9 - (lg_sl ([.ref (ad 0), .int (nI i), .int (nI j)])).length) Slot.unset).toArray = ls at hl ⊢
  have hl : lv_has ls 9 [(0, .ref (ad 0)), (1, .int (nI i)), (2, .int (nI j))] := hl
  refine lv_aload_n hx hb dX0_exchange_0 rfl (lv_at hl 0 rfl) ?_
  refine x_getT (v := .ref (ad 2)) hx hb hts hown hK hP 2 (by decide) q29 rfl rfl dX0_exchange_1 ?_
  refine lv_iload_n hx hb dX0_exchange_4 rfl (lv_at hl 1 rfl) ?_
  refine x_iald (v := (ra 2 i)) hx hb hK hP 1 0 rfl rfl (by omega) (by decide) rfl dX0_exchange_5 ?_
  refine lv_istore_n (lv' := [(3, .int (ra 2 i)), (0, .ref (ad 0)), (1, .int (nI i)), (2, .int (nI j))]) hx hb dX0_exchange_6 rfl hl (by decide) rfl (fun ls hl => ?_)
  refine lv_aload_n hx hb dX0_exchange_7 rfl (lv_at hl 1 rfl) ?_
  refine x_getT (v := .ref (ad 3)) hx hb hts hown hK hP 3 (by decide) q30 rfl rfl dX0_exchange_8 ?_
  refine lv_iload_n hx hb dX0_exchange_11 rfl (lv_at hl 2 rfl) ?_
  refine x_iald (v := (ra 3 i)) hx hb hK hP 2 0 rfl rfl (by omega) (by decide) rfl dX0_exchange_12 ?_
  refine lv_istore (lv' := [(4, .int (ra 3 i)), (3, .int (ra 2 i)), (0, .ref (ad 0)), (1, .int (nI i)), (2, .int (nI j))]) hx hb dX0_exchange_13 hl (by decide) rfl (fun ls hl => ?_)
  refine lv_aload_n hx hb dX0_exchange_15 rfl (lv_at hl 2 rfl) ?_
  refine x_getT (v := .ref (ad 4)) hx hb hts hown hK hP 4 (by decide) q31 rfl rfl dX0_exchange_16 ?_
  refine lv_iload_n hx hb dX0_exchange_19 rfl (lv_at hl 3 rfl) ?_
  refine x_iald (v := (ra 4 i)) hx hb hK hP 3 0 rfl rfl (by omega) (by decide) rfl dX0_exchange_20 ?_
  refine lv_istore (lv' := [(5, .int (ra 4 i)), (4, .int (ra 3 i)), (3, .int (ra 2 i)), (0, .ref (ad 0)), (1, .int (nI i)), (2, .int (nI j))]) hx hb dX0_exchange_21 hl (by decide) rfl (fun ls hl => ?_)
  refine lv_aload_n hx hb dX0_exchange_23 rfl (lv_at hl 3 rfl) ?_
  refine x_getT (v := .ref (ad 5)) hx hb hts hown hK hP 5 (by decide) q32 rfl rfl dX0_exchange_24 ?_
  refine lv_iload_n hx hb dX0_exchange_27 rfl (lv_at hl 4 rfl) ?_
  refine x_iald (v := (ra 5 i)) hx hb hK hP 4 0 rfl rfl (by omega) (by decide) rfl dX0_exchange_28 ?_
  refine lv_istore (lv' := [(6, .int (ra 5 i)), (5, .int (ra 4 i)), (4, .int (ra 3 i)), (3, .int (ra 2 i)), (0, .ref (ad 0)), (1, .int (nI i)), (2, .int (nI j))]) hx hb dX0_exchange_29 hl (by decide) rfl (fun ls hl => ?_)
  refine lv_aload_n hx hb dX0_exchange_31 rfl (lv_at hl 4 rfl) ?_
  refine x_getT (v := .ref (ad 6)) hx hb hts hown hK hP 6 (by decide) q33 rfl rfl dX0_exchange_32 ?_
  refine lv_iload_n hx hb dX0_exchange_35 rfl (lv_at hl 5 rfl) ?_
  refine x_iald (v := (ra 6 i)) hx hb hK hP 5 0 rfl rfl (by omega) (by decide) rfl dX0_exchange_36 ?_
  refine lv_istore (lv' := [(7, .int (ra 6 i)), (6, .int (ra 5 i)), (5, .int (ra 4 i)), (4, .int (ra 3 i)), (3, .int (ra 2 i)), (0, .ref (ad 0)), (1, .int (nI i)), (2, .int (nI j))]) hx hb dX0_exchange_37 hl (by decide) rfl (fun ls hl => ?_)
  refine lv_aload_n hx hb dX0_exchange_39 rfl (lv_at hl 5 rfl) ?_
  refine x_getT (v := .ref (ad 7)) hx hb hts hown hK hP 7 (by decide) q34 rfl rfl dX0_exchange_40 ?_
  refine lv_iload_n hx hb dX0_exchange_43 rfl (lv_at hl 6 rfl) ?_
  refine x_iald (v := (ra 7 i)) hx hb hK hP 6 0 rfl rfl (by omega) (by decide) rfl dX0_exchange_44 ?_
  refine lv_istore (lv' := [(8, .int (ra 7 i)), (7, .int (ra 6 i)), (6, .int (ra 5 i)), (5, .int (ra 4 i)), (4, .int (ra 3 i)), (3, .int (ra 2 i)), (0, .ref (ad 0)), (1, .int (nI i)), (2, .int (nI j))]) hx hb dX0_exchange_45 hl (by decide) rfl (fun ls hl => ?_)
  refine lv_aload_n hx hb dX0_exchange_47 rfl (lv_at hl 6 rfl) ?_
  refine lv_iload_n hx hb dX0_exchange_48 rfl (lv_at hl 8 rfl) ?_
  refine lv_iload_n hx hb dX0_exchange_49 rfl (lv_at hl 7 rfl) ?_
  refine x_callv (va_runV (As := [.int (nI j), .int (nI i)]) (rest := []) ⟨hx, hb, hml, hown, hts⟩ (m0_copyRule l dC dI ad cI cB s.heap.size n fb ra pt co rc cf rf fi se j i hj hi) (cwV 2 hts (lw_V q79 q81 qs0 q17 q82) rfl rfl rfl (by decide +kernel) ⟨Nat.le_of_ble_eq_true rfl, Nat.le_of_ble_eq_true rfl⟩) (x_preV (ci := 0) (q0 := 0) hK hP hD rfl rfl) rfl rfl hl.1 rfl (lv_room (Nat.le_of_ble_eq_true rfl)) dX0_exchange_50 ⟨Nat.le_refl _, Nat.le_refl _⟩) hD hS hA (fun _ H locs _ hP hD hS => ?_)
  have hP : va_P (dC, dI) vwCl (WA ad cI cB n fb (upd (ra 2) i (ra 2 j)) (upd (ra 3) i (ra 3 j)) (upd (ra 4) i (ra 4 j)) (upd (ra 5) i (ra 5 j)) (upd (ra 6) i (ra 6 j)) (upd (ra 7) i (ra 7 j)) pt co rc cf rf fi se) H := hP
  have hD : va_D A (WA ad cI cB n fb (upd (ra 2) i (ra 2 j)) (upd (ra 3) i (ra 3 j)) (upd (ra 4) i (ra 4 j)) (upd (ra 5) i (ra 5 j)) (upd (ra 6) i (ra 6 j)) (upd (ra 7) i (ra 7 j)) pt co rc cf rf fi se) := hD
  refine lv_aload_n hx hb dX0_exchange_53 rfl (lv_at hl 6 rfl) ?_
  refine x_getT (v := .ref (ad 2)) hx hb hts hown hK hP 2 (by decide) q29 rfl rfl dX0_exchange_54 ?_
  refine lv_iload_n hx hb dX0_exchange_57 rfl (lv_at hl 8 rfl) ?_
  refine lv_iload_n hx hb dX0_exchange_58 rfl (lv_at hl 5 rfl) ?_
  refine x_iast hx hb hK hP hD hS 1 0 rfl rfl (by omega) (by decide) dX0_exchange_59 (fun H locs hP hD hS => ?_)
  have hP : va_P (dC, dI) vwCl (WA ad cI cB n fb (upd (upd (ra 2) i (ra 2 j)) j (ra 2 i)) (upd (ra 3) i (ra 3 j)) (upd (ra 4) i (ra 4 j)) (upd (ra 5) i (ra 5 j)) (upd (ra 6) i (ra 6 j)) (upd (ra 7) i (ra 7 j)) pt co rc cf rf fi se) H := hP
  have hD : va_D A (WA ad cI cB n fb (upd (upd (ra 2) i (ra 2 j)) j (ra 2 i)) (upd (ra 3) i (ra 3 j)) (upd (ra 4) i (ra 4 j)) (upd (ra 5) i (ra 5 j)) (upd (ra 6) i (ra 6 j)) (upd (ra 7) i (ra 7 j)) pt co rc cf rf fi se) := hD
  refine lv_aload_n hx hb dX0_exchange_60 rfl (lv_at hl 6 rfl) ?_
  refine x_getT (v := .ref (ad 3)) hx hb hts hown hK hP 3 (by decide) q30 rfl rfl dX0_exchange_61 ?_
  refine lv_iload_n hx hb dX0_exchange_64 rfl (lv_at hl 8 rfl) ?_
  refine lv_iload hx hb dX0_exchange_65 (lv_at hl 4 rfl) ?_
  refine x_iast hx hb hK hP hD hS 2 0 rfl rfl (by omega) (by decide) dX0_exchange_67 (fun H locs hP hD hS => ?_)
  have hP : va_P (dC, dI) vwCl (WA ad cI cB n fb (upd (upd (ra 2) i (ra 2 j)) j (ra 2 i)) (upd (upd (ra 3) i (ra 3 j)) j (ra 3 i)) (upd (ra 4) i (ra 4 j)) (upd (ra 5) i (ra 5 j)) (upd (ra 6) i (ra 6 j)) (upd (ra 7) i (ra 7 j)) pt co rc cf rf fi se) H := hP
  have hD : va_D A (WA ad cI cB n fb (upd (upd (ra 2) i (ra 2 j)) j (ra 2 i)) (upd (upd (ra 3) i (ra 3 j)) j (ra 3 i)) (upd (ra 4) i (ra 4 j)) (upd (ra 5) i (ra 5 j)) (upd (ra 6) i (ra 6 j)) (upd (ra 7) i (ra 7 j)) pt co rc cf rf fi se) := hD
  refine lv_aload_n hx hb dX0_exchange_68 rfl (lv_at hl 6 rfl) ?_
  refine x_getT (v := .ref (ad 4)) hx hb hts hown hK hP 4 (by decide) q31 rfl rfl dX0_exchange_69 ?_
  refine lv_iload_n hx hb dX0_exchange_72 rfl (lv_at hl 8 rfl) ?_
  refine lv_iload hx hb dX0_exchange_73 (lv_at hl 3 rfl) ?_
  refine x_iast hx hb hK hP hD hS 3 0 rfl rfl (by omega) (by decide) dX0_exchange_75 (fun H locs hP hD hS => ?_)
  have hP : va_P (dC, dI) vwCl (WA ad cI cB n fb (upd (upd (ra 2) i (ra 2 j)) j (ra 2 i)) (upd (upd (ra 3) i (ra 3 j)) j (ra 3 i)) (upd (upd (ra 4) i (ra 4 j)) j (ra 4 i)) (upd (ra 5) i (ra 5 j)) (upd (ra 6) i (ra 6 j)) (upd (ra 7) i (ra 7 j)) pt co rc cf rf fi se) H := hP
  have hD : va_D A (WA ad cI cB n fb (upd (upd (ra 2) i (ra 2 j)) j (ra 2 i)) (upd (upd (ra 3) i (ra 3 j)) j (ra 3 i)) (upd (upd (ra 4) i (ra 4 j)) j (ra 4 i)) (upd (ra 5) i (ra 5 j)) (upd (ra 6) i (ra 6 j)) (upd (ra 7) i (ra 7 j)) pt co rc cf rf fi se) := hD
  refine lv_aload_n hx hb dX0_exchange_76 rfl (lv_at hl 6 rfl) ?_
  refine x_getT (v := .ref (ad 5)) hx hb hts hown hK hP 5 (by decide) q32 rfl rfl dX0_exchange_77 ?_
  refine lv_iload_n hx hb dX0_exchange_80 rfl (lv_at hl 8 rfl) ?_
  refine lv_iload hx hb dX0_exchange_81 (lv_at hl 2 rfl) ?_
  refine x_iast hx hb hK hP hD hS 4 0 rfl rfl (by omega) (by decide) dX0_exchange_83 (fun H locs hP hD hS => ?_)
  have hP : va_P (dC, dI) vwCl (WA ad cI cB n fb (upd (upd (ra 2) i (ra 2 j)) j (ra 2 i)) (upd (upd (ra 3) i (ra 3 j)) j (ra 3 i)) (upd (upd (ra 4) i (ra 4 j)) j (ra 4 i)) (upd (upd (ra 5) i (ra 5 j)) j (ra 5 i)) (upd (ra 6) i (ra 6 j)) (upd (ra 7) i (ra 7 j)) pt co rc cf rf fi se) H := hP
  have hD : va_D A (WA ad cI cB n fb (upd (upd (ra 2) i (ra 2 j)) j (ra 2 i)) (upd (upd (ra 3) i (ra 3 j)) j (ra 3 i)) (upd (upd (ra 4) i (ra 4 j)) j (ra 4 i)) (upd (upd (ra 5) i (ra 5 j)) j (ra 5 i)) (upd (ra 6) i (ra 6 j)) (upd (ra 7) i (ra 7 j)) pt co rc cf rf fi se) := hD
  refine lv_aload_n hx hb dX0_exchange_84 rfl (lv_at hl 6 rfl) ?_
  refine x_getT (v := .ref (ad 6)) hx hb hts hown hK hP 6 (by decide) q33 rfl rfl dX0_exchange_85 ?_
  refine lv_iload_n hx hb dX0_exchange_88 rfl (lv_at hl 8 rfl) ?_
  refine lv_iload hx hb dX0_exchange_89 (lv_at hl 1 rfl) ?_
  refine x_iast hx hb hK hP hD hS 5 0 rfl rfl (by omega) (by decide) dX0_exchange_91 (fun H locs hP hD hS => ?_)
  have hP : va_P (dC, dI) vwCl (WA ad cI cB n fb (upd (upd (ra 2) i (ra 2 j)) j (ra 2 i)) (upd (upd (ra 3) i (ra 3 j)) j (ra 3 i)) (upd (upd (ra 4) i (ra 4 j)) j (ra 4 i)) (upd (upd (ra 5) i (ra 5 j)) j (ra 5 i)) (upd (upd (ra 6) i (ra 6 j)) j (ra 6 i)) (upd (ra 7) i (ra 7 j)) pt co rc cf rf fi se) H := hP
  have hD : va_D A (WA ad cI cB n fb (upd (upd (ra 2) i (ra 2 j)) j (ra 2 i)) (upd (upd (ra 3) i (ra 3 j)) j (ra 3 i)) (upd (upd (ra 4) i (ra 4 j)) j (ra 4 i)) (upd (upd (ra 5) i (ra 5 j)) j (ra 5 i)) (upd (upd (ra 6) i (ra 6 j)) j (ra 6 i)) (upd (ra 7) i (ra 7 j)) pt co rc cf rf fi se) := hD
  refine lv_aload_n hx hb dX0_exchange_92 rfl (lv_at hl 6 rfl) ?_
  refine x_getT (v := .ref (ad 7)) hx hb hts hown hK hP 7 (by decide) q34 rfl rfl dX0_exchange_93 ?_
  refine lv_iload_n hx hb dX0_exchange_96 rfl (lv_at hl 8 rfl) ?_
  refine lv_iload hx hb dX0_exchange_97 (lv_at hl 0 rfl) ?_
  refine x_iast hx hb hK hP hD hS 6 0 rfl rfl (by omega) (by decide) dX0_exchange_99 (fun H locs hP hD hS => ?_)
  have hP : va_P (dC, dI) vwCl (WA ad cI cB n fb (upd (upd (ra 2) i (ra 2 j)) j (ra 2 i)) (upd (upd (ra 3) i (ra 3 j)) j (ra 3 i)) (upd (upd (ra 4) i (ra 4 j)) j (ra 4 i)) (upd (upd (ra 5) i (ra 5 j)) j (ra 5 i)) (upd (upd (ra 6) i (ra 6 j)) j (ra 6 i)) (upd (upd (ra 7) i (ra 7 j)) j (ra 7 i)) pt co rc cf rf fi se) H := hP
  have hD : va_D A (WA ad cI cB n fb (upd (upd (ra 2) i (ra 2 j)) j (ra 2 i)) (upd (upd (ra 3) i (ra 3 j)) j (ra 3 i)) (upd (upd (ra 4) i (ra 4 j)) j (ra 4 i)) (upd (upd (ra 5) i (ra 5 j)) j (ra 5 i)) (upd (upd (ra 6) i (ra 6 j)) j (ra 6 i)) (upd (upd (ra 7) i (ra 7 j)) j (ra 7 i)) pt co rc cf rf fi se) := hD
  exact W.vret hx hb hr (fun t ht hW => ⟨⟨(), rfl, trivial, by rw [ht]; exact hP, va_K.moved hW.alike hK, hD⟩, hS.F ht⟩) hS.2.2 dX0_exchange_100
set_option maxHeartbeats 4000000 in
set_option maxRecDepth 100000 in
/-- isRule(a) -/
theorem m0_isRule (l : Launch) (dC : Nat → ClassId) (dI : Nat → Nat → Nat) (ad : Nat → Nat) (cI cB : ClassId) (n : Nat) (fb : Int32) (ra : Nat → Nat → Int32) (pt co rc : Int32) (cf rf fi se : Nat → Int32) (a : Int32) (hn : n ≤ 12) : Met l yX0_isRule (ws_ yX0_isRule cX0_isRule 2 (some .boolean)) { frames := 0, cells := 0, slots := 0, locals := 0 } (va_Pc [.ref (ad 0), .int a] (RoW (dC, dI) (tyT cI cB) (WA ad cI cB (nI n) fb (ra 2) (ra 3) (ra 4) (ra 5) (ra 6) (ra 7) pt co rc cf rf fi se))) (vp_Si (fun (r : Int32) => (r = 1 ∧ ∃ k, k < n ∧ a = nI k) ∨ (r = 0 ∧ ∀ k, k < n → a ≠ nI k))) 0 0 (fun _ => False) := by
  refine Met.ofW (cc := cX0_isRule) (maxL := 2) (ret := (some .boolean)) (by decide) rfl ?_
  intro p e s m args below meth c s₁ B hml hv
  obtain ⟨rfl, hP, hK⟩ := hv
  have hx := B.exec
  have hb := B.bytes
  have hr := B.returns
  have hts := atoms_spec (ws := (ws_ yX0_isRule cX0_isRule 2 (some .boolean))) B.pre
  have hts : ∀ w ∈ lw_all, w.before _ s = true := fun w h => hts w (List.mem_cons_of_mem _ h)
  have hown : s.vm.findClass RX0 = some m.cls := findClass_of_methodNamed B.named
  have hlocks := B.notSynchronized
  have hP : va_P (dC, dI) vwCl (WA ad cI cB (nI n) fb (ra 2) (ra 3) (ra 4) (ra 5) (ra 6) (ra 7) pt co rc cf rf fi se) s.heap := hP
  have hl := lv_entry ([.ref (ad 0), .int a]) (n := 2) (Nat.le_of_ble_eq_true rfl)
  rw [lg_entry_eq]
  generalize (lg_sl ([.ref (ad 0), .int a]) ++ List.replicate (2 - (lg_sl ([.ref (ad 0), .int a])).length) Slot.unset).toArray = ls at hl ⊢
  have hl : lv_has ls 2 [(0, .ref (ad 0)), (1, .int a)] := hl
  refine lv_iload_n hx hb dX0_isRule_0 rfl (lv_at hl 1 rfl) ?_
  refine lv_if_lt (tgt := 16) hx hb dX0_isRule_1 (by decide) (fun c1 => ?_) (fun c1 => ?_)
  · refine lv_iconst (v := (nI 0)) hx hb dX0_isRule_16 (by decide) ?_
    exact W.zret (v := (nI 0)) hx hb hr rfl (fun t ht hW => ⟨_, rfl, Or.inr ⟨rfl, fun k hk e => by rw [e] at c1; exact nI_pos (by omega) c1⟩, ht⟩) (fun _ h => by cases h) dX0_isRule_17
  · obtain ⟨k, hk, rfl⟩ := nI_of c1
    refine lv_iload_n hx hb dX0_isRule_4 rfl (lv_at hl 1 rfl) ?_
    refine lv_aload_n hx hb dX0_isRule_5 rfl (lv_at hl 0 rfl) ?_
    refine x_getT (v := .int (nI n)) hx hb hts hown hK hP 0 (by decide) q27 rfl rfl dX0_isRule_6 ?_
    refine x_cge (tgt := 16) hx hb (by omega) (by omega) dX0_isRule_9 (by decide) (fun c2 => ?_) (fun c2 => ?_)
    · refine lv_iconst (v := (nI 0)) hx hb dX0_isRule_16 (by decide) ?_
      exact W.zret (v := (nI 0)) hx hb hr rfl (fun t ht hW => ⟨_, rfl, Or.inr ⟨rfl, fun k2 hk2 e => by have := (nI_eq hk (by omega)).mp e; omega⟩, ht⟩) (fun _ h => by cases h) dX0_isRule_17
    · refine lv_iconst (v := (nI 1)) hx hb dX0_isRule_12 (by decide) ?_
      refine lv_goto (tgt := 17) hx hb dX0_isRule_13 (by decide) ?_
      exact W.zret (v := (nI 1)) hx hb hr rfl (fun t ht hW => ⟨_, rfl, Or.inl ⟨rfl, k, c2, rfl⟩, ht⟩) (fun _ h => by cases h) dX0_isRule_17
set_option maxHeartbeats 4000000 in
set_option maxRecDepth 100000 in
/-- isPacket(a, b, c) -/
theorem m0_isPacket (l : Launch) (a b c0 : Int32) : Met l yX0_isPacket (ws_ yX0_isPacket cX0_isPacket 3 (some .boolean)) { frames := 0, cells := 0, slots := 0, locals := 0 } (va_Pc [.int a, .int b, .int c0] (fun _ => True)) (vp_Si (fun (r : Int32) => (r = 1 ∧ ∃ x y z : Nat, x < 32 ∧ y < 32 ∧ z < 4 ∧ a = nI x ∧ b = nI y ∧ c0 = nI z) ∨ (r = 0 ∧ p_noP a b c0))) 0 0 (fun _ => False) := by
  refine Met.ofW (cc := cX0_isPacket) (maxL := 3) (ret := (some .boolean)) (by decide) rfl ?_
  intro p e s m args below meth c s₁ B hml hv
  obtain ⟨rfl, -⟩ := hv
  have hx := B.exec
  have hb := B.bytes
  have hr := B.returns
  have hts := atoms_spec (ws := (ws_ yX0_isPacket cX0_isPacket 3 (some .boolean))) B.pre
  have hts : ∀ w ∈ lw_all, w.before _ s = true := fun w h => hts w (List.mem_cons_of_mem _ h)
  have hown : s.vm.findClass RX0 = some m.cls := findClass_of_methodNamed B.named
  have hlocks := B.notSynchronized
  have hl := lv_entry ([.int a, .int b, .int c0]) (n := 3) (Nat.le_of_ble_eq_true rfl)
  rw [lg_entry_eq]
  generalize (lg_sl ([.int a, .int b, .int c0]) ++ List.replicate (3 - (lg_sl ([.int a, .int b, .int c0])).length) Slot.unset).toArray = ls at hl ⊢
  have hl : lv_has ls 3 [(0, .int a), (1, .int b), (2, .int c0)] := hl
  refine lv_iload_n hx hb dX0_isPacket_0 rfl (lv_at hl 0 rfl) ?_
  refine lv_if_lt (tgt := 33) hx hb dX0_isPacket_1 (by decide) (fun c1 => ?_) (fun c1 => ?_)
  · refine lv_iconst (v := (nI 0)) hx hb dX0_isPacket_33 (by decide) ?_
    exact W.zret (v := (nI 0)) hx hb hr rfl (fun t ht hW => ⟨_, rfl, Or.inr ⟨rfl, fun x y z hx1 hy1 hz1 e => by obtain ⟨e1, e2, e3⟩ := e; rw [e1] at c1; exact nI_pos (by omega) c1⟩, ht⟩) (fun _ h => by cases h) dX0_isPacket_34
  · obtain ⟨x0, gx, rfl⟩ := nI_of c1
    refine lv_iload_n hx hb dX0_isPacket_4 rfl (lv_at hl 0 rfl) ?_
    refine lv_bipush (v := (nI 31)) hx hb dX0_isPacket_5 (by decide) ?_
    refine x_cgt (tgt := 33) hx hb (by omega) (by omega) dX0_isPacket_7 (by decide) (fun cx => ?_) (fun cx => ?_)
    · refine lv_iconst (v := (nI 0)) hx hb dX0_isPacket_33 (by decide) ?_
      exact W.zret (v := (nI 0)) hx hb hr rfl (fun t ht hW => ⟨_, rfl, Or.inr ⟨rfl, fun x y z hx1 hy1 hz1 e => by obtain ⟨e1, e2, e3⟩ := e; have := (nI_eq gx (by omega)).mp e1; omega⟩, ht⟩) (fun _ h => by cases h) dX0_isPacket_34
    · refine lv_iload_n hx hb dX0_isPacket_10 rfl (lv_at hl 1 rfl) ?_
      refine lv_if_lt (tgt := 33) hx hb dX0_isPacket_11 (by decide) (fun c1 => ?_) (fun c1 => ?_)
      · refine lv_iconst (v := (nI 0)) hx hb dX0_isPacket_33 (by decide) ?_
        exact W.zret (v := (nI 0)) hx hb hr rfl (fun t ht hW => ⟨_, rfl, Or.inr ⟨rfl, fun x y z hx1 hy1 hz1 e => by obtain ⟨e1, e2, e3⟩ := e; rw [e2] at c1; exact nI_pos (by omega) c1⟩, ht⟩) (fun _ h => by cases h) dX0_isPacket_34
      · obtain ⟨y0, gy, rfl⟩ := nI_of c1
        refine lv_iload_n hx hb dX0_isPacket_14 rfl (lv_at hl 1 rfl) ?_
        refine lv_bipush (v := (nI 31)) hx hb dX0_isPacket_15 (by decide) ?_
        refine x_cgt (tgt := 33) hx hb (by omega) (by omega) dX0_isPacket_17 (by decide) (fun cy => ?_) (fun cy => ?_)
        · refine lv_iconst (v := (nI 0)) hx hb dX0_isPacket_33 (by decide) ?_
          exact W.zret (v := (nI 0)) hx hb hr rfl (fun t ht hW => ⟨_, rfl, Or.inr ⟨rfl, fun x y z hx1 hy1 hz1 e => by obtain ⟨e1, e2, e3⟩ := e; have := (nI_eq gy (by omega)).mp e2; omega⟩, ht⟩) (fun _ h => by cases h) dX0_isPacket_34
        · refine lv_iload_n hx hb dX0_isPacket_20 rfl (lv_at hl 2 rfl) ?_
          refine lv_if_lt (tgt := 33) hx hb dX0_isPacket_21 (by decide) (fun c1 => ?_) (fun c1 => ?_)
          · refine lv_iconst (v := (nI 0)) hx hb dX0_isPacket_33 (by decide) ?_
            exact W.zret (v := (nI 0)) hx hb hr rfl (fun t ht hW => ⟨_, rfl, Or.inr ⟨rfl, fun x y z hx1 hy1 hz1 e => by obtain ⟨e1, e2, e3⟩ := e; rw [e3] at c1; exact nI_pos (by omega) c1⟩, ht⟩) (fun _ h => by cases h) dX0_isPacket_34
          · obtain ⟨z0, gz, rfl⟩ := nI_of c1
            refine lv_iload_n hx hb dX0_isPacket_24 rfl (lv_at hl 2 rfl) ?_
            refine lv_iconst (v := (nI 3)) hx hb dX0_isPacket_25 (by decide) ?_
            refine x_cgt (tgt := 33) hx hb (by omega) (by omega) dX0_isPacket_26 (by decide) (fun cz => ?_) (fun cz => ?_)
            · refine lv_iconst (v := (nI 0)) hx hb dX0_isPacket_33 (by decide) ?_
              exact W.zret (v := (nI 0)) hx hb hr rfl (fun t ht hW => ⟨_, rfl, Or.inr ⟨rfl, fun x y z hx1 hy1 hz1 e => by obtain ⟨e1, e2, e3⟩ := e; have := (nI_eq gz (by omega)).mp e3; omega⟩, ht⟩) (fun _ h => by cases h) dX0_isPacket_34
            · refine lv_iconst (v := (nI 1)) hx hb dX0_isPacket_29 (by decide) ?_
              refine lv_goto (tgt := 34) hx hb dX0_isPacket_30 (by decide) ?_
              exact W.zret (v := (nI 1)) hx hb hr rfl (fun t ht hW => ⟨_, rfl, Or.inl ⟨rfl, x0, y0, z0, by omega, by omega, by omega, rfl, rfl, rfl⟩, ht⟩) (fun _ h => by cases h) dX0_isPacket_34
end
section
set_option maxHeartbeats 4000000 in
set_option maxRecDepth 100000 in
/-- insert -/
theorem m0_insert (l : Launch) (dC : Nat → ClassId) (dI : Nat → Nat → Nat) (ad : Nat → Nat) (cI cB : ClassId) (sz : Nat) (n fb : Nat) (q : Nat → pV) (ra : Nat → Nat → Int32) (pt co rc : Int32) (cf rf fi se : Nat → Int32) (a b c0 d : Int32) (hI : p_IT n q fb ra pt co rc cf rf fi se) : Met l yX0_insert (ws_ yX0_insert cX0_insert 7 (some .int)) { frames := 1, cells := 0, slots := 0, locals := 22 } (va_Pc [.ref (ad 0), .int a, .int b, .int c0, .int d] (PreW (dC, dI) (tyT cI cB) (WA ad cI cB (nI n) (nI fb) (ra 2) (ra 3) (ra 4) (ra 5) (ra 6) (ra 7) pt co rc cf rf fi se) sz)) (va_Qi (fun (r : Int32) (u : pS × pR) => (r, u.1) = o_ins n q fb a b c0 d ∧ p_ITr u.1.1 u.1.2.1 u.1.2.2 u.2) (fun (u : pS × pR) => PosW (dC, dI) (tyT cI cB) (va_A (WA ad cI cB (nI n) (nI fb) (ra 2) (ra 3) (ra 4) (ra 5) (ra 6) (ra 7) pt co rc cf rf fi se) sz) (WTr ad cI cB (nI u.1.1) (nI u.1.2.2) u.2)) (va_A (WA ad cI cB (nI n) (nI fb) (ra 2) (ra 3) (ra 4) (ra 5) (ra 6) (ra 7) pt co rc cf rf fi se) sz)) 0 0 (va_A (WA ad cI cB (nI n) (nI fb) (ra 2) (ra 3) (ra 4) (ra 5) (ra 6) (ra 7) pt co rc cf rf fi se) sz) := by
  refine Met.ofW (cc := cX0_insert) (maxL := 7) (ret := (some .int)) (by decide) rfl ?_
  intro p e s m args below meth c s₁ B hml hv
  obtain ⟨rfl, hsz, hP, hK, hD0⟩ := hv
  have hx := B.exec
  have hb := B.bytes
  have hr := B.returns
  have hts := atoms_spec (ws := (ws_ yX0_insert cX0_insert 7 (some .int))) B.pre
  have hts : ∀ w ∈ lw_all, w.before _ s = true := fun w h => hts w (List.mem_cons_of_mem _ h)
  have hown : s.vm.findClass RX0 = some m.cls := findClass_of_methodNamed B.named
  have hlocks := B.notSynchronized
  subst hsz
  have hD := hD0.self (sz := s.heap.size)
  generalize hAe : va_A (WA ad cI cB (nI n) (nI fb) (ra 2) (ra 3) (ra 4) (ra 5) (ra 6) (ra 7) pt co rc cf rf fi se) s.heap.size = A at hD ⊢
  have hA : ∀ q : Nat, s.heap.size ≤ q → A q := fun q h => by rw [← hAe]; exact Or.inr h
  have hS : va_S A s.heap s.heap [] := va_S.rf
  have hP : va_P (dC, dI) vwCl (WA ad cI cB (nI n) (nI fb) (ra 2) (ra 3) (ra 4) (ra 5) (ra 6) (ra 7) pt co rc cf rf fi se) s.heap := hP
  have hl := lv_entry ([.ref (ad 0), .int a, .int b, .int c0, .int d]) (n := 7) (Nat.le_of_ble_eq_true rfl)
  rw [lg_entry_eq]
  generalize (lg_sl ([.ref (ad 0), .int a, .int b, .int c0, .int d]) ++ List.replicate (7 - (lg_sl ([.ref (ad 0), .int a, .int b, .int c0, .int d])).length) Slot.unset).toArray = ls at hl ⊢
  have hl : lv_has ls 7 [(0, .ref (ad 0)), (1, .int a), (2, .int b), (3, .int c0), (4, .int d)] := hl
  have hn := hI.1.1
  have L67 : o_ins n q fb a b c0 d = (-1, (n, q, fb)) → ∀ (H : Heap) (locs : List Loc) (ls : Array Slot), va_P (dC, dI) vwCl (WA ad cI cB (nI n) (nI fb) (ra 2) (ra 3) (ra 4) (ra 5) (ra 6) (ra 7) pt co rc cf rf fi se) H → va_D A (WA ad cI cB (nI n) (nI fb) (ra 2) (ra 3) (ra 4) (ra 5) (ra 6) (ra 7) pt co rc cf rf fi se) → va_S A s.heap H locs → lv_has ls 7 [(0, .ref (ad 0))] → W p l e (headSpec (ws_ yX0_insert cX0_insert 7 (some .int)) { frames := 1, cells := 0, slots := 0, locals := 22 }).room s m ([.ref (ad 0), .int a, .int b, .int c0, .int d] : List Value).toArray below meth c H locs 0 0 (MQ below (va_Qi (fun (r : Int32) (u : pS × pR) => (r, u.1) = o_ins n q fb a b c0 d ∧ p_ITr u.1.1 u.1.2.1 u.1.2.2 u.2) (fun (u : pS × pR) => PosW (dC, dI) (tyT cI cB) A (WTr ad cI cB (nI u.1.1) (nI u.1.2.2) u.2)) A) ([.ref (ad 0), .int a, .int b, .int c0, .int d] : List Value).toArray s 0 0 A) (F0 m 67 ls []) := by
    intro hbad H locs ls hP hD hS hl
    refine lv_iconst (v := -1) hx hb dX0_insert_67 (by decide) ?_
    exact W.iret (v := (-1)) hx hb hr (fun t ht hW => ⟨⟨_, ((n, q, fb), (ra, pt, co, rc, cf, rf, fi, se)), rfl, ⟨hbad.symm, hI⟩, by rw [ht]; exact hP, va_K.moved hW.alike hK, hD⟩, hS.F ht⟩) hS.2.2 dX0_insert_68
  have L26 : o_ins n q fb a b c0 d = (-1, (n, q, fb)) → ∀ (H : Heap) (locs : List Loc) (ls : Array Slot), va_P (dC, dI) vwCl (WA ad cI cB (nI n) (nI fb) (ra 2) (ra 3) (ra 4) (ra 5) (ra 6) (ra 7) pt co rc cf rf fi se) H → va_D A (WA ad cI cB (nI n) (nI fb) (ra 2) (ra 3) (ra 4) (ra 5) (ra 6) (ra 7) pt co rc cf rf fi se) → va_S A s.heap H locs → lv_has ls 7 [(0, .ref (ad 0)), (1, .int a)] → W p l e (headSpec (ws_ yX0_insert cX0_insert 7 (some .int)) { frames := 1, cells := 0, slots := 0, locals := 22 }).room s m ([.ref (ad 0), .int a, .int b, .int c0, .int d] : List Value).toArray below meth c H locs 0 0 (MQ below (va_Qi (fun (r : Int32) (u : pS × pR) => (r, u.1) = o_ins n q fb a b c0 d ∧ p_ITr u.1.1 u.1.2.1 u.1.2.2 u.2) (fun (u : pS × pR) => PosW (dC, dI) (tyT cI cB) A (WTr ad cI cB (nI u.1.1) (nI u.1.2.2) u.2)) A) ([.ref (ad 0), .int a, .int b, .int c0, .int d] : List Value).toArray s 0 0 A) (F0 m 26 ls []) := by
    intro hbad H locs ls hP hD hS hl
    refine lv_iconst (v := (nI 0)) hx hb dX0_insert_26 (by decide) ?_
    refine lv_istore (lv' := [(5, .int (nI 0)), (0, .ref (ad 0)), (1, .int a)]) hx hb dX0_insert_27 hl (by decide) rfl (fun ls hl => ?_)
    refine lv_iload_n hx hb dX0_insert_29 rfl (lv_at hl 2 rfl) ?_
    refine lv_if_lt (tgt := 67) hx hb dX0_insert_30 (by decide) (fun c1 => ?_) (fun c1 => ?_)
    · exact L67 hbad _ _ _ hP hD hS (lv_sub hl [1] rfl)
    · refine lv_iload_n hx hb dX0_insert_33 rfl (lv_at hl 2 rfl) ?_
      refine lv_aload_n hx hb dX0_insert_34 rfl (lv_at hl 1 rfl) ?_
      refine x_getT (v := .int (nI n)) hx hb hts hown hK hP 0 (by decide) q27 rfl rfl dX0_insert_35 ?_
      refine lv_icmp_gt (tgt := 67) hx hb dX0_insert_38 (by decide) (fun c2 => ?_) (fun c2 => ?_)
      · exact L67 hbad _ _ _ hP hD hS (lv_sub hl [1] rfl)
      · refine lv_aload_n hx hb dX0_insert_41 rfl (lv_at hl 1 rfl) ?_
        refine x_getT (v := .int (nI n)) hx hb hts hown hK hP 0 (by decide) q27 rfl rfl dX0_insert_42 ?_
        refine lv_bipush (v := (nI 12)) hx hb dX0_insert_45 (by decide) ?_
        refine x_cge (tgt := 67) hx hb (by omega) (by omega) dX0_insert_47 (by decide) (fun c3 => ?_) (fun c3 => ?_)
        · exact L67 hbad _ _ _ hP hD hS (lv_sub hl [1] rfl)
        · refine lv_iload hx hb dX0_insert_50 (lv_at hl 0 rfl) ?_
          refine x_ieq (tgt := 67) hx hb (by omega) dX0_insert_52 (by decide) (fun c4 => ?_) (fun c4 => ?_)
          · exact L67 hbad _ _ _ hP hD hS (lv_sub hl [1] rfl)
          · exact absurd c4 (Nat.lt_irrefl 0)
  refine lv_iload_n hx hb dX0_insert_0 rfl (lv_at hl 2 rfl) ?_
  refine lv_if_lt (tgt := 26) hx hb dX0_insert_1 (by decide) (fun c1 => ?_) (fun c1 => ?_)
  · exact L26 (o_ins_n q fb hn (Or.inr (Or.inr (Or.inr (Or.inl (c1)))))) _ _ _ hP hD hS (lv_sub hl [0, 1] rfl)
  · obtain ⟨s0, gs, rfl⟩ := nI_of c1
    refine lv_iload_n hx hb dX0_insert_4 rfl (lv_at hl 2 rfl) ?_
    refine lv_sipush (v := (nI 1023)) hx hb dX0_insert_5 (by decide) ?_
    refine x_cgt (tgt := 26) hx hb (by omega) (by omega) dX0_insert_8 (by decide) (fun cs => ?_) (fun cs => ?_)
    · exact L26 (o_ins_n q fb hn (Or.inr (Or.inr (Or.inr (Or.inr (Or.inl (nI_lt cs (by omega)))))))) _ _ _ hP hD hS (lv_sub hl [0, 1] rfl)
    · refine lv_iload_n hx hb dX0_insert_11 rfl (lv_at hl 3 rfl) ?_
      refine lv_if_lt (tgt := 26) hx hb dX0_insert_12 (by decide) (fun c1 => ?_) (fun c1 => ?_)
      · exact L26 (o_ins_n q fb hn (Or.inr (Or.inr (Or.inr (Or.inr (Or.inr (Or.inl (c1)))))))) _ _ _ hP hD hS (lv_sub hl [0, 1] rfl)
      · obtain ⟨dd0, gdd, rfl⟩ := nI_of c1
        refine lv_iload_n hx hb dX0_insert_15 rfl (lv_at hl 3 rfl) ?_
        refine lv_sipush (v := (nI 1023)) hx hb dX0_insert_16 (by decide) ?_
        refine x_cgt (tgt := 26) hx hb (by omega) (by omega) dX0_insert_19 (by decide) (fun cdd => ?_) (fun cdd => ?_)
        · exact L26 (o_ins_n q fb hn (Or.inr (Or.inr (Or.inr (Or.inr (Or.inr (Or.inr (Or.inl (nI_lt cdd (by omega)))))))))) _ _ _ hP hD hS (lv_sub hl [0, 1] rfl)
        · refine lv_iconst (v := (nI 1)) hx hb dX0_insert_22 (by decide) ?_
          refine lv_goto (tgt := 27) hx hb dX0_insert_23 (by decide) ?_
          refine lv_istore (lv' := [(5, .int (nI 1)), (0, .ref (ad 0)), (1, .int a), (2, .int (nI s0)), (3, .int (nI dd0)), (4, .int d)]) hx hb dX0_insert_27 hl (by decide) rfl (fun ls hl => ?_)
          refine lv_iload_n hx hb dX0_insert_29 rfl (lv_at hl 2 rfl) ?_
          refine lv_if_lt (tgt := 67) hx hb dX0_insert_30 (by decide) (fun c1 => ?_) (fun c1 => ?_)
          · exact L67 (o_ins_n q fb hn (Or.inl (c1))) _ _ _ hP hD hS (lv_sub hl [1] rfl)
          · obtain ⟨k, gk, rfl⟩ := nI_of c1
            refine lv_iload_n hx hb dX0_insert_33 rfl (lv_at hl 2 rfl) ?_
            refine lv_aload_n hx hb dX0_insert_34 rfl (lv_at hl 1 rfl) ?_
            refine x_getT (v := .int (nI n)) hx hb hts hown hK hP 0 (by decide) q27 rfl rfl dX0_insert_35 ?_
            refine x_cgt (tgt := 67) hx hb (by omega) (by omega) dX0_insert_38 (by decide) (fun ck => ?_) (fun ck => ?_)
            · exact L67 (o_ins_n q fb hn (Or.inr (Or.inl (nI_lt ck (by omega))))) _ _ _ hP hD hS (lv_sub hl [1] rfl)
            · refine lv_aload_n hx hb dX0_insert_41 rfl (lv_at hl 1 rfl) ?_
              refine x_getT (v := .int (nI n)) hx hb hts hown hK hP 0 (by decide) q27 rfl rfl dX0_insert_42 ?_
              refine lv_bipush (v := (nI 12)) hx hb dX0_insert_45 (by decide) ?_
              refine x_cge (tgt := 67) hx hb (by omega) (by omega) dX0_insert_47 (by decide) (fun c12 => ?_) (fun c12 => ?_)
              · exact L67 (o_ins_n q fb hn (Or.inr (Or.inr (Or.inl (by omega))))) _ _ _ hP hD hS (lv_sub hl [1] rfl)
              · refine lv_iload hx hb dX0_insert_50 (lv_at hl 0 rfl) ?_
                refine x_ieq (tgt := 67) hx hb (by omega) dX0_insert_52 (by decide) (fun c5 => ?_) (fun c5 => ?_)
                · omega
                · refine lv_iload hx hb dX0_insert_55 (lv_at hl 5 rfl) ?_
                  refine lv_if_lt (tgt := 67) hx hb dX0_insert_57 (by decide) (fun c1 => ?_) (fun c1 => ?_)
                  · exact L67 (o_ins_n q fb hn (Or.inr (Or.inr (Or.inr (Or.inr (Or.inr (Or.inr (Or.inr (Or.inl (c1)))))))))) _ _ _ hP hD hS (lv_sub hl [1] rfl)
                  · obtain ⟨t0, gt, rfl⟩ := nI_of c1
                    refine lv_iload hx hb dX0_insert_60 (lv_at hl 5 rfl) ?_
                    refine lv_bipush (v := (nI 63)) hx hb dX0_insert_62 (by decide) ?_
                    refine x_cle (tgt := 69) hx hb (by omega) (by omega) dX0_insert_64 (by decide) (fun ct => ?_) (fun ct => ?_)
                    · refine lv_aload_n hx hb dX0_insert_69 rfl (lv_at hl 1 rfl) ?_
                      refine x_getT (v := .int (nI n)) hx hb hts hown hK hP 0 (by decide) q27 rfl rfl dX0_insert_70 ?_
                      refine lv_istore (lv' := [(6, .int (nI n)), (5, .int (nI 1)), (0, .ref (ad 0)), (1, .int (nI k)), (2, .int (nI s0)), (3, .int (nI dd0)), (4, .int (nI t0))]) hx hb dX0_insert_73 hl (by decide) rfl (fun ls hl => ?_)
                      have loop : ∀ (f : Nat) (i : Nat) (rb : Nat → Nat → Int32), k ≤ i → i ≤ n → i < k + f → (∀ g j, rb g j = if i < j ∧ j ≤ n then ra g (j - 1) else ra g j) → ∀ (H : Heap) (locs : List Loc) (ls : Array Slot), va_P (dC, dI) vwCl (WA ad cI cB (nI n) (nI fb) (rb 2) (rb 3) (rb 4) (rb 5) (rb 6) (rb 7) pt co rc cf rf fi se) H → va_D A (WA ad cI cB (nI n) (nI fb) (rb 2) (rb 3) (rb 4) (rb 5) (rb 6) (rb 7) pt co rc cf rf fi se) → va_S A s.heap H locs → lv_has ls 7 [(0, .ref (ad 0)), (1, .int (nI k)), (2, .int (nI s0)), (3, .int (nI dd0)), (4, .int (nI t0)), (6, .int (nI i))] → W p l e (headSpec (ws_ yX0_insert cX0_insert 7 (some .int)) { frames := 1, cells := 0, slots := 0, locals := 22 }).room s m ([.ref (ad 0), .int (nI k), .int (nI s0), .int (nI dd0), .int (nI t0)] : List Value).toArray below meth c H locs 0 0 (MQ below (va_Qi (fun (r : Int32) (u : pS × pR) => (r, u.1) = o_ins n q fb (nI k) (nI s0) (nI dd0) (nI t0) ∧ p_ITr u.1.1 u.1.2.1 u.1.2.2 u.2) (fun (u : pS × pR) => PosW (dC, dI) (tyT cI cB) A (WTr ad cI cB (nI u.1.1) (nI u.1.2.2) u.2)) A) ([.ref (ad 0), .int (nI k), .int (nI s0), .int (nI dd0), .int (nI t0)] : List Value).toArray s 0 0 A) (F0 m 75 ls []) := by
                        intro f
                        induction f with
                        | zero => intros; omega
                        | succ f ih =>
                          intro i rb h1 h2 h3 hrb H locs ls hP hD hS hl
                          refine lv_iload hx hb dX0_insert_75 (lv_at hl 5 rfl) ?_
                          refine lv_iload_n hx hb dX0_insert_77 rfl (lv_at hl 1 rfl) ?_
                          refine x_cle (tgt := 97) hx hb (by omega) (by omega) dX0_insert_78 (by decide) (fun ci => ?_) (fun ci => ?_)
                          · obtain rfl : i = k := by omega
                            refine lv_aload_n hx hb dX0_insert_97 rfl (lv_at hl 0 rfl) ?_
                            refine x_getT (v := .ref (ad 2)) hx hb hts hown hK hP 2 (by decide) q29 rfl rfl dX0_insert_98 ?_
                            refine lv_iload_n hx hb dX0_insert_101 rfl (lv_at hl 1 rfl) ?_
                            refine lv_iload_n hx hb dX0_insert_102 rfl (lv_at hl 2 rfl) ?_
                            refine lv_iconst (v := (nI 5)) hx hb dX0_insert_103 (by decide) ?_
                            refine x_shr (K := 32) hx hb (by decide) rfl (by omega) dX0_insert_104 ?_
                            refine x_iast hx hb hK hP hD hS 1 0 rfl rfl (by omega) (by decide) dX0_insert_105 (fun H locs hP hD hS => ?_)
                            have hP : va_P (dC, dI) vwCl (WA ad cI cB (nI n) (nI fb) (upd (rb 2) i (nI (s0 / 32))) (rb 3) (rb 4) (rb 5) (rb 6) (rb 7) pt co rc cf rf fi se) H := hP
                            have hD : va_D A (WA ad cI cB (nI n) (nI fb) (upd (rb 2) i (nI (s0 / 32))) (rb 3) (rb 4) (rb 5) (rb 6) (rb 7) pt co rc cf rf fi se) := hD
                            refine lv_aload_n hx hb dX0_insert_106 rfl (lv_at hl 0 rfl) ?_
                            refine x_getT (v := .ref (ad 3)) hx hb hts hown hK hP 3 (by decide) q30 rfl rfl dX0_insert_107 ?_
                            refine lv_iload_n hx hb dX0_insert_110 rfl (lv_at hl 1 rfl) ?_
                            refine lv_iload_n hx hb dX0_insert_111 rfl (lv_at hl 2 rfl) ?_
                            refine lv_bipush (v := (nI 31)) hx hb dX0_insert_112 (by decide) ?_
                            refine x_and (K := 32) hx hb 5 rfl rfl (by decide) (by omega) dX0_insert_114 ?_
                            refine x_iast hx hb hK hP hD hS 2 0 rfl rfl (by omega) (by decide) dX0_insert_115 (fun H locs hP hD hS => ?_)
                            have hP : va_P (dC, dI) vwCl (WA ad cI cB (nI n) (nI fb) (upd (rb 2) i (nI (s0 / 32))) (upd (rb 3) i (nI (s0 % 32))) (rb 4) (rb 5) (rb 6) (rb 7) pt co rc cf rf fi se) H := hP
                            have hD : va_D A (WA ad cI cB (nI n) (nI fb) (upd (rb 2) i (nI (s0 / 32))) (upd (rb 3) i (nI (s0 % 32))) (rb 4) (rb 5) (rb 6) (rb 7) pt co rc cf rf fi se) := hD
                            refine lv_aload_n hx hb dX0_insert_116 rfl (lv_at hl 0 rfl) ?_
                            refine x_getT (v := .ref (ad 4)) hx hb hts hown hK hP 4 (by decide) q31 rfl rfl dX0_insert_117 ?_
                            refine lv_iload_n hx hb dX0_insert_120 rfl (lv_at hl 1 rfl) ?_
                            refine lv_iload_n hx hb dX0_insert_121 rfl (lv_at hl 3 rfl) ?_
                            refine lv_iconst (v := (nI 5)) hx hb dX0_insert_122 (by decide) ?_
                            refine x_shr (K := 32) hx hb (by decide) rfl (by omega) dX0_insert_123 ?_
                            refine x_iast hx hb hK hP hD hS 3 0 rfl rfl (by omega) (by decide) dX0_insert_124 (fun H locs hP hD hS => ?_)
                            have hP : va_P (dC, dI) vwCl (WA ad cI cB (nI n) (nI fb) (upd (rb 2) i (nI (s0 / 32))) (upd (rb 3) i (nI (s0 % 32))) (upd (rb 4) i (nI (dd0 / 32))) (rb 5) (rb 6) (rb 7) pt co rc cf rf fi se) H := hP
                            have hD : va_D A (WA ad cI cB (nI n) (nI fb) (upd (rb 2) i (nI (s0 / 32))) (upd (rb 3) i (nI (s0 % 32))) (upd (rb 4) i (nI (dd0 / 32))) (rb 5) (rb 6) (rb 7) pt co rc cf rf fi se) := hD
                            refine lv_aload_n hx hb dX0_insert_125 rfl (lv_at hl 0 rfl) ?_
                            refine x_getT (v := .ref (ad 5)) hx hb hts hown hK hP 5 (by decide) q32 rfl rfl dX0_insert_126 ?_
                            refine lv_iload_n hx hb dX0_insert_129 rfl (lv_at hl 1 rfl) ?_
                            refine lv_iload_n hx hb dX0_insert_130 rfl (lv_at hl 3 rfl) ?_
                            refine lv_bipush (v := (nI 31)) hx hb dX0_insert_131 (by decide) ?_
                            refine x_and (K := 32) hx hb 5 rfl rfl (by decide) (by omega) dX0_insert_133 ?_
                            refine x_iast hx hb hK hP hD hS 4 0 rfl rfl (by omega) (by decide) dX0_insert_134 (fun H locs hP hD hS => ?_)
                            have hP : va_P (dC, dI) vwCl (WA ad cI cB (nI n) (nI fb) (upd (rb 2) i (nI (s0 / 32))) (upd (rb 3) i (nI (s0 % 32))) (upd (rb 4) i (nI (dd0 / 32))) (upd (rb 5) i (nI (dd0 % 32))) (rb 6) (rb 7) pt co rc cf rf fi se) H := hP
                            have hD : va_D A (WA ad cI cB (nI n) (nI fb) (upd (rb 2) i (nI (s0 / 32))) (upd (rb 3) i (nI (s0 % 32))) (upd (rb 4) i (nI (dd0 / 32))) (upd (rb 5) i (nI (dd0 % 32))) (rb 6) (rb 7) pt co rc cf rf fi se) := hD
                            refine lv_aload_n hx hb dX0_insert_135 rfl (lv_at hl 0 rfl) ?_
                            refine x_getT (v := .ref (ad 6)) hx hb hts hown hK hP 6 (by decide) q33 rfl rfl dX0_insert_136 ?_
                            refine lv_iload_n hx hb dX0_insert_139 rfl (lv_at hl 1 rfl) ?_
                            refine lv_iload hx hb dX0_insert_140 (lv_at hl 4 rfl) ?_
                            refine lv_bipush (v := (nI 15)) hx hb dX0_insert_142 (by decide) ?_
                            refine x_and (K := 16) hx hb 4 rfl rfl (by decide) (by omega) dX0_insert_144 ?_
                            refine x_iast hx hb hK hP hD hS 5 0 rfl rfl (by omega) (by decide) dX0_insert_145 (fun H locs hP hD hS => ?_)
                            have hP : va_P (dC, dI) vwCl (WA ad cI cB (nI n) (nI fb) (upd (rb 2) i (nI (s0 / 32))) (upd (rb 3) i (nI (s0 % 32))) (upd (rb 4) i (nI (dd0 / 32))) (upd (rb 5) i (nI (dd0 % 32))) (upd (rb 6) i (nI (t0 % 16))) (rb 7) pt co rc cf rf fi se) H := hP
                            have hD : va_D A (WA ad cI cB (nI n) (nI fb) (upd (rb 2) i (nI (s0 / 32))) (upd (rb 3) i (nI (s0 % 32))) (upd (rb 4) i (nI (dd0 / 32))) (upd (rb 5) i (nI (dd0 % 32))) (upd (rb 6) i (nI (t0 % 16))) (rb 7) pt co rc cf rf fi se) := hD
                            refine lv_aload_n hx hb dX0_insert_146 rfl (lv_at hl 0 rfl) ?_
                            refine x_getT (v := .ref (ad 7)) hx hb hts hown hK hP 7 (by decide) q34 rfl rfl dX0_insert_147 ?_
                            refine lv_iload_n hx hb dX0_insert_150 rfl (lv_at hl 1 rfl) ?_
                            refine lv_iload hx hb dX0_insert_151 (lv_at hl 4 rfl) ?_
                            refine lv_iconst (v := (nI 4)) hx hb dX0_insert_153 (by decide) ?_
                            refine x_shr (K := 16) hx hb (by decide) rfl (by omega) dX0_insert_154 ?_
                            refine x_iast hx hb hK hP hD hS 6 0 rfl rfl (by omega) (by decide) dX0_insert_155 (fun H locs hP hD hS => ?_)
                            have hP : va_P (dC, dI) vwCl (WA ad cI cB (nI n) (nI fb) (upd (rb 2) i (nI (s0 / 32))) (upd (rb 3) i (nI (s0 % 32))) (upd (rb 4) i (nI (dd0 / 32))) (upd (rb 5) i (nI (dd0 % 32))) (upd (rb 6) i (nI (t0 % 16))) (upd (rb 7) i (nI (t0 / 16))) pt co rc cf rf fi se) H := hP
                            have hD : va_D A (WA ad cI cB (nI n) (nI fb) (upd (rb 2) i (nI (s0 / 32))) (upd (rb 3) i (nI (s0 % 32))) (upd (rb 4) i (nI (dd0 / 32))) (upd (rb 5) i (nI (dd0 % 32))) (upd (rb 6) i (nI (t0 % 16))) (upd (rb 7) i (nI (t0 / 16))) pt co rc cf rf fi se) := hD
                            refine lv_aload_n hx hb dX0_insert_156 rfl (lv_at hl 0 rfl) ?_
                            refine lv_dup hx hb dX0_insert_157 rfl ?_
                            refine x_getT (v := .int (nI n)) hx hb hts hown hK hP 0 (by decide) q27 rfl rfl dX0_insert_158 ?_
                            refine lv_iconst (v := (nI 1)) hx hb dX0_insert_161 (by decide) ?_
                            refine x_add hx hb dX0_insert_162 ?_
                            refine x_putT (v := .int (nI (n + 1))) (ty := .int) hx hb hts hown hK hP hD hS 0 (by decide) q27 rfl rfl (by decide +kernel) rfl rfl (Nat.le_of_ble_eq_true rfl) dX0_insert_163 (fun H locs hP hD hS => ?_)
                            have hP : va_P (dC, dI) vwCl (WA ad cI cB (nI (n + 1)) (nI fb) (upd (rb 2) i (nI (s0 / 32))) (upd (rb 3) i (nI (s0 % 32))) (upd (rb 4) i (nI (dd0 / 32))) (upd (rb 5) i (nI (dd0 % 32))) (upd (rb 6) i (nI (t0 % 16))) (upd (rb 7) i (nI (t0 / 16))) pt co rc cf rf fi se) H := hP
                            have hD : va_D A (WA ad cI cB (nI (n + 1)) (nI fb) (upd (rb 2) i (nI (s0 / 32))) (upd (rb 3) i (nI (s0 % 32))) (upd (rb 4) i (nI (dd0 / 32))) (upd (rb 5) i (nI (dd0 % 32))) (upd (rb 6) i (nI (t0 % 16))) (upd (rb 7) i (nI (t0 / 16))) pt co rc cf rf fi se) := hD
                            refine lv_aload_n hx hb dX0_insert_166 rfl (lv_at hl 0 rfl) ?_
                            refine lv_iconst (v := (nI 0)) hx hb dX0_insert_167 (by decide) ?_
                            refine x_putT (v := .int (nI 0)) (ty := .boolean) hx hb hts hown hK hP hD hS 8 (by decide) q35 rfl rfl (by decide +kernel) rfl rfl (Nat.le_of_ble_eq_true rfl) dX0_insert_168 (fun H locs hP hD hS => ?_)
                            have hP : va_P (dC, dI) vwCl (WA ad cI cB (nI (n + 1)) (nI fb) (upd (rb 2) i (nI (s0 / 32))) (upd (rb 3) i (nI (s0 % 32))) (upd (rb 4) i (nI (dd0 / 32))) (upd (rb 5) i (nI (dd0 % 32))) (upd (rb 6) i (nI (t0 % 16))) (upd (rb 7) i (nI (t0 / 16))) (nI 0) co rc cf rf fi se) H := hP
                            have hD : va_D A (WA ad cI cB (nI (n + 1)) (nI fb) (upd (rb 2) i (nI (s0 / 32))) (upd (rb 3) i (nI (s0 % 32))) (upd (rb 4) i (nI (dd0 / 32))) (upd (rb 5) i (nI (dd0 % 32))) (upd (rb 6) i (nI (t0 % 16))) (upd (rb 7) i (nI (t0 / 16))) (nI 0) co rc cf rf fi se) := hD
                            refine lv_aload_n hx hb dX0_insert_171 rfl (lv_at hl 0 rfl) ?_
                            refine x_getT (v := .int (nI (n + 1))) hx hb hts hown hK hP 0 (by decide) q27 rfl rfl dX0_insert_172 ?_
                            exact W.iret (v := (nI (n + 1))) hx hb hr (fun t ht hW => ⟨⟨_, ((n + 1, q_ins q i (s0, dd0, t0), fb), (fun g => upd (rb g) i (e_T (s0, dd0, t0) g), nI 0, co, rc, cf, rf, fi, se)), rfl, ⟨(o_ins_y q fb h2 c12 cs cdd ct).symm, p_ok_ins hI.1 h2 c12 cs cdd ct, p_rep_ins hI.2.1 h2 (fun g _ _ j hj => s_up_end (v := e_T (s0, dd0, t0)) hrb g hj), Or.inl nI_0⟩, by rw [ht]; exact hP, va_K.moved hW.alike hK, hD⟩, hS.F ht⟩) hS.2.2 dX0_insert_175
                          · refine lv_aload_n hx hb dX0_insert_81 rfl (lv_at hl 0 rfl) ?_
                            refine lv_iload hx hb dX0_insert_82 (lv_at hl 5 rfl) ?_
                            refine lv_iconst (v := (nI 1)) hx hb dX0_insert_84 (by decide) ?_
                            refine x_sub hx hb (by omega) dX0_insert_85 ?_
                            refine lv_iload hx hb dX0_insert_86 (lv_at hl 5 rfl) ?_
                            refine x_callv (va_runV (As := [.int (nI (i - 1)), .int (nI i)]) (rest := []) ⟨hx, hb, hml, hown, hts⟩ (m0_copyRule l dC dI ad cI cB H.size (nI n) (nI fb) rb pt co rc cf rf fi se (i - 1) i (by omega) (by omega)) (cwV 2 hts (lw_V q79 q81 qs0 q17 q82) rfl rfl rfl (by decide +kernel) ⟨Nat.le_of_ble_eq_true rfl, Nat.le_of_ble_eq_true rfl⟩) (x_preV (ci := 0) (q0 := 0) hK hP hD rfl rfl) rfl rfl hl.1 rfl (lv_room (Nat.le_of_ble_eq_true rfl)) dX0_insert_88 ⟨Nat.le_refl _, Nat.le_refl _⟩) hD hS hA (fun _ H locs _ hP hD hS => ?_)
                            have hP : va_P (dC, dI) vwCl (WA ad cI cB (nI n) (nI fb) (upd (rb 2) i (rb 2 (i - 1))) (upd (rb 3) i (rb 3 (i - 1))) (upd (rb 4) i (rb 4 (i - 1))) (upd (rb 5) i (rb 5 (i - 1))) (upd (rb 6) i (rb 6 (i - 1))) (upd (rb 7) i (rb 7 (i - 1))) pt co rc cf rf fi se) H := hP
                            have hD : va_D A (WA ad cI cB (nI n) (nI fb) (upd (rb 2) i (rb 2 (i - 1))) (upd (rb 3) i (rb 3 (i - 1))) (upd (rb 4) i (rb 4 (i - 1))) (upd (rb 5) i (rb 5 (i - 1))) (upd (rb 6) i (rb 6 (i - 1))) (upd (rb 7) i (rb 7 (i - 1))) pt co rc cf rf fi se) := hD
                            refine lv_iinc (v := (nI (i - 1))) (lv' := [(6, .int (nI (i - 1))), (0, .ref (ad 0)), (1, .int (nI k)), (2, .int (nI s0)), (3, .int (nI dd0)), (4, .int (nI t0))]) hx hb dX0_insert_91 hl (k := 5) rfl (x_dec (by omega)) (by decide) rfl (fun ls hl => ?_)
                            refine lv_goto (tgt := 75) hx hb dX0_insert_94 (by decide) ?_
                            exact ih (i - 1) (fun g => upd (rb g) i (rb g (i - 1))) (by omega) (by omega) (by omega) (s_up_step hrb (by omega) h2) _ _ _ hP hD hS (lv_sub hl [1, 2, 3, 4, 5, 0] rfl)
                      exact loop (n + 1) n ra (by omega) (by omega) (by omega) s_up_0 _ _ _ hP hD hS (lv_sub hl [2, 3, 4, 5, 6, 0] rfl)
                    · exact L67 (o_ins_n q fb hn (Or.inr (Or.inr (Or.inr (Or.inr (Or.inr (Or.inr (Or.inr (Or.inr (nI_lt ct (by omega))))))))))) _ _ _ hP hD hS (lv_sub hl [1] rfl)
set_option maxHeartbeats 4000000 in
set_option maxRecDepth 100000 in
/-- remove -/
theorem m0_remove (l : Launch) (dC : Nat → ClassId) (dI : Nat → Nat → Nat) (ad : Nat → Nat) (cI cB : ClassId) (sz : Nat) (n fb : Nat) (q : Nat → pV) (ra : Nat → Nat → Int32) (pt co rc : Int32) (cf rf fi se : Nat → Int32) (a : Int32) (hI : p_IT n q fb ra pt co rc cf rf fi se) : Met l yX0_remove (ws_ yX0_remove cX0_remove 3 (some .int)) { frames := 1, cells := 0, slots := 0, locals := 22 } (va_Pc [.ref (ad 0), .int a] (PreW (dC, dI) (tyT cI cB) (WA ad cI cB (nI n) (nI fb) (ra 2) (ra 3) (ra 4) (ra 5) (ra 6) (ra 7) pt co rc cf rf fi se) sz)) (va_Qi (fun (r : Int32) (u : pS × pR) => (r, u.1) = o_rem n q fb a ∧ p_ITr u.1.1 u.1.2.1 u.1.2.2 u.2) (fun (u : pS × pR) => PosW (dC, dI) (tyT cI cB) (va_A (WA ad cI cB (nI n) (nI fb) (ra 2) (ra 3) (ra 4) (ra 5) (ra 6) (ra 7) pt co rc cf rf fi se) sz) (WTr ad cI cB (nI u.1.1) (nI u.1.2.2) u.2)) (va_A (WA ad cI cB (nI n) (nI fb) (ra 2) (ra 3) (ra 4) (ra 5) (ra 6) (ra 7) pt co rc cf rf fi se) sz)) 0 0 (va_A (WA ad cI cB (nI n) (nI fb) (ra 2) (ra 3) (ra 4) (ra 5) (ra 6) (ra 7) pt co rc cf rf fi se) sz) := by
  refine Met.ofW (cc := cX0_remove) (maxL := 3) (ret := (some .int)) (by decide) rfl ?_
  intro p e s m args below meth c s₁ B hml hv
  obtain ⟨rfl, hsz, hP, hK, hD0⟩ := hv
  have hx := B.exec
  have hb := B.bytes
  have hr := B.returns
  have hts := atoms_spec (ws := (ws_ yX0_remove cX0_remove 3 (some .int))) B.pre
  have hts : ∀ w ∈ lw_all, w.before _ s = true := fun w h => hts w (List.mem_cons_of_mem _ h)
  have hown : s.vm.findClass RX0 = some m.cls := findClass_of_methodNamed B.named
  have hlocks := B.notSynchronized
  subst hsz
  have hD := hD0.self (sz := s.heap.size)
  generalize hAe : va_A (WA ad cI cB (nI n) (nI fb) (ra 2) (ra 3) (ra 4) (ra 5) (ra 6) (ra 7) pt co rc cf rf fi se) s.heap.size = A at hD ⊢
  have hA : ∀ q : Nat, s.heap.size ≤ q → A q := fun q h => by rw [← hAe]; exact Or.inr h
  have hS : va_S A s.heap s.heap [] := va_S.rf
  have hP : va_P (dC, dI) vwCl (WA ad cI cB (nI n) (nI fb) (ra 2) (ra 3) (ra 4) (ra 5) (ra 6) (ra 7) pt co rc cf rf fi se) s.heap := hP
  have hl := lv_entry ([.ref (ad 0), .int a]) (n := 3) (Nat.le_of_ble_eq_true rfl)
  rw [lg_entry_eq]
  generalize (lg_sl ([.ref (ad 0), .int a]) ++ List.replicate (3 - (lg_sl ([.ref (ad 0), .int a])).length) Slot.unset).toArray = ls at hl ⊢
  have hl : lv_has ls 3 [(0, .ref (ad 0)), (1, .int a)] := hl
  have hn := hI.1.1
  refine lv_aload_n hx hb dX0_remove_0 rfl (lv_at hl 0 rfl) ?_
  refine lv_iload_n hx hb dX0_remove_1 rfl (lv_at hl 1 rfl) ?_
  refine vp_callSi (W.runV (As := [.int a]) (rest := []) ⟨hx, hb, hml, hown, hts⟩ (m0_isRule l dC dI ad cI cB n (nI fb) ra pt co rc cf rf fi se a hn) (cwV 1 hts (lw_V q87 q89 qs1 q17 q90) rfl rfl rfl (by decide +kernel) ⟨Nat.le_of_ble_eq_true rfl, Nat.le_of_ble_eq_true rfl⟩) (x_preVR (ci := 0) (q0 := 0) hK hP rfl rfl) rfl rfl hl.1 rfl (lv_room (Nat.le_of_ble_eq_true rfl)) dX0_remove_2 ⟨Nat.le_refl _, Nat.le_refl _⟩) (fun r1 h1 => ?_)
  rcases h1 with ⟨rfl, k, hk, rfl⟩ | ⟨rfl, h1⟩
  · refine lv_if_ne (tgt := 10) hx hb dX0_remove_5 (by decide) (fun _ => ?_) (fun c9 => absurd c9 (by decide))
    refine lv_iload_n hx hb dX0_remove_10 rfl (lv_at hl 1 rfl) ?_
    refine lv_istore_n (lv' := [(2, .int (nI k)), (0, .ref (ad 0)), (1, .int (nI k))]) hx hb dX0_remove_11 rfl hl (by decide) rfl (fun ls hl => ?_)
    have loop : ∀ (f : Nat) (i : Nat) (rb : Nat → Nat → Int32), k ≤ i → i ≤ n - 1 → n ≤ i + f → (∀ g j, rb g j = if k ≤ j ∧ j < i then ra g (j + 1) else ra g j) → ∀ (H : Heap) (locs : List Loc) (ls : Array Slot), va_P (dC, dI) vwCl (WA ad cI cB (nI n) (nI fb) (rb 2) (rb 3) (rb 4) (rb 5) (rb 6) (rb 7) pt co rc cf rf fi se) H → va_D A (WA ad cI cB (nI n) (nI fb) (rb 2) (rb 3) (rb 4) (rb 5) (rb 6) (rb 7) pt co rc cf rf fi se) → va_S A s.heap H locs → lv_has ls 3 [(0, .ref (ad 0)), (1, .int (nI k)), (2, .int (nI i))] → W p l e (headSpec (ws_ yX0_remove cX0_remove 3 (some .int)) { frames := 1, cells := 0, slots := 0, locals := 22 }).room s m ([.ref (ad 0), .int (nI k)] : List Value).toArray below meth c H locs 0 0 (MQ below (va_Qi (fun (r : Int32) (u : pS × pR) => (r, u.1) = o_rem n q fb (nI k) ∧ p_ITr u.1.1 u.1.2.1 u.1.2.2 u.2) (fun (u : pS × pR) => PosW (dC, dI) (tyT cI cB) A (WTr ad cI cB (nI u.1.1) (nI u.1.2.2) u.2)) A) ([.ref (ad 0), .int (nI k)] : List Value).toArray s 0 0 A) (F0 m 12 ls []) := by
      intro f
      induction f with
      | zero => intros; omega
      | succ f ih =>
        intro i rb h1 h2 h3 hrb H locs ls hP hD hS hl
        refine lv_iload_n hx hb dX0_remove_12 rfl (lv_at hl 2 rfl) ?_
        refine lv_iconst (v := (nI 1)) hx hb dX0_remove_13 (by decide) ?_
        refine x_add hx hb dX0_remove_14 ?_
        refine lv_aload_n hx hb dX0_remove_15 rfl (lv_at hl 0 rfl) ?_
        refine x_getT (v := .int (nI n)) hx hb hts hown hK hP 0 (by decide) q27 rfl rfl dX0_remove_16 ?_
        refine x_cge (tgt := 36) hx hb (by omega) (by omega) dX0_remove_19 (by decide) (fun ci => ?_) (fun ci => ?_)
        · refine lv_aload_n hx hb dX0_remove_36 rfl (lv_at hl 0 rfl) ?_
          refine lv_dup hx hb dX0_remove_37 rfl ?_
          refine x_getT (v := .int (nI n)) hx hb hts hown hK hP 0 (by decide) q27 rfl rfl dX0_remove_38 ?_
          refine lv_iconst (v := (nI 1)) hx hb dX0_remove_41 (by decide) ?_
          refine x_sub hx hb (by omega) dX0_remove_42 ?_
          refine x_putT (v := .int (nI (n - 1))) (ty := .int) hx hb hts hown hK hP hD hS 0 (by decide) q27 rfl rfl (by decide +kernel) rfl rfl (Nat.le_of_ble_eq_true rfl) dX0_remove_43 (fun H locs hP hD hS => ?_)
          have hP : va_P (dC, dI) vwCl (WA ad cI cB (nI (n - 1)) (nI fb) (rb 2) (rb 3) (rb 4) (rb 5) (rb 6) (rb 7) pt co rc cf rf fi se) H := hP
          have hD : va_D A (WA ad cI cB (nI (n - 1)) (nI fb) (rb 2) (rb 3) (rb 4) (rb 5) (rb 6) (rb 7) pt co rc cf rf fi se) := hD
          refine lv_aload_n hx hb dX0_remove_46 rfl (lv_at hl 0 rfl) ?_
          refine lv_iconst (v := (nI 0)) hx hb dX0_remove_47 (by decide) ?_
          refine x_putT (v := .int (nI 0)) (ty := .boolean) hx hb hts hown hK hP hD hS 8 (by decide) q35 rfl rfl (by decide +kernel) rfl rfl (Nat.le_of_ble_eq_true rfl) dX0_remove_48 (fun H locs hP hD hS => ?_)
          have hP : va_P (dC, dI) vwCl (WA ad cI cB (nI (n - 1)) (nI fb) (rb 2) (rb 3) (rb 4) (rb 5) (rb 6) (rb 7) (nI 0) co rc cf rf fi se) H := hP
          have hD : va_D A (WA ad cI cB (nI (n - 1)) (nI fb) (rb 2) (rb 3) (rb 4) (rb 5) (rb 6) (rb 7) (nI 0) co rc cf rf fi se) := hD
          refine lv_aload_n hx hb dX0_remove_51 rfl (lv_at hl 0 rfl) ?_
          refine x_getT (v := .int (nI (n - 1))) hx hb hts hown hK hP 0 (by decide) q27 rfl rfl dX0_remove_52 ?_
          exact W.iret (v := (nI (n - 1))) hx hb hr (fun t ht hW => ⟨⟨_, ((n - 1, q_del q k, fb), (rb, nI 0, co, rc, cf, rf, fi, se)), rfl, ⟨(o_rem_y q fb hn hk).symm, p_ok_del hI.1 hk, p_rep_del hI.2.1 hk (fun g _ _ j hj => s_dn_end hrb g (by omega)), Or.inl nI_0⟩, by rw [ht]; exact hP, va_K.moved hW.alike hK, hD⟩, hS.F ht⟩) hS.2.2 dX0_remove_55
        · refine lv_aload_n hx hb dX0_remove_22 rfl (lv_at hl 0 rfl) ?_
          refine lv_iload_n hx hb dX0_remove_23 rfl (lv_at hl 2 rfl) ?_
          refine lv_iconst (v := (nI 1)) hx hb dX0_remove_24 (by decide) ?_
          refine x_add hx hb dX0_remove_25 ?_
          refine lv_iload_n hx hb dX0_remove_26 rfl (lv_at hl 2 rfl) ?_
          refine x_callv (va_runV (As := [.int (nI (i + 1)), .int (nI i)]) (rest := []) ⟨hx, hb, hml, hown, hts⟩ (m0_copyRule l dC dI ad cI cB H.size (nI n) (nI fb) rb pt co rc cf rf fi se (i + 1) i (by omega) (by omega)) (cwV 2 hts (lw_V q79 q81 qs0 q17 q82) rfl rfl rfl (by decide +kernel) ⟨Nat.le_of_ble_eq_true rfl, Nat.le_of_ble_eq_true rfl⟩) (x_preV (ci := 0) (q0 := 0) hK hP hD rfl rfl) rfl rfl hl.1 rfl (lv_room (Nat.le_of_ble_eq_true rfl)) dX0_remove_27 ⟨Nat.le_refl _, Nat.le_refl _⟩) hD hS hA (fun _ H locs _ hP hD hS => ?_)
          have hP : va_P (dC, dI) vwCl (WA ad cI cB (nI n) (nI fb) (upd (rb 2) i (rb 2 (i + 1))) (upd (rb 3) i (rb 3 (i + 1))) (upd (rb 4) i (rb 4 (i + 1))) (upd (rb 5) i (rb 5 (i + 1))) (upd (rb 6) i (rb 6 (i + 1))) (upd (rb 7) i (rb 7 (i + 1))) pt co rc cf rf fi se) H := hP
          have hD : va_D A (WA ad cI cB (nI n) (nI fb) (upd (rb 2) i (rb 2 (i + 1))) (upd (rb 3) i (rb 3 (i + 1))) (upd (rb 4) i (rb 4 (i + 1))) (upd (rb 5) i (rb 5 (i + 1))) (upd (rb 6) i (rb 6 (i + 1))) (upd (rb 7) i (rb 7 (i + 1))) pt co rc cf rf fi se) := hD
          refine lv_iinc (v := (nI (i + 1))) (lv' := [(2, .int (nI (i + 1))), (0, .ref (ad 0)), (1, .int (nI k))]) hx hb dX0_remove_30 hl (k := 2) rfl (x_inc _) (by decide) rfl (fun ls hl => ?_)
          refine lv_goto (tgt := 12) hx hb dX0_remove_33 (by decide) ?_
          exact ih (i + 1) (fun g => upd (rb g) i (rb g (i + 1))) (by omega) (by omega) (by omega) (s_dn_step hrb h1) _ _ _ hP hD hS (lv_sub hl [1, 2, 0] rfl)
    exact loop n k ra (by omega) (by omega) (by omega) s_dn_0 _ _ _ hP hD hS (lv_sub hl [1, 2, 0] rfl)
  · refine lv_if_ne (tgt := 10) hx hb dX0_remove_5 (by decide) (fun c9 => absurd (by decide) c9) (fun _ => ?_)
    refine lv_iconst (v := -1) hx hb dX0_remove_8 (by decide) ?_
    exact W.iret (v := (-1)) hx hb hr (fun t ht hW => ⟨⟨_, ((n, q, fb), (ra, pt, co, rc, cf, rf, fi, se)), rfl, ⟨(o_rem_n q fb hn h1).symm, hI⟩, by rw [ht]; exact hP, va_K.moved hW.alike hK, hD⟩, hS.F ht⟩) hS.2.2 dX0_remove_9
end
section
set_option maxHeartbeats 4000000 in
set_option maxRecDepth 100000 in
/-- shift -/
theorem m0_shift (l : Launch) (dC : Nat → ClassId) (dI : Nat → Nat → Nat) (ad : Nat → Nat) (cI cB : ClassId) (sz : Nat) (n fb : Nat) (q : Nat → pV) (ra : Nat → Nat → Int32) (pt co rc : Int32) (cf rf fi se : Nat → Int32) (a b : Int32) (hI : p_IT n q fb ra pt co rc cf rf fi se) : Met l yX0_shift (ws_ yX0_shift cX0_shift 4 (some .int)) { frames := 2, cells := 0, slots := 0, locals := 50 } (va_Pc [.ref (ad 0), .int a, .int b] (PreW (dC, dI) (tyT cI cB) (WA ad cI cB (nI n) (nI fb) (ra 2) (ra 3) (ra 4) (ra 5) (ra 6) (ra 7) pt co rc cf rf fi se) sz)) (va_Qi (fun (r : Int32) (u : pS × pR) => (r, u.1) = o_shi n q fb a b ∧ p_ITr u.1.1 u.1.2.1 u.1.2.2 u.2) (fun (u : pS × pR) => PosW (dC, dI) (tyT cI cB) (va_A (WA ad cI cB (nI n) (nI fb) (ra 2) (ra 3) (ra 4) (ra 5) (ra 6) (ra 7) pt co rc cf rf fi se) sz) (WTr ad cI cB (nI u.1.1) (nI u.1.2.2) u.2)) (va_A (WA ad cI cB (nI n) (nI fb) (ra 2) (ra 3) (ra 4) (ra 5) (ra 6) (ra 7) pt co rc cf rf fi se) sz)) 0 0 (va_A (WA ad cI cB (nI n) (nI fb) (ra 2) (ra 3) (ra 4) (ra 5) (ra 6) (ra 7) pt co rc cf rf fi se) sz) := by
  refine Met.ofW (cc := cX0_shift) (maxL := 4) (ret := (some .int)) (by decide) rfl ?_
  intro p e s m args below meth c s₁ B hml hv
  obtain ⟨rfl, hsz, hP, hK, hD0⟩ := hv
  have hx := B.exec
  have hb := B.bytes
  have hr := B.returns
  have hts := atoms_spec (ws := (ws_ yX0_shift cX0_shift 4 (some .int))) B.pre
  have hts : ∀ w ∈ lw_all, w.before _ s = true := fun w h => hts w (List.mem_cons_of_mem _ h)
  have hown : s.vm.findClass RX0 = some m.cls := findClass_of_methodNamed B.named
  have hlocks := B.notSynchronized
  subst hsz
  have hD := hD0.self (sz := s.heap.size)
  generalize hAe : va_A (WA ad cI cB (nI n) (nI fb) (ra 2) (ra 3) (ra 4) (ra 5) (ra 6) (ra 7) pt co rc cf rf fi se) s.heap.size = A at hD ⊢
  have hA : ∀ q : Nat, s.heap.size ≤ q → A q := fun q h => by rw [← hAe]; exact Or.inr h
  have hS : va_S A s.heap s.heap [] := va_S.rf
  have hP : va_P (dC, dI) vwCl (WA ad cI cB (nI n) (nI fb) (ra 2) (ra 3) (ra 4) (ra 5) (ra 6) (ra 7) pt co rc cf rf fi se) s.heap := hP
  have hl := lv_entry ([.ref (ad 0), .int a, .int b]) (n := 4) (Nat.le_of_ble_eq_true rfl)
  rw [lg_entry_eq]
  generalize (lg_sl ([.ref (ad 0), .int a, .int b]) ++ List.replicate (4 - (lg_sl ([.ref (ad 0), .int a, .int b])).length) Slot.unset).toArray = ls at hl ⊢
  have hl : lv_has ls 4 [(0, .ref (ad 0)), (1, .int a), (2, .int b)] := hl
  have hn := hI.1.1
  refine lv_aload_n hx hb dX0_shift_0 rfl (lv_at hl 0 rfl) ?_
  refine lv_iload_n hx hb dX0_shift_1 rfl (lv_at hl 1 rfl) ?_
  refine vp_callSi (W.runV (As := [.int a]) (rest := []) ⟨hx, hb, hml, hown, hts⟩ (m0_isRule l dC dI ad cI cB n (nI fb) ra pt co rc cf rf fi se a hn) (cwV 1 hts (lw_V q87 q89 qs1 q17 q90) rfl rfl rfl (by decide +kernel) ⟨Nat.le_of_ble_eq_true rfl, Nat.le_of_ble_eq_true rfl⟩) (x_preVR (ci := 0) (q0 := 0) hK hP rfl rfl) rfl rfl hl.1 rfl (lv_room (Nat.le_of_ble_eq_true rfl)) dX0_shift_2 ⟨Nat.le_refl _, Nat.le_refl _⟩) (fun r1 h1 => ?_)
  rcases h1 with ⟨rfl, x, hk, rfl⟩ | ⟨rfl, h1⟩
  · refine lv_if_eq (tgt := 16) hx hb dX0_shift_5 (by decide) (fun c9 => absurd c9 (by decide)) (fun _ => ?_)
    refine lv_aload_n hx hb dX0_shift_8 rfl (lv_at hl 0 rfl) ?_
    refine lv_iload_n hx hb dX0_shift_9 rfl (lv_at hl 2 rfl) ?_
    refine vp_callSi (W.runV (As := [.int b]) (rest := []) ⟨hx, hb, hml, hown, hts⟩ (m0_isRule l dC dI ad cI cB n (nI fb) ra pt co rc cf rf fi se b hn) (cwV 1 hts (lw_V q87 q89 qs1 q17 q90) rfl rfl rfl (by decide +kernel) ⟨Nat.le_of_ble_eq_true rfl, Nat.le_of_ble_eq_true rfl⟩) (x_preVR (ci := 0) (q0 := 0) hK hP rfl rfl) rfl rfl hl.1 rfl (lv_room (Nat.le_of_ble_eq_true rfl)) dX0_shift_10 ⟨Nat.le_refl _, Nat.le_refl _⟩) (fun r1 h1 => ?_)
    rcases h1 with ⟨rfl, y, hj, rfl⟩ | ⟨rfl, h1⟩
    · refine lv_if_ne (tgt := 18) hx hb dX0_shift_13 (by decide) (fun _ => ?_) (fun c9 => absurd c9 (by decide))
      refine lv_iload_n hx hb dX0_shift_18 rfl (lv_at hl 1 rfl) ?_
      refine lv_istore_n (lv' := [(3, .int (nI x)), (0, .ref (ad 0)), (1, .int (nI x)), (2, .int (nI y))]) hx hb dX0_shift_19 rfl hl (by decide) rfl (fun ls hl => ?_)
      have loop1 : ∀ (f : Nat) (i : Nat) (rb : Nat → Nat → Int32), x ≤ i → (i ≤ y ∨ i = x) → i < n → n ≤ i + f → (∀ g j, rb g j = if x ≤ j ∧ j < i then ra g (j + 1) else if j = i then ra g x else ra g j) → ∀ (H : Heap) (locs : List Loc) (ls : Array Slot), va_P (dC, dI) vwCl (WA ad cI cB (nI n) (nI fb) (rb 2) (rb 3) (rb 4) (rb 5) (rb 6) (rb 7) pt co rc cf rf fi se) H → va_D A (WA ad cI cB (nI n) (nI fb) (rb 2) (rb 3) (rb 4) (rb 5) (rb 6) (rb 7) pt co rc cf rf fi se) → va_S A s.heap H locs → lv_has ls 4 [(0, .ref (ad 0)), (1, .int (nI x)), (2, .int (nI y)), (3, .int (nI i))] → W p l e (headSpec (ws_ yX0_shift cX0_shift 4 (some .int)) { frames := 2, cells := 0, slots := 0, locals := 50 }).room s m ([.ref (ad 0), .int (nI x), .int (nI y)] : List Value).toArray below meth c H locs 0 0 (MQ below (va_Qi (fun (r : Int32) (u : pS × pR) => (r, u.1) = o_shi n q fb (nI x) (nI y) ∧ p_ITr u.1.1 u.1.2.1 u.1.2.2 u.2) (fun (u : pS × pR) => PosW (dC, dI) (tyT cI cB) A (WTr ad cI cB (nI u.1.1) (nI u.1.2.2) u.2)) A) ([.ref (ad 0), .int (nI x), .int (nI y)] : List Value).toArray s 0 0 A) (F0 m 20 ls []) := by
        intro f
        induction f with
        | zero => intros; omega
        | succ f ih =>
          intro i rb h1 h2 h3 h4 hrb H locs ls hP hD hS hl
          refine lv_iload_n hx hb dX0_shift_20 rfl (lv_at hl 3 rfl) ?_
          refine lv_iload_n hx hb dX0_shift_21 rfl (lv_at hl 2 rfl) ?_
          refine x_cge (tgt := 39) hx hb (by omega) (by omega) dX0_shift_22 (by decide) (fun ci => ?_) (fun ci => ?_)
          · refine lv_iload_n hx hb dX0_shift_39 rfl (lv_at hl 1 rfl) ?_
            refine lv_istore_n (lv' := [(3, .int (nI x)), (0, .ref (ad 0)), (1, .int (nI x)), (2, .int (nI y))]) hx hb dX0_shift_40 rfl hl (by decide) rfl (fun ls hl => ?_)
            have loop2 : ∀ (f : Nat) (i2 : Nat) (rd : Nat → Nat → Int32), i2 < n → i2 < f → ((y < x ∧ y ≤ i2 ∧ i2 ≤ x ∧ ∀ g j, rd g j = if i2 < j ∧ j ≤ x then ra g (j - 1) else if j = i2 then ra g x else ra g j) ∨ (x ≤ y ∧ i2 = x ∧ ∀ g j, rd g j = if x ≤ j ∧ j < y then ra g (j + 1) else if j = y then ra g x else ra g j)) → ∀ (H : Heap) (locs : List Loc) (ls : Array Slot), va_P (dC, dI) vwCl (WA ad cI cB (nI n) (nI fb) (rd 2) (rd 3) (rd 4) (rd 5) (rd 6) (rd 7) pt co rc cf rf fi se) H → va_D A (WA ad cI cB (nI n) (nI fb) (rd 2) (rd 3) (rd 4) (rd 5) (rd 6) (rd 7) pt co rc cf rf fi se) → va_S A s.heap H locs → lv_has ls 4 [(0, .ref (ad 0)), (1, .int (nI x)), (2, .int (nI y)), (3, .int (nI i2))] → W p l e (headSpec (ws_ yX0_shift cX0_shift 4 (some .int)) { frames := 2, cells := 0, slots := 0, locals := 50 }).room s m ([.ref (ad 0), .int (nI x), .int (nI y)] : List Value).toArray below meth c H locs 0 0 (MQ below (va_Qi (fun (r : Int32) (u : pS × pR) => (r, u.1) = o_shi n q fb (nI x) (nI y) ∧ p_ITr u.1.1 u.1.2.1 u.1.2.2 u.2) (fun (u : pS × pR) => PosW (dC, dI) (tyT cI cB) A (WTr ad cI cB (nI u.1.1) (nI u.1.2.2) u.2)) A) ([.ref (ad 0), .int (nI x), .int (nI y)] : List Value).toArray s 0 0 A) (F0 m 41 ls []) := by
              intro f
              induction f with
              | zero => intros; omega
              | succ f ih =>
                intro i2 rd k1 k2 hrd H locs ls hP hD hS hl
                refine lv_iload_n hx hb dX0_shift_41 rfl (lv_at hl 3 rfl) ?_
                refine lv_iload_n hx hb dX0_shift_42 rfl (lv_at hl 2 rfl) ?_
                refine x_cle (tgt := 60) hx hb (by omega) (by omega) dX0_shift_43 (by decide) (fun c2 => ?_) (fun c2 => ?_)
                · have hfin : ∀ g j, rd g j = if j = y then ra g x else if x ≤ j ∧ j < y then ra g (j + 1) else if y < j ∧ j ≤ x then ra g (j - 1) else ra g j := by
                    rcases hrd with ⟨z1, z2, z3, z4⟩ | ⟨z1, z2, z4⟩
                    · obtain rfl : i2 = y := by omega
                      exact s_mv_d z1 z4
                    · exact s_mv_u z1 z4
                  refine lv_aload_n hx hb dX0_shift_60 rfl (lv_at hl 0 rfl) ?_
                  refine lv_iconst (v := (nI 0)) hx hb dX0_shift_61 (by decide) ?_
                  refine x_putT (v := .int (nI 0)) (ty := .boolean) hx hb hts hown hK hP hD hS 8 (by decide) q35 rfl rfl (by decide +kernel) rfl rfl (Nat.le_of_ble_eq_true rfl) dX0_shift_62 (fun H locs hP hD hS => ?_)
                  have hP : va_P (dC, dI) vwCl (WA ad cI cB (nI n) (nI fb) (rd 2) (rd 3) (rd 4) (rd 5) (rd 6) (rd 7) (nI 0) co rc cf rf fi se) H := hP
                  have hD : va_D A (WA ad cI cB (nI n) (nI fb) (rd 2) (rd 3) (rd 4) (rd 5) (rd 6) (rd 7) (nI 0) co rc cf rf fi se) := hD
                  refine lv_iconst (v := (nI 0)) hx hb dX0_shift_65 (by decide) ?_
                  exact W.iret (v := (nI 0)) hx hb hr (fun t ht hW => ⟨⟨_, ((n, q_ins (q_del q x) y (q x), fb), (rd, nI 0, co, rc, cf, rf, fi, se)), rfl, ⟨(o_shi_y q fb hn hk hj).symm, p_ok_mov hI.1 hk hj, p_rep_mov hI.2.1 hk hj (fun g _ _ j _ => hfin g j), Or.inl nI_0⟩, by rw [ht]; exact hP, va_K.moved hW.alike hK, hD⟩, hS.F ht⟩) hS.2.2 dX0_shift_66
                · have hd : y < x ∧ i2 ≤ x ∧ ∀ g j, rd g j = if i2 < j ∧ j ≤ x then ra g (j - 1) else if j = i2 then ra g x else ra g j := by
                    rcases hrd with ⟨z1, z2, z3, z4⟩ | ⟨z1, z2, z4⟩
                    · exact ⟨z1, z3, z4⟩
                    · omega
                  refine lv_aload_n hx hb dX0_shift_46 rfl (lv_at hl 0 rfl) ?_
                  refine lv_iload_n hx hb dX0_shift_47 rfl (lv_at hl 3 rfl) ?_
                  refine lv_iload_n hx hb dX0_shift_48 rfl (lv_at hl 3 rfl) ?_
                  refine lv_iconst (v := (nI 1)) hx hb dX0_shift_49 (by decide) ?_
                  refine x_sub hx hb (by omega) dX0_shift_50 ?_
                  refine x_callv (va_runV (As := [.int (nI i2), .int (nI (i2 - 1))]) (rest := []) ⟨hx, hb, hml, hown, hts⟩ (m0_exchange l dC dI ad cI cB H.size (nI n) (nI fb) rd pt co rc cf rf fi se i2 (i2 - 1) (by omega) (by omega)) (cwV 2 hts (lw_V q95 q97 qs2 q17 q98) rfl rfl rfl (by decide +kernel) ⟨Nat.le_of_ble_eq_true rfl, Nat.le_of_ble_eq_true rfl⟩) (x_preV (ci := 0) (q0 := 0) hK hP hD rfl rfl) rfl rfl hl.1 rfl (lv_room (Nat.le_of_ble_eq_true rfl)) dX0_shift_51 ⟨Nat.le_refl _, Nat.le_refl _⟩) hD hS hA (fun _ H locs _ hP hD hS => ?_)
                  have hP : va_P (dC, dI) vwCl (WA ad cI cB (nI n) (nI fb) (upd (upd (rd 2) i2 (rd 2 (i2 - 1))) (i2 - 1) (rd 2 i2)) (upd (upd (rd 3) i2 (rd 3 (i2 - 1))) (i2 - 1) (rd 3 i2)) (upd (upd (rd 4) i2 (rd 4 (i2 - 1))) (i2 - 1) (rd 4 i2)) (upd (upd (rd 5) i2 (rd 5 (i2 - 1))) (i2 - 1) (rd 5 i2)) (upd (upd (rd 6) i2 (rd 6 (i2 - 1))) (i2 - 1) (rd 6 i2)) (upd (upd (rd 7) i2 (rd 7 (i2 - 1))) (i2 - 1) (rd 7 i2)) pt co rc cf rf fi se) H := hP
                  have hD : va_D A (WA ad cI cB (nI n) (nI fb) (upd (upd (rd 2) i2 (rd 2 (i2 - 1))) (i2 - 1) (rd 2 i2)) (upd (upd (rd 3) i2 (rd 3 (i2 - 1))) (i2 - 1) (rd 3 i2)) (upd (upd (rd 4) i2 (rd 4 (i2 - 1))) (i2 - 1) (rd 4 i2)) (upd (upd (rd 5) i2 (rd 5 (i2 - 1))) (i2 - 1) (rd 5 i2)) (upd (upd (rd 6) i2 (rd 6 (i2 - 1))) (i2 - 1) (rd 6 i2)) (upd (upd (rd 7) i2 (rd 7 (i2 - 1))) (i2 - 1) (rd 7 i2)) pt co rc cf rf fi se) := hD
                  refine lv_iinc (v := (nI (i2 - 1))) (lv' := [(3, .int (nI (i2 - 1))), (0, .ref (ad 0)), (1, .int (nI x)), (2, .int (nI y))]) hx hb dX0_shift_54 hl (k := 3) rfl (x_dec (by omega)) (by decide) rfl (fun ls hl => ?_)
                  refine lv_goto (tgt := 41) hx hb dX0_shift_57 (by decide) ?_
                  exact ih (i2 - 1) (fun g => upd (upd (rd g) i2 (rd g (i2 - 1))) (i2 - 1) (rd g i2)) (by omega) (by omega) (Or.inl ⟨hd.1, by omega, by omega, s_xd_step hd.2.2 (by omega) hd.2.1⟩) _ _ _ hP hD hS (lv_sub hl [1, 2, 3, 0] rfl)
            have h0 : (y < x ∧ y ≤ x ∧ x ≤ x ∧ ∀ g j, rb g j = if x < j ∧ j ≤ x then ra g (j - 1) else if j = x then ra g x else ra g j) ∨ (x ≤ y ∧ x = x ∧ ∀ g j, rb g j = if x ≤ j ∧ j < y then ra g (j + 1) else if j = y then ra g x else ra g j) := by
              by_cases hxy : y < x
              · refine Or.inl ⟨hxy, by omega, by omega, fun g j => ?_⟩
                obtain rfl : i = x := by omega
                rw [hrb, if_neg (show ¬ (i ≤ j ∧ j < i) by omega), if_neg (show ¬ (i < j ∧ j ≤ i) by omega)]
              · refine Or.inr ⟨by omega, rfl, ?_⟩
                obtain rfl : i = y := by omega
                exact hrb
            exact loop2 n x rb (by omega) (by omega) h0 _ _ _ hP hD hS (lv_sub hl [1, 2, 3, 0] rfl)
          · refine lv_aload_n hx hb dX0_shift_25 rfl (lv_at hl 0 rfl) ?_
            refine lv_iload_n hx hb dX0_shift_26 rfl (lv_at hl 3 rfl) ?_
            refine lv_iload_n hx hb dX0_shift_27 rfl (lv_at hl 3 rfl) ?_
            refine lv_iconst (v := (nI 1)) hx hb dX0_shift_28 (by decide) ?_
            refine x_add hx hb dX0_shift_29 ?_
            refine x_callv (va_runV (As := [.int (nI i), .int (nI (i + 1))]) (rest := []) ⟨hx, hb, hml, hown, hts⟩ (m0_exchange l dC dI ad cI cB H.size (nI n) (nI fb) rb pt co rc cf rf fi se i (i + 1) (by omega) (by omega)) (cwV 2 hts (lw_V q95 q97 qs2 q17 q98) rfl rfl rfl (by decide +kernel) ⟨Nat.le_of_ble_eq_true rfl, Nat.le_of_ble_eq_true rfl⟩) (x_preV (ci := 0) (q0 := 0) hK hP hD rfl rfl) rfl rfl hl.1 rfl (lv_room (Nat.le_of_ble_eq_true rfl)) dX0_shift_30 ⟨Nat.le_refl _, Nat.le_refl _⟩) hD hS hA (fun _ H locs _ hP hD hS => ?_)
            have hP : va_P (dC, dI) vwCl (WA ad cI cB (nI n) (nI fb) (upd (upd (rb 2) i (rb 2 (i + 1))) (i + 1) (rb 2 i)) (upd (upd (rb 3) i (rb 3 (i + 1))) (i + 1) (rb 3 i)) (upd (upd (rb 4) i (rb 4 (i + 1))) (i + 1) (rb 4 i)) (upd (upd (rb 5) i (rb 5 (i + 1))) (i + 1) (rb 5 i)) (upd (upd (rb 6) i (rb 6 (i + 1))) (i + 1) (rb 6 i)) (upd (upd (rb 7) i (rb 7 (i + 1))) (i + 1) (rb 7 i)) pt co rc cf rf fi se) H := hP
            have hD : va_D A (WA ad cI cB (nI n) (nI fb) (upd (upd (rb 2) i (rb 2 (i + 1))) (i + 1) (rb 2 i)) (upd (upd (rb 3) i (rb 3 (i + 1))) (i + 1) (rb 3 i)) (upd (upd (rb 4) i (rb 4 (i + 1))) (i + 1) (rb 4 i)) (upd (upd (rb 5) i (rb 5 (i + 1))) (i + 1) (rb 5 i)) (upd (upd (rb 6) i (rb 6 (i + 1))) (i + 1) (rb 6 i)) (upd (upd (rb 7) i (rb 7 (i + 1))) (i + 1) (rb 7 i)) pt co rc cf rf fi se) := hD
            refine lv_iinc (v := (nI (i + 1))) (lv' := [(3, .int (nI (i + 1))), (0, .ref (ad 0)), (1, .int (nI x)), (2, .int (nI y))]) hx hb dX0_shift_33 hl (k := 3) rfl (x_inc _) (by decide) rfl (fun ls hl => ?_)
            refine lv_goto (tgt := 20) hx hb dX0_shift_36 (by decide) ?_
            exact ih (i + 1) (fun g => upd (upd (rb g) i (rb g (i + 1))) (i + 1) (rb g i)) (by omega) (by omega) (by omega) (by omega) (s_xu_step hrb h1) _ _ _ hP hD hS (lv_sub hl [1, 2, 3, 0] rfl)
      exact loop1 n x ra (by omega) (by omega) (by omega) (by omega) s_xu_0 _ _ _ hP hD hS (lv_sub hl [1, 2, 3, 0] rfl)
    · refine lv_if_ne (tgt := 18) hx hb dX0_shift_13 (by decide) (fun c9 => absurd (by decide) c9) (fun _ => ?_)
      refine lv_iconst (v := -1) hx hb dX0_shift_16 (by decide) ?_
      exact W.iret (v := (-1)) hx hb hr (fun t ht hW => ⟨⟨_, ((n, q, fb), (ra, pt, co, rc, cf, rf, fi, se)), rfl, ⟨(o_shi_n q fb hn (Or.inr h1)).symm, hI⟩, by rw [ht]; exact hP, va_K.moved hW.alike hK, hD⟩, hS.F ht⟩) hS.2.2 dX0_shift_17
  · refine lv_if_eq (tgt := 16) hx hb dX0_shift_5 (by decide) (fun _ => ?_) (fun c9 => absurd (by decide) c9)
    refine lv_iconst (v := -1) hx hb dX0_shift_16 (by decide) ?_
    exact W.iret (v := (-1)) hx hb hr (fun t ht hW => ⟨⟨_, ((n, q, fb), (ra, pt, co, rc, cf, rf, fi, se)), rfl, ⟨(o_shi_n q fb hn (Or.inl h1)).symm, hI⟩, by rw [ht]; exact hP, va_K.moved hW.alike hK, hD⟩, hS.F ht⟩) hS.2.2 dX0_shift_17
set_option maxHeartbeats 4000000 in
set_option maxRecDepth 100000 in
/-- otherwise -/
theorem m0_otherwise (l : Launch) (dC : Nat → ClassId) (dI : Nat → Nat → Nat) (ad : Nat → Nat) (cI cB : ClassId) (sz : Nat) (n fb : Nat) (q : Nat → pV) (ra : Nat → Nat → Int32) (pt co rc : Int32) (cf rf fi se : Nat → Int32) (a : Int32) (hI : p_IT n q fb ra pt co rc cf rf fi se) : Met l yX0_otherwise (ws_ yX0_otherwise cX0_otherwise 3 (some .int)) { frames := 0, cells := 0, slots := 0, locals := 0 } (va_Pc [.ref (ad 0), .int a] (PreW (dC, dI) (tyT cI cB) (WA ad cI cB (nI n) (nI fb) (ra 2) (ra 3) (ra 4) (ra 5) (ra 6) (ra 7) pt co rc cf rf fi se) sz)) (va_Qi (fun (r : Int32) (u : pS × pR) => (r, u.1) = o_oth n q fb a ∧ p_ITr u.1.1 u.1.2.1 u.1.2.2 u.2) (fun (u : pS × pR) => PosW (dC, dI) (tyT cI cB) (va_A (WA ad cI cB (nI n) (nI fb) (ra 2) (ra 3) (ra 4) (ra 5) (ra 6) (ra 7) pt co rc cf rf fi se) sz) (WTr ad cI cB (nI u.1.1) (nI u.1.2.2) u.2)) (va_A (WA ad cI cB (nI n) (nI fb) (ra 2) (ra 3) (ra 4) (ra 5) (ra 6) (ra 7) pt co rc cf rf fi se) sz)) 0 0 (va_A (WA ad cI cB (nI n) (nI fb) (ra 2) (ra 3) (ra 4) (ra 5) (ra 6) (ra 7) pt co rc cf rf fi se) sz) := by
  refine Met.ofW (cc := cX0_otherwise) (maxL := 3) (ret := (some .int)) (by decide) rfl ?_
  intro p e s m args below meth c s₁ B hml hv
  obtain ⟨rfl, hsz, hP, hK, hD0⟩ := hv
  have hx := B.exec
  have hb := B.bytes
  have hr := B.returns
  have hts := atoms_spec (ws := (ws_ yX0_otherwise cX0_otherwise 3 (some .int))) B.pre
  have hts : ∀ w ∈ lw_all, w.before _ s = true := fun w h => hts w (List.mem_cons_of_mem _ h)
  have hown : s.vm.findClass RX0 = some m.cls := findClass_of_methodNamed B.named
  have hlocks := B.notSynchronized
  subst hsz
  have hD := hD0.self (sz := s.heap.size)
  generalize hAe : va_A (WA ad cI cB (nI n) (nI fb) (ra 2) (ra 3) (ra 4) (ra 5) (ra 6) (ra 7) pt co rc cf rf fi se) s.heap.size = A at hD ⊢
  have hA : ∀ q : Nat, s.heap.size ≤ q → A q := fun q h => by rw [← hAe]; exact Or.inr h
  have hS : va_S A s.heap s.heap [] := va_S.rf
  have hP : va_P (dC, dI) vwCl (WA ad cI cB (nI n) (nI fb) (ra 2) (ra 3) (ra 4) (ra 5) (ra 6) (ra 7) pt co rc cf rf fi se) s.heap := hP
  have hl := lv_entry ([.ref (ad 0), .int a]) (n := 3) (Nat.le_of_ble_eq_true rfl)
  rw [lg_entry_eq]
  generalize (lg_sl ([.ref (ad 0), .int a]) ++ List.replicate (3 - (lg_sl ([.ref (ad 0), .int a])).length) Slot.unset).toArray = ls at hl ⊢
  have hl : lv_has ls 3 [(0, .ref (ad 0)), (1, .int a)] := hl
  refine lv_aload_n hx hb dX0_otherwise_0 rfl (lv_at hl 0 rfl) ?_
  refine x_getT (v := .int (nI fb)) hx hb hts hown hK hP 1 (by decide) q28 rfl rfl dX0_otherwise_1 ?_
  refine lv_istore_n (lv' := [(2, .int (nI fb)), (0, .ref (ad 0)), (1, .int a)]) hx hb dX0_otherwise_4 rfl hl (by decide) rfl (fun ls hl => ?_)
  refine lv_aload_n hx hb dX0_otherwise_5 rfl (lv_at hl 1 rfl) ?_
  refine lv_iload_n hx hb dX0_otherwise_6 rfl (lv_at hl 2 rfl) ?_
  refine lv_iconst (v := (nI 3)) hx hb dX0_otherwise_7 (by decide) ?_
  refine lv_iand hx hb dX0_otherwise_8 (x_top (pk_and a 2 (by decide)) ?_)
  refine x_putT (v := .int (nI (a.toBitVec.toNat % 4))) (ty := .int) hx hb hts hown hK hP hD hS 1 (by decide) q28 rfl rfl (by decide +kernel) rfl rfl (Nat.le_of_ble_eq_true rfl) dX0_otherwise_9 (fun H locs hP hD hS => ?_)
  have hP : va_P (dC, dI) vwCl (WA ad cI cB (nI n) (nI (a.toBitVec.toNat % 4)) (ra 2) (ra 3) (ra 4) (ra 5) (ra 6) (ra 7) pt co rc cf rf fi se) H := hP
  have hD : va_D A (WA ad cI cB (nI n) (nI (a.toBitVec.toNat % 4)) (ra 2) (ra 3) (ra 4) (ra 5) (ra 6) (ra 7) pt co rc cf rf fi se) := hD
  refine lv_iload_n hx hb dX0_otherwise_12 rfl (lv_at hl 0 rfl) ?_
  exact W.iret (v := (nI fb)) hx hb hr (fun t ht hW => ⟨⟨_, ((n, q, a.toBitVec.toNat % 4), (ra, pt, co, rc, cf, rf, fi, se)), rfl, ⟨rfl, ⟨hI.1.1, Nat.mod_lt _ (by decide), hI.1.2.2⟩, hI.2⟩, by rw [ht]; exact hP, va_K.moved hW.alike hK, hD⟩, hS.F ht⟩) hS.2.2 dX0_otherwise_13
end
section
/-! ===== painting: plain rows ===== -/
def p_hit (v : pV) (h : Nat → Nat) (j : Nat) : Bool := decide ((v.2.1 / 32 ≤ h (j / 4) ∧ h (j / 4) ≤ v.2.1 % 32) ∧ v.2.2 / 2 ^ (j % 4) % 2 = 1)
def p_hc (v : pV) (g : Nat → Nat) (c : Nat) : Bool := decide (v.1 / 32 ≤ g c ∧ g c ≤ v.1 % 32)
theorem p_bit16 {v t : Nat} (ht : t < 4) : v % 16 / 2 ^ t % 2 = v / 2 ^ t % 2 := by
  have h : t = 0 ∨ t = 1 ∨ t = 2 ∨ t = 3 := by omega
  rcases h with rfl | rfl | rfl | rfl
  · show v % 16 / 1 % 2 = v / 1 % 2; omega
  · show v % 16 / 2 % 2 = v / 2 % 2; omega
  · show v % 16 / 4 % 2 = v / 4 % 2; omega
  · show v % 16 / 8 % 2 = v / 8 % 2; omega
theorem pc_0 {G A : Nat → Int32} {c : Nat} {b : Nat → Bool} : ∀ x, G x = if x / 104 = c ∧ x % 104 < 0 ∧ b (x % 104) = true then A x else G x := fun x => by
  rw [if_neg (fun y => absurd y.2.1 (Nat.not_lt_zero _))]
theorem pc_yes {F G A : Nat → Int32} {c k : Nat} {b : Nat → Bool} (h : ∀ x, F x = if x / 104 = c ∧ x % 104 < k ∧ b (x % 104) = true then A x else G x) (hk : k < 104) (hb : b k = true) : ∀ x, upd F (104 * c + k) (A (104 * c + k)) x = if x / 104 = c ∧ x % 104 < k + 1 ∧ b (x % 104) = true then A x else G x := by
  intro x
  by_cases e : x = 104 * c + k
  · have e1 : x / 104 = c := by omega
    have e2 : x % 104 = k := by omega
    rw [if_pos ⟨e1, by omega, by rw [e2]; exact hb⟩, e, pk_us]
  · rw [pk_un e, h]
    by_cases z : x / 104 = c ∧ x % 104 < k ∧ b (x % 104) = true
    · rw [if_pos z, if_pos ⟨z.1, by omega, z.2.2⟩]
    · rw [if_neg z, if_neg (fun y => z ⟨y.1, by have h1 := y.1; have h2 := y.2.1; omega, y.2.2⟩)]
theorem pc_no {F G A : Nat → Int32} {c k : Nat} {b : Nat → Bool} (h : ∀ x, F x = if x / 104 = c ∧ x % 104 < k ∧ b (x % 104) = true then A x else G x) (hb : b k = false) : ∀ x, F x = if x / 104 = c ∧ x % 104 < k + 1 ∧ b (x % 104) = true then A x else G x := by
  intro x
  rw [h]
  by_cases z : x / 104 = c ∧ x % 104 < k ∧ b (x % 104) = true
  · rw [if_pos z, if_pos ⟨z.1, by omega, z.2.2⟩]
  · rw [if_neg z, if_neg (fun y => z ⟨y.1, by
      have h1 := y.2.1
      by_cases e : x % 104 = k
      · have h2 := y.2.2
        rw [e, hb] at h2
        cases h2
      · omega, y.2.2⟩)]
theorem pr_0 {G A : Nat → Int32} {M : Nat} {a b : Nat → Bool} : ∀ x, G x = if x / 104 < 0 ∧ a (x / 104) = true ∧ x % 104 < M ∧ b (x % 104) = true then A x else G x := fun x => by
  rw [if_neg (fun y => absurd y.1 (Nat.not_lt_zero _))]
theorem pr_yes {F F2 G A A2 : Nat → Int32} {c M : Nat} {a b : Nat → Bool} (h : ∀ x, F x = if x / 104 < c ∧ a (x / 104) = true ∧ x % 104 < M ∧ b (x % 104) = true then A x else G x) (h2 : ∀ x, F2 x = if x / 104 = c ∧ x % 104 < M ∧ b (x % 104) = true then A2 x else F x) (hA : ∀ x, x / 104 = c → A2 x = A x) (ha : a c = true) : ∀ x, F2 x = if x / 104 < c + 1 ∧ a (x / 104) = true ∧ x % 104 < M ∧ b (x % 104) = true then A x else G x := by
  intro x
  rw [h2]
  by_cases z : x / 104 = c ∧ x % 104 < M ∧ b (x % 104) = true
  · rw [if_pos z, if_pos ⟨by omega, by rw [z.1]; exact ha, z.2⟩, hA x z.1]
  · rw [if_neg z, h]
    by_cases y : x / 104 < c ∧ a (x / 104) = true ∧ x % 104 < M ∧ b (x % 104) = true
    · rw [if_pos y, if_pos ⟨by omega, y.2⟩]
    · rw [if_neg y, if_neg (fun w => by
        by_cases e : x / 104 = c
        · exact z ⟨e, w.2.2⟩
        · exact y ⟨by have := w.1; omega, w.2⟩)]
theorem pr_no {F G A : Nat → Int32} {c M : Nat} {a b : Nat → Bool} (h : ∀ x, F x = if x / 104 < c ∧ a (x / 104) = true ∧ x % 104 < M ∧ b (x % 104) = true then A x else G x) (ha : a c = false) : ∀ x, F x = if x / 104 < c + 1 ∧ a (x / 104) = true ∧ x % 104 < M ∧ b (x % 104) = true then A x else G x := by
  intro x
  rw [h]
  by_cases y : x / 104 < c ∧ a (x / 104) = true ∧ x % 104 < M ∧ b (x % 104) = true
  · rw [if_pos y, if_pos ⟨by omega, y.2⟩]
  · rw [if_neg y, if_neg (fun w => by
      by_cases e : x / 104 = c
      · have h2 := w.2.1
        rw [e, ha] at h2
        cases h2
      · exact y ⟨by have := w.1; omega, w.2⟩)]
/-- the byte arrays hold bytes -/
def p_by (f : Nat → Int32) : Prop := ∀ x, x < 2704 → (f x).toInt8.toInt32 = f x
theorem p_by_if {F G : Nat → Int32} {P : Nat → Prop} {p : Nat} (hp : p < 12) (hG : p_by G) (h : ∀ x, (P x ∧ F x = nI p) ∨ F x = G x) : p_by F := by
  intro x hx
  rcases h x with h | h
  · rw [h.2]
    exact fa_byte_small (by omega)
  · rw [h]
    exact hG x hx
theorem p_by_c {F G : Nat → Int32} {P : Nat → Prop} {p : Nat} [DecidablePred P] (hp : p < 12) (hG : p_by G) (h : ∀ x, F x = if P x then nI p else G x) : p_by F := by
  refine p_by_if (P := P) hp hG fun x => ?_
  by_cases z : P x
  · exact Or.inl ⟨z, by rw [h, if_pos z]⟩
  · exact Or.inr (by rw [h, if_neg z])
def p_Lv (n : Nat) (q : Nat → pV) (C R : Nat) (g h : Nat → Nat) (k : Nat) (fi se : Nat → Int32) : Prop := ∀ c r t, c < C → r < R → t < 4 → fi (104 * c + 4 * r + t) = p_cd n (p_DF n q k (g c) (h r) t) ∧ se (104 * c + 4 * r + t) = p_cd n (p_DF2 n q k (g c) (h r) t)
theorem p_Lv_n {n : Nat} {q : Nat → pV} {C R : Nat} {g h : Nat → Nat} {fi se : Nat → Int32} (hC : C ≤ 25) (hR : R ≤ 25) (hf : ∀ x, x < 2704 → fi x = -1 ∧ se x = -1) : p_Lv n q C R g h n fi se := by
  intro c r t hc hr ht
  rw [p_DF_n, p_DF2_n, p_cd_n]
  exact hf _ (by omega)
theorem p_Lv_0 {n : Nat} {q : Nat → pV} {C R : Nat} {g h : Nat → Nat} {fi se : Nat → Int32} (hL : p_Lv n q C R g h 0 fi se) : p_Bd n q C R g h fi se := by
  intro c r t hc hr ht
  have h1 := hL c r t hc hr ht
  rw [p_DF_0, p_DF2_0] at h1
  exact h1
theorem p_Lv_step {n : Nat} {q : Nat → pV} {C R : Nat} {g h : Nat → Nat} {j : Nat} {f1 s1 f2 s2 : Nat → Int32} (hR : R ≤ 25) (hj : j < n) (hL : p_Lv n q C R g h (j + 1) f1 s1)
    (hf : ∀ x, f2 x = if x / 104 < C ∧ p_hc (q j) g (x / 104) = true ∧ x % 104 < 4 * R ∧ p_hit (q j) h (x % 104) = true then nI j else f1 x)
    (hs : ∀ x, s2 x = if x / 104 < C ∧ p_hc (q j) g (x / 104) = true ∧ x % 104 < 4 * R ∧ p_hit (q j) h (x % 104) = true then f1 x else s1 x) : p_Lv n q C R g h j f2 s2 := by
  intro c r t hc hr ht
  obtain ⟨h1, h2⟩ := hL c r t hc hr ht
  have e1 : (104 * c + 4 * r + t) / 104 = c := by omega
  have e2 : (104 * c + 4 * r + t) % 104 = 4 * r + t := by omega
  have e3 : (4 * r + t) / 4 = r := by omega
  have e4 : (4 * r + t) % 4 = t := by omega
  rw [hf, hs, e1, e2]
  by_cases hm : p_m (q j) (g c) (h r) t = true
  · obtain ⟨a1, a2, a3⟩ := p_m_iff.mp hm
    have hz : c < C ∧ p_hc (q j) g c = true ∧ 4 * r + t < 4 * R ∧ p_hit (q j) h (4 * r + t) = true := ⟨hc, decide_eq_true a1, by omega, by unfold p_hit; rw [e3, e4]; exact decide_eq_true ⟨a2, a3⟩⟩
    rw [if_pos hz, if_pos hz, (p_DF_yes hj hm).1, (p_DF_yes hj hm).2, p_cd_lt hj]
    exact ⟨rfl, h1⟩
  · have hz : ¬ (c < C ∧ p_hc (q j) g c = true ∧ 4 * r + t < 4 * R ∧ p_hit (q j) h (4 * r + t) = true) := by
      intro ⟨_, z1, _, z2⟩
      unfold p_hit at z2
      rw [e3, e4] at z2
      have z2 := of_decide_eq_true z2
      exact hm (p_m_iff.mpr ⟨of_decide_eq_true z1, z2.1, z2.2⟩)
    have hm := Bool.eq_false_iff.mpr hm
    rw [if_neg hz, if_neg hz, (p_DF_no hm).1, (p_DF_no hm).2]
    exact ⟨h1, h2⟩
theorem p_arr_up {C x : Nat} {cf : Nat → Int32} {g : Nat → Nat} (h : ∀ c, c < C → cf c = nI (g c)) : ∀ c, c < C + 1 → upd cf C (nI x) c = nI (p_up g C x c) := by
  intro c hc
  by_cases e : c = C
  · rw [e, pk_us, p_up_s]
  · rw [pk_un e, p_up_n e]
    exact h c (by omega)
/-- the intervals' sum: rows of one column, all columns -/
def p_FL (n : Nat) (q : Nat → pV) (g h : Nat → Nat) (k c r t : Nat) : Nat := fb_sm (fun t => if p_D n q (g c) (h r) t = k then 1 else 0) t
def p_S1 (n : Nat) (q : Nat → pV) (g h : Nat → Nat) (k c r : Nat) : Nat := fb_sm (fun r => fb_sm (fun t => if p_D n q (g c) (h r) t = k then 1 else 0) 4 * ((g (c + 1) - g c) * (h (r + 1) - h r))) r
def p_S2 (n : Nat) (q : Nat → pV) (g h : Nat → Nat) (k R c : Nat) : Nat := fb_sm (fun c => p_S1 n q g h k c R) c
theorem p_FL_y {n : Nat} {q : Nat → pV} {g h : Nat → Nat} {k c r t : Nat} (e : p_D n q (g c) (h r) t = k) : p_FL n q g h k c r t + 1 = p_FL n q g h k c r (t + 1) := by
  unfold p_FL
  rw [fb_sm_succ, if_pos e]
theorem p_FL_n {n : Nat} {q : Nat → pV} {g h : Nat → Nat} {k c r t : Nat} (e : ¬ p_D n q (g c) (h r) t = k) : p_FL n q g h k c r t + 0 = p_FL n q g h k c r (t + 1) := by
  unfold p_FL
  rw [fb_sm_succ, if_neg e]
theorem p_S1_s (n : Nat) (q : Nat → pV) (g h : Nat → Nat) (k c r : Nat) : p_S1 n q g h k c r + p_FL n q g h k c r 4 * ((g (c + 1) - g c) * (h (r + 1) - h r)) = p_S1 n q g h k c (r + 1) := by
  unfold p_S1 p_FL
  exact (fb_sm_succ _ r).symm
theorem p_S2_s (n : Nat) (q : Nat → pV) (g h : Nat → Nat) (k R c : Nat) : p_S2 n q g h k R c + p_S1 n q g h k c R = p_S2 n q g h k R (c + 1) := by
  unfold p_S2
  rw [fb_sm_succ]
theorem p_S2_end {n C R : Nat} {q : Nat → pV} {g h : Nat → Nat} (hc : p_cut (fun i => (q i).1) n C g) (hr : p_cut (fun i => (q i).2.1) n R h) (k : Nat) : p_S2 n q g h k R C = p_N n q k := by
  rw [p_count hc hr k]
  unfold p_S2 p_S1
  exact Eq.refl _
theorem x_dec1 (j : Nat) : nI j + Int32.ofInt (-1) = nI j - nI 1 := by
  show nI j + (-1) = nI j - 1
  grind
theorem x_m1 {k : Nat} (hk : k < 2 ^ 30) : nI k - nI 1 < 0 ↔ k = 0 := by
  constructor
  · intro h
    rcases Nat.eq_zero_or_pos k with z | z
    · exact z
    · rw [pk_sub z] at h
      exact absurd h (nI_pos (by omega))
  · intro h
    rw [h]
    exact pk_sneg (by decide) (by decide)
theorem x_m1s (j : Nat) : nI (j + 1) - nI 1 = nI j := by
  rw [pk_sub (by omega)]
  rfl
end
section
/-! ===== questions: plain rows ===== -/
def u_I (P : Nat → Prop) (x b : Nat) : Prop := (b = 1 ∧ ∃ y, y < x ∧ P y) ∨ (b = 0 ∧ ∀ y, y < x → ¬ P y)
theorem u_I_0 (P : Nat → Prop) : u_I P 0 0 := Or.inr ⟨rfl, fun y hy => absurd hy (Nat.not_lt_zero y)⟩
theorem u_I_no {P : Nat → Prop} {x b : Nat} (h : u_I P x b) (hx : ¬ P x) : u_I P (x + 1) b := by
  rcases h with ⟨h1, y, hy, h2⟩ | ⟨h1, h2⟩
  · exact Or.inl ⟨h1, y, by omega, h2⟩
  · refine Or.inr ⟨h1, fun y hy => ?_⟩
    by_cases e : y = x
    · rw [e]; exact hx
    · exact h2 y (by omega)
theorem u_I_yes {P : Nat → Prop} {x : Nat} (hx : P x) : u_I P (x + 1) 1 := Or.inl ⟨rfl, x, by omega, hx⟩
theorem u_I_mono {P : Nat → Prop} {x b : Nat} (h : u_I P x b) (hb : 0 < b) : u_I P (x + 1) 1 := by
  rcases h with ⟨h1, y, hy, h2⟩ | ⟨h1, h2⟩
  · exact Or.inl ⟨rfl, y, by omega, h2⟩
  · omega
theorem u_I_lt {P : Nat → Prop} {x b : Nat} (h : u_I P x b) : b < 2 := by
  rcases h with ⟨h1, -⟩ | ⟨h1, -⟩ <;> omega
theorem u_I_pos {P : Nat → Prop} {x b : Nat} (h : u_I P x b) (hb : 0 < b) : ∃ y, y < x ∧ P y := by
  rcases h with ⟨h1, h2⟩ | ⟨h1, h2⟩
  · exact h2
  · omega
theorem u_I_zero {P : Nat → Prop} {x b : Nat} (h : u_I P x b) (hb : b = 0) : ∀ y, y < x → ¬ P y := by
  rcases h with ⟨h1, h2⟩ | ⟨h1, h2⟩
  · omega
  · exact h2
def u_S (n : Nat) (q : Nat → pV) (R : Nat) (g h : Nat → Nat) (k y : Nat) : Prop := y % 104 < 4 * R ∧ p_D n q (g (y / 104)) (h (y % 104 / 4)) (y % 4) = k
def u_M (n : Nat) (q : Nat → pV) (fb R : Nat) (g h : Nat → Nat) (k y : Nat) : Prop := u_S n q R g h k y ∧ ¬ p_act n q fb (p_D2 n q k (g (y / 104)) (h (y % 104 / 4)) (y % 4)) = p_act n q fb k
theorem u_fld {c r t R : Nat} (hr : r < R) (hR : R ≤ 25) (ht : t < 4) : (104 * c + 4 * r + t) / 104 = c ∧ (104 * c + 4 * r + t) % 104 / 4 = r ∧ (104 * c + 4 * r + t) % 4 = t ∧ (104 * c + 4 * r + t) % 104 < 4 * R := by omega
theorem u_ex {n C R : Nat} {q : Nat → pV} {g h : Nat → Nat} (hc : p_cut (fun i => (q i).1) n C g) (hr : p_cut (fun i => (q i).2.1) n R h) (k : Nat) (F : Nat → Bool) : (∃ x, x < 4096 ∧ (p_DP n q x = k ∧ F (p_DP2 n q k x) = true)) ↔ ∃ y, y < 104 * C ∧ (u_S n q R g h k y ∧ F (p_D2 n q k (g (y / 104)) (h (y % 104 / 4)) (y % 4)) = true) := by
  rw [p_ex hc hr k F]
  constructor
  · intro ⟨c, r, t, h1, h2, h3, h4, h5⟩
    obtain ⟨e1, e2, e3, e4⟩ := u_fld (c := c) h2 hr.2.1 h3
    refine ⟨104 * c + 4 * r + t, by have := hr.2.1; omega, ⟨e4, ?_⟩, ?_⟩
    · rw [e1, e2, e3]; exact h4
    · rw [e1, e2, e3]; exact h5
  · intro ⟨y, h1, h2, h3⟩
    exact ⟨y / 104, y % 104 / 4, y % 4, by omega, by have := h2.1; omega, by omega, h2.2, h3⟩
theorem u_some {n C R : Nat} {q : Nat → pV} {g h : Nat → Nat} (hc : p_cut (fun i => (q i).1) n C g) (hr : p_cut (fun i => (q i).2.1) n R h) (k : Nat) : (∃ x, x < 4096 ∧ p_DP n q x = k) ↔ ∃ y, y < 104 * C ∧ u_S n q R g h k y := by
  have e := u_ex hc hr k (fun _ => true)
  constructor
  · intro ⟨x, h1, h2⟩
    obtain ⟨y, h3, h4, -⟩ := e.mp ⟨x, h1, h2, rfl⟩
    exact ⟨y, h3, h4⟩
  · intro ⟨x, h1, h2⟩
    obtain ⟨y, h3, h4, -⟩ := e.mpr ⟨x, h1, h2, rfl⟩
    exact ⟨y, h3, h4⟩
theorem u_mat {n C R : Nat} {q : Nat → pV} {g h : Nat → Nat} (hc : p_cut (fun i => (q i).1) n C g) (hr : p_cut (fun i => (q i).2.1) n R h) (fb k : Nat) : (∃ x, x < 4096 ∧ (p_DP n q x = k ∧ ¬ p_act n q fb (p_DP2 n q k x) = p_act n q fb k)) ↔ ∃ y, y < 104 * C ∧ u_M n q fb R g h k y := by
  have e := u_ex hc hr k (fun z => decide (¬ p_act n q fb z = p_act n q fb k))
  constructor
  · intro ⟨x, h1, h2, h5⟩
    obtain ⟨y, h3, h4, h6⟩ := e.mp ⟨x, h1, h2, decide_eq_true h5⟩
    exact ⟨y, h3, h4, of_decide_eq_true h6⟩
  · intro ⟨x, h1, h2, h5⟩
    obtain ⟨y, h3, h4, h6⟩ := e.mpr ⟨x, h1, h2, decide_eq_true h5⟩
    exact ⟨y, h3, h4, of_decide_eq_true h6⟩
/-- what use answers, out of the two marks -/
theorem u_end {n C R : Nat} {q : Nat → pV} {g h : Nat → Nat} (hc : p_cut (fun i => (q i).1) n C g) (hr : p_cut (fun i => (q i).2.1) n R h) {fb k sm mt : Nat} (h1 : u_I (u_S n q R g h k) (104 * C) sm) (h2 : u_I (u_M n q fb R g h k) (104 * C) mt) : (sm = 0 → p_use n q fb k = 1) ∧ (0 < sm → 0 < mt → p_use n q fb k = 0) ∧ (0 < sm → mt = 0 → p_use n q fb k = 2) := by
  refine ⟨fun z => ?_, fun z y => ?_, fun z y => ?_⟩
  · refine p_use_1 fun x hx hk => ?_
    obtain ⟨y, hy, h3⟩ := (u_some hc hr k).mp ⟨x, hx, hk⟩
    exact u_I_zero h1 z y hy h3
  · obtain ⟨x, hx, h3, h4⟩ := (u_mat hc hr fb k).mpr (u_I_pos h2 y)
    exact p_use_0 hx h3 h4
  · obtain ⟨x, hx, h3⟩ := (u_some hc hr k).mpr (u_I_pos h1 z)
    refine p_use_2 hx h3 fun w hw h4 => ?_
    refine Classical.byContradiction fun h5 => ?_
    obtain ⟨v, hv, h6⟩ := (u_mat hc hr fb k).mp ⟨w, hw, h4, h5⟩
    exact u_I_zero h2 y v hv h6
theorem w_t {n C R : Nat} {q : Nat → pV} {g h : Nat → Nat} (hc : p_cut (fun i => (q i).1) n C g) (hr : p_cut (fun i => (q i).2.1) n R h) {k c j : Nat} (h1 : c < C) (h2 : j < 4 * R) (hk : p_D n q (g c) (h (j / 4)) (j % 4) = k)
    (hb : ∀ c' r' t', c' < c → r' < R → t' < 4 → ¬ p_D n q (g c') (h r') t' = k) (hb2 : ∀ r' t', t' < 4 → 4 * r' + t' < j → ¬ p_D n q (g c) (h r') t' = k) : nI (128 * g c + 4 * h (j / 4) + j % 4) = p_wit n q k := by
  have b1 := p_cut_lt hc h1
  have b2 := p_cut_lt hr (show j / 4 < R by omega)
  have e := p_wit_is hc hr h1 (show j / 4 < R by omega) (show j % 4 < 4 by omega) hk hb (fun r' t' h3 h4 => hb2 r' t' h3 (by omega))
  unfold p_wit
  rw [e, p_cd_lt (by omega)]
theorem w_n {n C R : Nat} {q : Nat → pV} {g h : Nat → Nat} (hc : p_cut (fun i => (q i).1) n C g) (hr : p_cut (fun i => (q i).2.1) n R h) {k : Nat} (hb : ∀ c r t, c < C → r < R → t < 4 → ¬ p_D n q (g c) (h r) t = k) : -1 = p_wit n q k := by
  unfold p_wit
  rw [p_wit_no hc hr hb, p_cd_n]
/-! having: -1, 0, 1 .. stand for n, 0, 1 .. -/
def h_ix (n i : Nat) : Nat := if i = 0 then n else i - 1
def p_HV (n : Nat) (q : Nat → pV) (fb a k : Nat) : Nat := fb_sm (fun i => if p_act n q fb (h_ix n i) = a then p_N n q (h_ix n i) else 0) k
theorem p_HV_y {n : Nat} {q : Nat → pV} {fb a k j : Nat} (hj : j = h_ix n k) (h : p_act n q fb j = a) : p_HV n q fb a k + p_N n q j = p_HV n q fb a (k + 1) := by
  subst hj
  unfold p_HV
  rw [fb_sm_succ, if_pos h]
theorem p_HV_n {n : Nat} {q : Nat → pV} {fb a k j : Nat} (hj : j = h_ix n k) (h : ¬ p_act n q fb j = a) : p_HV n q fb a k = p_HV n q fb a (k + 1) := by
  subst hj
  unfold p_HV
  rw [fb_sm_succ, if_neg h, Nat.add_zero]
theorem p_rot (F : Nat → Nat) (n : Nat) : fb_sm (fun i => F (h_ix n i)) (n + 1) = fb_sm F (n + 1) := by
  rw [Nat.add_comm n 1, fb_sm_split, Nat.add_comm 1 n, fb_sm_succ F n]
  have e1 : fb_sm (fun i => F (h_ix n i)) 1 = F n := by
    rw [fb_sm_succ (fun i => F (h_ix n i)) 0]
    show 0 + F (h_ix n 0) = F n
    rw [Nat.zero_add, show h_ix n 0 = n from if_pos rfl]
  rw [e1, Nat.add_comm]
  congr 1
  refine fb_sm_cong fun k _ => ?_
  show F (h_ix n (1 + k)) = F k
  rw [show h_ix n (1 + k) = k from (if_neg (by omega)).trans (by omega)]
theorem p_HV_end (n : Nat) (q : Nat → pV) (fb : Nat) (a : Int32) : nI (p_HV n q fb (a.toBitVec.toNat % 4) (n + 1)) = (o_hav n q fb a).1 := by
  have e : p_HV n q fb (a.toBitVec.toNat % 4) (n + 1) = p_HX n q fb (a.toBitVec.toNat % 4) 4096 := by
    unfold p_HV p_HX
    rw [p_rot (fun j => if p_act n q fb j = a.toBitVec.toNat % 4 then p_N n q j else 0) n]
    refine Eq.trans ?_ (p_hav (p_DP n q) (p_act n q fb) n (a.toBitVec.toNat % 4) (fun x => p_D_le n q _ _ _) 4096).symm
    unfold p_N
    exact Eq.refl _
  rw [e]
  exact o_hav_e q fb a
theorem x_m1ge {n k : Nat} (hn : n ≤ 12) (hk : k ≤ 13) : nI n ≤ nI k - nI 1 ↔ n + 1 ≤ k := by
  rcases Nat.eq_zero_or_pos k with z | z
  · subst z
    constructor
    · intro h
      have h2 : nI 0 - nI 1 < 0 := (x_m1 (by decide)).mpr rfl
      rw [Int32.le_iff_toInt_le] at h
      rw [Int32.lt_iff_toInt_lt] at h2
      rw [nI_toInt (by omega)] at h
      have h0 : (0 : Int32).toInt = 0 := by decide
      omega
    · intro h
      omega
  · rw [pk_sub z, nI_leI (by omega) (by omega)]
    omega
theorem x_m1i (k : Nat) : nI k - nI 1 + Int32.ofInt 1 = nI (k + 1) - nI 1 := by
  rw [x_m1s]
  show nI k - 1 + 1 = nI k
  grind
theorem x_ii (k : Nat) : nI k + Int32.ofInt 1 = nI (k + 1 + 1) - nI 1 := by
  rw [x_m1s]
  exact nI_1 k
end
section
set_option maxHeartbeats 4000000 in
set_option maxRecDepth 100000 in
/-- intervalOf(a, C, x) -/
theorem m0_intervalOf (l : Launch) (dC : Nat → ClassId) (dI : Nat → Nat → Nat) (cI cB : ClassId) (a : Nat) (cf : Nat → Int32) (fc : Nat → Nat) (n C : Nat) (g : Nat → Nat) (x : Nat) (hc : p_cut fc n C g) (hcf : ∀ c, c ≤ C → cf c = nI (g c)) (hx32 : x < 32) : Met l yX0_intervalOf (ws_ yX0_intervalOf cX0_intervalOf 7 (some .int)) { frames := 0, cells := 0, slots := 0, locals := 0 } (va_Pc [.ref a, .int (nI C), .int (nI x)] (RoW (dC, dI) (tyT cI cB) ([(a, .inl (cI, 27, .inl cf))]))) (vp_Si (fun (r : Int32) => ∃ c : Nat, c < C ∧ r = nI c ∧ g c ≤ x ∧ x < g (c + 1))) 0 0 (fun _ => False) := by
  refine Met.ofW (cc := cX0_intervalOf) (maxL := 7) (ret := (some .int)) (by decide) rfl ?_
  intro p e s m args below meth c s₁ B hml hv
  obtain ⟨rfl, hP, hK⟩ := hv
  have hx := B.exec
  have hb := B.bytes
  have hr := B.returns
  have hts := atoms_spec (ws := (ws_ yX0_intervalOf cX0_intervalOf 7 (some .int))) B.pre
  have hts : ∀ w ∈ lw_all, w.before _ s = true := fun w h => hts w (List.mem_cons_of_mem _ h)
  have hown : s.vm.findClass RX0 = some m.cls := findClass_of_methodNamed B.named
  have hlocks := B.notSynchronized
  have hP : va_P (dC, dI) vwCl ([(a, .inl (cI, 27, .inl cf))]) s.heap := hP
  have hl := lv_entry ([.ref a, .int (nI C), .int (nI x)]) (n := 7) (Nat.le_of_ble_eq_true rfl)
  rw [lg_entry_eq]
  generalize (lg_sl ([.ref a, .int (nI C), .int (nI x)]) ++ List.replicate (7 - (lg_sl ([.ref a, .int (nI C), .int (nI x)])).length) Slot.unset).toArray = ls at hl ⊢
  have hl : lv_has ls 7 [(0, .ref a), (1, .int (nI C)), (2, .int (nI x))] := hl
  have hC0 := hc.1
  have hC25 := hc.2.1
  refine lv_iconst (v := (nI 0)) hx hb dX0_intervalOf_0 (by decide) ?_
  refine lv_istore_n (lv' := [(3, .int (nI 0)), (0, .ref a), (1, .int (nI C)), (2, .int (nI x))]) hx hb dX0_intervalOf_1 rfl hl (by decide) rfl (fun ls hl => ?_)
  refine lv_iload_n hx hb dX0_intervalOf_2 rfl (lv_at hl 2 rfl) ?_
  refine lv_iconst (v := (nI 1)) hx hb dX0_intervalOf_3 (by decide) ?_
  refine x_sub hx hb (by omega) dX0_intervalOf_4 ?_
  refine lv_istore (lv' := [(4, .int (nI (C - 1))), (3, .int (nI 0)), (0, .ref a), (1, .int (nI C)), (2, .int (nI x))]) hx hb dX0_intervalOf_5 hl (by decide) rfl (fun ls hl => ?_)
  refine lv_iconst (v := (nI 0)) hx hb dX0_intervalOf_7 (by decide) ?_
  refine lv_istore (lv' := [(5, .int (nI 0)), (4, .int (nI (C - 1))), (3, .int (nI 0)), (0, .ref a), (1, .int (nI C)), (2, .int (nI x))]) hx hb dX0_intervalOf_8 hl (by decide) rfl (fun ls hl => ?_)
  have loop : ∀ (f : Nat) (lw hg st : Nat), lw ≤ hg → hg < C → 1 ≤ f → hg - lw < 2 ^ (f - 1) → st + f = 6 → g lw ≤ x → x < g (hg + 1) → ∀ (ls : Array Slot), lv_has ls 7 [(0, .ref a), (1, .int (nI C)), (2, .int (nI x)), (3, .int (nI lw)), (4, .int (nI hg)), (5, .int (nI st))] → W p l e (headSpec (ws_ yX0_intervalOf cX0_intervalOf 7 (some .int)) { frames := 0, cells := 0, slots := 0, locals := 0 }).room s m ([.ref a, .int (nI C), .int (nI x)] : List Value).toArray below meth c s.heap [] 0 0 (MQ below (vp_Si (fun (r : Int32) => ∃ c : Nat, c < C ∧ r = nI c ∧ g c ≤ x ∧ x < g (c + 1))) ([.ref a, .int (nI C), .int (nI x)] : List Value).toArray s 0 0 (fun _ => False)) (F0 m 10 ls []) := by
    intro f
    induction f with
    | zero => intros; omega
    | succ f ih =>
      intro lw hg st h1 h2 h3 h4 h5 h6 h7 ls hl
      have h4 : hg - lw < 2 ^ f := h4
      refine lv_iload hx hb dX0_intervalOf_10 (lv_at hl 5 rfl) ?_
      refine lv_bipush (v := (nI 6)) hx hb dX0_intervalOf_12 (by decide) ?_
      refine x_cge (tgt := 59) hx hb (by omega) (by omega) dX0_intervalOf_14 (by decide) (fun c6 => ?_) (fun c6 => ?_)
      · omega
      · refine lv_iload_n hx hb dX0_intervalOf_17 rfl (lv_at hl 3 rfl) ?_
        refine lv_iload hx hb dX0_intervalOf_18 (lv_at hl 4 rfl) ?_
        refine x_cge (tgt := 59) hx hb (by omega) (by omega) dX0_intervalOf_20 (by decide) (fun ci => ?_) (fun ci => ?_)
        · obtain rfl : lw = hg := by omega
          refine lv_iload_n hx hb dX0_intervalOf_59 rfl (lv_at hl 3 rfl) ?_
          exact W.iret (v := (nI lw)) hx hb hr (fun t ht hW => ⟨_, rfl, ⟨lw, h2, rfl, h6, h7⟩, ht⟩) (fun _ h => by cases h) dX0_intervalOf_60
        · have hf1 : 1 ≤ f := by
            rcases Nat.eq_zero_or_pos f with z | z
            · rw [z] at h4; omega
            · exact z
          have hp : 2 ^ f = 2 ^ (f - 1) * 2 := by rw [← Nat.pow_succ]; congr 1; omega
          have hgm := p_cut_le hc (show (lw + hg + 1) / 2 ≤ C by omega)
          refine lv_iload_n hx hb dX0_intervalOf_23 rfl (lv_at hl 3 rfl) ?_
          refine lv_iload hx hb dX0_intervalOf_24 (lv_at hl 4 rfl) ?_
          refine x_add hx hb dX0_intervalOf_26 ?_
          refine lv_iconst (v := (nI 1)) hx hb dX0_intervalOf_27 (by decide) ?_
          refine x_add hx hb dX0_intervalOf_28 ?_
          refine lv_iconst (v := (nI 2)) hx hb dX0_intervalOf_29 (by decide) ?_
          refine x_div hx hb (by omega) (by decide) (by decide) dX0_intervalOf_30 ?_
          refine lv_istore (lv' := [(6, .int (nI ((lw + hg + 1) / 2))), (0, .ref a), (1, .int (nI C)), (2, .int (nI x)), (3, .int (nI lw)), (4, .int (nI hg)), (5, .int (nI st))]) hx hb dX0_intervalOf_31 hl (by decide) rfl (fun ls hl => ?_)
          refine lv_aload_n hx hb dX0_intervalOf_33 rfl (lv_at hl 1 rfl) ?_
          refine lv_iload hx hb dX0_intervalOf_34 (lv_at hl 0 rfl) ?_
          refine x_iald (v := (nI (g ((lw + hg + 1) / 2)))) hx hb hK hP 0 0 rfl rfl (by omega) (by decide) (hcf _ (by omega)) dX0_intervalOf_36 ?_
          refine lv_iload_n hx hb dX0_intervalOf_37 rfl (lv_at hl 3 rfl) ?_
          refine x_cgt (tgt := 47) hx hb (by omega) (by omega) dX0_intervalOf_38 (by decide) (fun cm => ?_) (fun cm => ?_)
          · refine lv_iload hx hb dX0_intervalOf_47 (lv_at hl 0 rfl) ?_
            refine lv_iconst (v := (nI 1)) hx hb dX0_intervalOf_49 (by decide) ?_
            refine x_sub hx hb (by omega) dX0_intervalOf_50 ?_
            refine lv_istore (lv' := [(4, .int (nI (((lw + hg + 1) / 2) - 1))), (6, .int (nI ((lw + hg + 1) / 2))), (0, .ref a), (1, .int (nI C)), (2, .int (nI x)), (3, .int (nI lw)), (5, .int (nI st))]) hx hb dX0_intervalOf_51 hl (by decide) rfl (fun ls hl => ?_)
            refine lv_iinc (v := (nI (st + 1))) (lv' := [(5, .int (nI (st + 1))), (4, .int (nI (((lw + hg + 1) / 2) - 1))), (6, .int (nI ((lw + hg + 1) / 2))), (0, .ref a), (1, .int (nI C)), (2, .int (nI x)), (3, .int (nI lw))]) hx hb dX0_intervalOf_53 hl (k := 6) rfl (x_inc _) (by decide) rfl (fun ls hl => ?_)
            refine lv_goto (tgt := 10) hx hb dX0_intervalOf_56 (by decide) ?_
            exact ih lw ((lw + hg + 1) / 2 - 1) (st + 1) (by omega) (by omega) hf1 (by omega) (by omega) h6 (by rw [show (lw + hg + 1) / 2 - 1 + 1 = (lw + hg + 1) / 2 by omega]; exact cm) _ (lv_sub hl [3, 4, 5, 6, 1, 0] rfl)
          · refine lv_iload hx hb dX0_intervalOf_41 (lv_at hl 0 rfl) ?_
            refine lv_istore_n (lv' := [(3, .int (nI ((lw + hg + 1) / 2))), (6, .int (nI ((lw + hg + 1) / 2))), (0, .ref a), (1, .int (nI C)), (2, .int (nI x)), (4, .int (nI hg)), (5, .int (nI st))]) hx hb dX0_intervalOf_43 rfl hl (by decide) rfl (fun ls hl => ?_)
            refine lv_goto (tgt := 53) hx hb dX0_intervalOf_44 (by decide) ?_
            refine lv_iinc (v := (nI (st + 1))) (lv' := [(5, .int (nI (st + 1))), (3, .int (nI ((lw + hg + 1) / 2))), (6, .int (nI ((lw + hg + 1) / 2))), (0, .ref a), (1, .int (nI C)), (2, .int (nI x)), (4, .int (nI hg))]) hx hb dX0_intervalOf_53 hl (k := 6) rfl (x_inc _) (by decide) rfl (fun ls hl => ?_)
            refine lv_goto (tgt := 10) hx hb dX0_intervalOf_56 (by decide) ?_
            exact ih ((lw + hg + 1) / 2) hg (st + 1) (by omega) h2 hf1 (by omega) (by omega) cm h7 _ (lv_sub hl [3, 4, 5, 1, 6, 0] rfl)
  have hg0 := hc.2.2.1
  have hgC := hc.2.2.2.1
  exact loop 6 0 (C - 1) 0 (by omega) (by omega) (by omega) (show C - 1 - 0 < 32 by omega) (by omega) (by omega) (by rw [show C - 1 + 1 = C by omega]; omega) _ (lv_sub hl [3, 4, 5, 2, 1, 0] rfl)
set_option maxHeartbeats 4000000 in
set_option maxRecDepth 100000 in
/-- isEdge(a, b, x) -/
theorem m0_isEdge (l : Launch) (dC : Nat → ClassId) (dI : Nat → Nat → Nat) (ad : Nat → Nat) (cI cB : ClassId) (n : Nat) (fb pt co rc : Int32) (a b : Nat) (lo hi : Nat → Int32) (fc : Nat → Nat) (x : Nat) (hn : n ≤ 12) (hx32 : x < 32) (hf : ∀ i, i < n → fc i < 1024 ∧ lo i = nI (fc i / 32) ∧ hi i = nI (fc i % 32)) : Met l yX0_isEdge (ws_ yX0_isEdge cX0_isEdge 5 (some .boolean)) { frames := 0, cells := 0, slots := 0, locals := 0 } (va_Pc [.ref (ad 0), .ref a, .ref b, .int (nI x)] (RoW (dC, dI) (tyT cI cB) ([(ad 0, .inr (0, fsT ad (nI n) fb pt co rc)), (a, .inl (cI, 12, .inl lo)), (b, .inl (cI, 12, .inl hi))]))) (vp_Si (fun (r : Int32) => (r = 1 ∧ ∃ i, i < n ∧ (fc i / 32 = x ∨ fc i % 32 + 1 = x)) ∨ (r = 0 ∧ ∀ i, i < n → ¬ (fc i / 32 = x ∨ fc i % 32 + 1 = x)))) 0 0 (fun _ => False) := by
  refine Met.ofW (cc := cX0_isEdge) (maxL := 5) (ret := (some .boolean)) (by decide) rfl ?_
  intro p e s m args below meth c s₁ B hml hv
  obtain ⟨rfl, hP, hK⟩ := hv
  have hx := B.exec
  have hb := B.bytes
  have hr := B.returns
  have hts := atoms_spec (ws := (ws_ yX0_isEdge cX0_isEdge 5 (some .boolean))) B.pre
  have hts : ∀ w ∈ lw_all, w.before _ s = true := fun w h => hts w (List.mem_cons_of_mem _ h)
  have hown : s.vm.findClass RX0 = some m.cls := findClass_of_methodNamed B.named
  have hlocks := B.notSynchronized
  have hP : va_P (dC, dI) vwCl ([(ad 0, .inr (0, fsT ad (nI n) fb pt co rc)), (a, .inl (cI, 12, .inl lo)), (b, .inl (cI, 12, .inl hi))]) s.heap := hP
  have hl := lv_entry ([.ref (ad 0), .ref a, .ref b, .int (nI x)]) (n := 5) (Nat.le_of_ble_eq_true rfl)
  rw [lg_entry_eq]
  generalize (lg_sl ([.ref (ad 0), .ref a, .ref b, .int (nI x)]) ++ List.replicate (5 - (lg_sl ([.ref (ad 0), .ref a, .ref b, .int (nI x)])).length) Slot.unset).toArray = ls at hl ⊢
  have hl : lv_has ls 5 [(0, .ref (ad 0)), (1, .ref a), (2, .ref b), (3, .int (nI x))] := hl
  refine lv_iconst (v := (nI 0)) hx hb dX0_isEdge_0 (by decide) ?_
  refine lv_istore (lv' := [(4, .int (nI 0)), (0, .ref (ad 0)), (1, .ref a), (2, .ref b), (3, .int (nI x))]) hx hb dX0_isEdge_1 hl (by decide) rfl (fun ls hl => ?_)
  have loop : ∀ (f : Nat) (i : Nat), i ≤ n → n < i + f → (∀ j, j < i → ¬ (fc j / 32 = x ∨ fc j % 32 + 1 = x)) → ∀ (ls : Array Slot), lv_has ls 5 [(0, .ref (ad 0)), (1, .ref a), (2, .ref b), (3, .int (nI x)), (4, .int (nI i))] → W p l e (headSpec (ws_ yX0_isEdge cX0_isEdge 5 (some .boolean)) { frames := 0, cells := 0, slots := 0, locals := 0 }).room s m ([.ref (ad 0), .ref a, .ref b, .int (nI x)] : List Value).toArray below meth c s.heap [] 0 0 (MQ below (vp_Si (fun (r : Int32) => (r = 1 ∧ ∃ i, i < n ∧ (fc i / 32 = x ∨ fc i % 32 + 1 = x)) ∨ (r = 0 ∧ ∀ i, i < n → ¬ (fc i / 32 = x ∨ fc i % 32 + 1 = x)))) ([.ref (ad 0), .ref a, .ref b, .int (nI x)] : List Value).toArray s 0 0 (fun _ => False)) (F0 m 3 ls []) := by
    intro f
    induction f with
    | zero => intros; omega
    | succ f ih =>
      intro i h1 h2 h3 ls hl
      refine lv_iload hx hb dX0_isEdge_3 (lv_at hl 4 rfl) ?_
      refine lv_aload_n hx hb dX0_isEdge_5 rfl (lv_at hl 0 rfl) ?_
      refine x_getT (v := .int (nI n)) hx hb hts hown hK hP 0 (by decide) q27 rfl rfl dX0_isEdge_6 ?_
      refine x_cge (tgt := 38) hx hb (by omega) (by omega) dX0_isEdge_9 (by decide) (fun ci => ?_) (fun ci => ?_)
      · obtain rfl : i = n := by omega
        refine lv_iconst (v := (nI 0)) hx hb dX0_isEdge_38 (by decide) ?_
        exact W.zret (v := (nI 0)) hx hb hr rfl (fun t ht hW => ⟨_, rfl, Or.inr ⟨rfl, h3⟩, ht⟩) (fun _ h => by cases h) dX0_isEdge_39
      · obtain ⟨hfi, hlo, hhi⟩ := hf i ci
        refine lv_aload_n hx hb dX0_isEdge_12 rfl (lv_at hl 1 rfl) ?_
        refine lv_iload hx hb dX0_isEdge_13 (lv_at hl 4 rfl) ?_
        refine x_iald (v := (nI (fc i / 32))) hx hb hK hP 1 0 rfl rfl (by omega) (by decide) hlo dX0_isEdge_15 ?_
        refine lv_iload_n hx hb dX0_isEdge_16 rfl (lv_at hl 3 rfl) ?_
        refine x_ceq (tgt := 30) hx hb (by omega) (by omega) dX0_isEdge_17 (by decide) (fun c1 => ?_) (fun c1 => ?_)
        · refine lv_iconst (v := (nI 1)) hx hb dX0_isEdge_30 (by decide) ?_
          exact W.zret (v := (nI 1)) hx hb hr rfl (fun t ht hW => ⟨_, rfl, Or.inl ⟨rfl, i, ci, Or.inl c1⟩, ht⟩) (fun _ h => by cases h) dX0_isEdge_31
        · refine lv_aload_n hx hb dX0_isEdge_20 rfl (lv_at hl 2 rfl) ?_
          refine lv_iload hx hb dX0_isEdge_21 (lv_at hl 4 rfl) ?_
          refine x_iald (v := (nI (fc i % 32))) hx hb hK hP 2 0 rfl rfl (by omega) (by decide) hhi dX0_isEdge_23 ?_
          refine lv_iconst (v := (nI 1)) hx hb dX0_isEdge_24 (by decide) ?_
          refine x_add hx hb dX0_isEdge_25 ?_
          refine lv_iload_n hx hb dX0_isEdge_26 rfl (lv_at hl 3 rfl) ?_
          refine x_cne (tgt := 32) hx hb (by omega) (by omega) dX0_isEdge_27 (by decide) (fun c2 => ?_) (fun c2 => ?_)
          · refine lv_iinc (v := (nI (i + 1))) (lv' := [(4, .int (nI (i + 1))), (0, .ref (ad 0)), (1, .ref a), (2, .ref b), (3, .int (nI x))]) hx hb dX0_isEdge_32 hl (k := 4) rfl (x_inc _) (by decide) rfl (fun ls hl => ?_)
            refine lv_goto (tgt := 3) hx hb dX0_isEdge_35 (by decide) ?_
            exact ih (i + 1) (by omega) (by omega) (fun j hj => by
                            by_cases e : j = i
                            · rw [e]; exact fun z => z.elim c1 c2
                            · exact h3 j (by omega)) _ (lv_sub hl [1, 2, 3, 4, 0] rfl)
          · refine lv_iconst (v := (nI 1)) hx hb dX0_isEdge_30 (by decide) ?_
            exact W.zret (v := (nI 1)) hx hb hr rfl (fun t ht hW => ⟨_, rfl, Or.inl ⟨rfl, i, ci, Or.inr c2⟩, ht⟩) (fun _ h => by cases h) dX0_isEdge_31
  exact loop (n + 1) 0 (by omega) (by omega) (fun j hj => absurd hj (Nat.not_lt_zero j)) _ (lv_sub hl [1, 2, 3, 4, 0] rfl)
set_option maxHeartbeats 4000000 in
set_option maxRecDepth 100000 in
/-- packetsOf(x, y) -/
theorem m0_packetsOf (l : Launch) (dC : Nat → ClassId) (dI : Nat → Nat → Nat) (ad : Nat → Nat) (cI cB : ClassId) (n fb : Nat) (q : Nat → pV) (ra : Nat → Nat → Int32) (pt co rc : Int32) (cf rf fi se : Nat → Int32) (C R : Nat) (g h : Nat → Nat) (hE : p_Ed n q C R g h co rc cf rf) (x y : Nat) (hx1 : x < C) (hy1 : y < R) : Met l yX0_packetsOf (ws_ yX0_packetsOf cX0_packetsOf 3 (some .int)) { frames := 0, cells := 0, slots := 0, locals := 0 } (va_Pc [.ref (ad 0), .int (nI x), .int (nI y)] (RoW (dC, dI) (tyT cI cB) (WA ad cI cB (nI n) (nI fb) (ra 2) (ra 3) (ra 4) (ra 5) (ra 6) (ra 7) pt co rc cf rf fi se))) (vp_Si (fun (r : Int32) => r = nI ((g (x + 1) - g x) * (h (y + 1) - h y)))) 0 0 (fun _ => False) := by
  refine Met.ofW (cc := cX0_packetsOf) (maxL := 3) (ret := (some .int)) (by decide) rfl ?_
  intro p e s m args below meth c s₁ B hml hv
  obtain ⟨rfl, hP, hK⟩ := hv
  have hx := B.exec
  have hb := B.bytes
  have hr := B.returns
  have hts := atoms_spec (ws := (ws_ yX0_packetsOf cX0_packetsOf 3 (some .int))) B.pre
  have hts : ∀ w ∈ lw_all, w.before _ s = true := fun w h => hts w (List.mem_cons_of_mem _ h)
  have hown : s.vm.findClass RX0 = some m.cls := findClass_of_methodNamed B.named
  have hlocks := B.notSynchronized
  have hP : va_P (dC, dI) vwCl (WA ad cI cB (nI n) (nI fb) (ra 2) (ra 3) (ra 4) (ra 5) (ra 6) (ra 7) pt co rc cf rf fi se) s.heap := hP
  have hl := lv_entry ([.ref (ad 0), .int (nI x), .int (nI y)]) (n := 3) (Nat.le_of_ble_eq_true rfl)
  rw [lg_entry_eq]
  generalize (lg_sl ([.ref (ad 0), .int (nI x), .int (nI y)]) ++ List.replicate (3 - (lg_sl ([.ref (ad 0), .int (nI x), .int (nI y)])).length) Slot.unset).toArray = ls at hl ⊢
  have hl : lv_has ls 3 [(0, .ref (ad 0)), (1, .int (nI x)), (2, .int (nI y))] := hl
  obtain ⟨-, -, hc, hr1, hcf, hrf⟩ := hE
  have hC25 := hc.2.1
  have hR25 := hr1.2.1
  have hgm := hc.2.2.2.2.1 x hx1
  have hhm := hr1.2.2.2.2.1 y hy1
  refine lv_aload_n hx hb dX0_packetsOf_0 rfl (lv_at hl 0 rfl) ?_
  refine x_getT (v := .ref (ad 11)) hx hb hts hown hK hP 11 (by decide) q38 rfl rfl dX0_packetsOf_1 ?_
  refine lv_iload_n hx hb dX0_packetsOf_4 rfl (lv_at hl 1 rfl) ?_
  refine lv_iconst (v := (nI 1)) hx hb dX0_packetsOf_5 (by decide) ?_
  refine x_add hx hb dX0_packetsOf_6 ?_
  refine x_iald (v := (nI (g (x + 1)))) hx hb hK hP 7 0 rfl rfl (by omega) (by decide) (hcf _ (by omega)) dX0_packetsOf_7 ?_
  refine lv_aload_n hx hb dX0_packetsOf_8 rfl (lv_at hl 0 rfl) ?_
  refine x_getT (v := .ref (ad 11)) hx hb hts hown hK hP 11 (by decide) q38 rfl rfl dX0_packetsOf_9 ?_
  refine lv_iload_n hx hb dX0_packetsOf_12 rfl (lv_at hl 1 rfl) ?_
  refine x_iald (v := (nI (g x))) hx hb hK hP 7 0 rfl rfl (by omega) (by decide) (hcf _ (by omega)) dX0_packetsOf_13 ?_
  refine x_sub hx hb (by omega) dX0_packetsOf_14 ?_
  refine lv_aload_n hx hb dX0_packetsOf_15 rfl (lv_at hl 0 rfl) ?_
  refine x_getT (v := .ref (ad 12)) hx hb hts hown hK hP 12 (by decide) q39 rfl rfl dX0_packetsOf_16 ?_
  refine lv_iload_n hx hb dX0_packetsOf_19 rfl (lv_at hl 2 rfl) ?_
  refine lv_iconst (v := (nI 1)) hx hb dX0_packetsOf_20 (by decide) ?_
  refine x_add hx hb dX0_packetsOf_21 ?_
  refine x_iald (v := (nI (h (y + 1)))) hx hb hK hP 8 0 rfl rfl (by omega) (by decide) (hrf _ (by omega)) dX0_packetsOf_22 ?_
  refine lv_aload_n hx hb dX0_packetsOf_23 rfl (lv_at hl 0 rfl) ?_
  refine x_getT (v := .ref (ad 12)) hx hb hts hown hK hP 12 (by decide) q39 rfl rfl dX0_packetsOf_24 ?_
  refine lv_iload_n hx hb dX0_packetsOf_27 rfl (lv_at hl 2 rfl) ?_
  refine x_iald (v := (nI (h y))) hx hb hK hP 8 0 rfl rfl (by omega) (by decide) (hrf _ (by omega)) dX0_packetsOf_28 ?_
  refine x_sub hx hb (by omega) dX0_packetsOf_29 ?_
  refine x_mul hx hb dX0_packetsOf_30 ?_
  exact W.iret (v := (nI (((g (x + 1)) - (g x)) * ((h (y + 1)) - (h y))))) hx hb hr (fun t ht hW => ⟨_, rfl, rfl, ht⟩) (fun _ h => by cases h) dX0_packetsOf_31
set_option maxHeartbeats 4000000 in
set_option maxRecDepth 100000 in
/-- fieldsOf(x, y, a) -/
theorem m0_fieldsOf (l : Launch) (dC : Nat → ClassId) (dI : Nat → Nat → Nat) (ad : Nat → Nat) (cI cB : ClassId) (n fb : Nat) (q : Nat → pV) (ra : Nat → Nat → Int32) (pt co rc : Int32) (cf rf fi se : Nat → Int32) (C R : Nat) (g h : Nat → Nat) (hE : p_Ed n q C R g h co rc cf rf) (hB : p_Bd n q C R g h fi se) (hn : n ≤ 12) (x y k : Nat) (a : Int32) (hx1 : x < C) (hy1 : y < R) (hk : k ≤ n) (ha : a = p_cd n k) : Met l yX0_fieldsOf (ws_ yX0_fieldsOf cX0_fieldsOf 6 (some .int)) { frames := 0, cells := 0, slots := 0, locals := 0 } (va_Pc [.ref (ad 0), .int (nI x), .int (nI y), .int a] (RoW (dC, dI) (tyT cI cB) (WA ad cI cB (nI n) (nI fb) (ra 2) (ra 3) (ra 4) (ra 5) (ra 6) (ra 7) pt co rc cf rf fi se))) (vp_Si (fun (r : Int32) => r = nI (p_FL n q g h k x y 4))) 0 0 (fun _ => False) := by
  refine Met.ofW (cc := cX0_fieldsOf) (maxL := 6) (ret := (some .int)) (by decide) rfl ?_
  intro p e s m args below meth c s₁ B hml hv
  obtain ⟨rfl, hP, hK⟩ := hv
  have hx := B.exec
  have hb := B.bytes
  have hr := B.returns
  have hts := atoms_spec (ws := (ws_ yX0_fieldsOf cX0_fieldsOf 6 (some .int))) B.pre
  have hts : ∀ w ∈ lw_all, w.before _ s = true := fun w h => hts w (List.mem_cons_of_mem _ h)
  have hown : s.vm.findClass RX0 = some m.cls := findClass_of_methodNamed B.named
  have hlocks := B.notSynchronized
  have hP : va_P (dC, dI) vwCl (WA ad cI cB (nI n) (nI fb) (ra 2) (ra 3) (ra 4) (ra 5) (ra 6) (ra 7) pt co rc cf rf fi se) s.heap := hP
  have hl := lv_entry ([.ref (ad 0), .int (nI x), .int (nI y), .int a]) (n := 6) (Nat.le_of_ble_eq_true rfl)
  rw [lg_entry_eq]
  generalize (lg_sl ([.ref (ad 0), .int (nI x), .int (nI y), .int a]) ++ List.replicate (6 - (lg_sl ([.ref (ad 0), .int (nI x), .int (nI y), .int a])).length) Slot.unset).toArray = ls at hl ⊢
  have hl : lv_has ls 6 [(0, .ref (ad 0)), (1, .int (nI x)), (2, .int (nI y)), (3, .int a)] := hl
  have hC25 := hE.2.2.1.2.1
  have hR25 := hE.2.2.2.1.2.1
  refine lv_iconst (v := (nI 0)) hx hb dX0_fieldsOf_0 (by decide) ?_
  refine lv_istore (lv' := [(4, .int (nI 0)), (0, .ref (ad 0)), (1, .int (nI x)), (2, .int (nI y)), (3, .int a)]) hx hb dX0_fieldsOf_1 hl (by decide) rfl (fun ls hl => ?_)
  refine lv_iconst (v := (nI 0)) hx hb dX0_fieldsOf_3 (by decide) ?_
  refine lv_istore (lv' := [(5, .int (nI 0)), (4, .int (nI 0)), (0, .ref (ad 0)), (1, .int (nI x)), (2, .int (nI y)), (3, .int a)]) hx hb dX0_fieldsOf_4 hl (by decide) rfl (fun ls hl => ?_)
  have loop : ∀ (f : Nat) (t : Nat), t ≤ 4 → 4 < t + f → ∀ (ls : Array Slot), lv_has ls 6 [(0, .ref (ad 0)), (1, .int (nI x)), (2, .int (nI y)), (3, .int a), (4, .int (nI (p_FL n q g h k x y t))), (5, .int (nI t))] → W p l e (headSpec (ws_ yX0_fieldsOf cX0_fieldsOf 6 (some .int)) { frames := 0, cells := 0, slots := 0, locals := 0 }).room s m ([.ref (ad 0), .int (nI x), .int (nI y), .int a] : List Value).toArray below meth c s.heap [] 0 0 (MQ below (vp_Si (fun (r : Int32) => r = nI (p_FL n q g h k x y 4))) ([.ref (ad 0), .int (nI x), .int (nI y), .int a] : List Value).toArray s 0 0 (fun _ => False)) (F0 m 6 ls []) := by
    intro f
    induction f with
    | zero => intros; omega
    | succ f ih =>
      intro t h1 h2 ls hl
      refine lv_iload hx hb dX0_fieldsOf_6 (lv_at hl 5 rfl) ?_
      refine lv_iconst (v := (nI 4)) hx hb dX0_fieldsOf_8 (by decide) ?_
      refine x_cge (tgt := 48) hx hb (by omega) (by omega) dX0_fieldsOf_9 (by decide) (fun ci => ?_) (fun ci => ?_)
      · have et : t = 4 := by omega
        rw [et] at hl
        refine lv_iload hx hb dX0_fieldsOf_48 (lv_at hl 4 rfl) ?_
        exact W.iret (v := (nI (p_FL n q g h k x y 4))) hx hb hr (fun t ht hW => ⟨_, rfl, rfl, ht⟩) (fun _ h => by cases h) dX0_fieldsOf_50
      · have hd : fi (104 * x + 4 * y + t) = a ↔ p_D n q (g x) (h y) t = k := by rw [(hB x y t hx1 hy1 ci).1, ha]; exact p_cd_inj hn (p_D_le n q _ _ _) hk
        refine lv_iload hx hb dX0_fieldsOf_12 (lv_at hl 4 rfl) ?_
        refine lv_aload_n hx hb dX0_fieldsOf_14 rfl (lv_at hl 0 rfl) ?_
        refine x_getT (v := .ref (ad 13)) hx hb hts hown hK hP 13 (by decide) q40 rfl rfl dX0_fieldsOf_15 ?_
        refine lv_bipush (v := (nI 104)) hx hb dX0_fieldsOf_18 (by decide) ?_
        refine lv_iload_n hx hb dX0_fieldsOf_20 rfl (lv_at hl 1 rfl) ?_
        refine x_mul hx hb dX0_fieldsOf_21 ?_
        refine lv_iconst (v := (nI 4)) hx hb dX0_fieldsOf_22 (by decide) ?_
        refine lv_iload_n hx hb dX0_fieldsOf_23 rfl (lv_at hl 2 rfl) ?_
        refine x_mul hx hb dX0_fieldsOf_24 ?_
        refine x_add hx hb dX0_fieldsOf_25 ?_
        refine lv_iload hx hb dX0_fieldsOf_26 (lv_at hl 5 rfl) ?_
        refine x_add hx hb dX0_fieldsOf_28 ?_
        refine x_bald (v := (fi (104 * x + 4 * y + t))) hx hb hK hP 9 1 rfl rfl (by omega) (by decide) rfl dX0_fieldsOf_29 ?_
        refine lv_iload_n hx hb dX0_fieldsOf_30 rfl (lv_at hl 3 rfl) ?_
        refine lv_icmp_ne (tgt := 38) hx hb dX0_fieldsOf_31 (by decide) (fun cd => ?_) (fun cd => ?_)
        · refine lv_iconst (v := (nI 0)) hx hb dX0_fieldsOf_38 (by decide) ?_
          refine x_add hx hb dX0_fieldsOf_39 ?_
          refine x_top (by rw [p_FL_n (fun z => cd (hd.mpr z))]) ?_
          refine lv_istore (lv' := [(4, .int (nI (p_FL n q g h k x y (t + 1)))), (0, .ref (ad 0)), (1, .int (nI x)), (2, .int (nI y)), (3, .int a), (5, .int (nI t))]) hx hb dX0_fieldsOf_40 hl (by decide) rfl (fun ls hl => ?_)
          refine lv_iinc (v := (nI (t + 1))) (lv' := [(5, .int (nI (t + 1))), (4, .int (nI (p_FL n q g h k x y (t + 1)))), (0, .ref (ad 0)), (1, .int (nI x)), (2, .int (nI y)), (3, .int a)]) hx hb dX0_fieldsOf_42 hl (k := 5) rfl (x_inc _) (by decide) rfl (fun ls hl => ?_)
          refine lv_goto (tgt := 6) hx hb dX0_fieldsOf_45 (by decide) ?_
          exact ih (t + 1) (by omega) (by omega) _ (lv_sub hl [2, 3, 4, 5, 1, 0] rfl)
        · refine lv_iconst (v := (nI 1)) hx hb dX0_fieldsOf_34 (by decide) ?_
          refine lv_goto (tgt := 39) hx hb dX0_fieldsOf_35 (by decide) ?_
          refine x_add hx hb dX0_fieldsOf_39 ?_
          refine x_top (by rw [p_FL_y (hd.mp cd)]) ?_
          refine lv_istore (lv' := [(4, .int (nI (p_FL n q g h k x y (t + 1)))), (0, .ref (ad 0)), (1, .int (nI x)), (2, .int (nI y)), (3, .int a), (5, .int (nI t))]) hx hb dX0_fieldsOf_40 hl (by decide) rfl (fun ls hl => ?_)
          refine lv_iinc (v := (nI (t + 1))) (lv' := [(5, .int (nI (t + 1))), (4, .int (nI (p_FL n q g h k x y (t + 1)))), (0, .ref (ad 0)), (1, .int (nI x)), (2, .int (nI y)), (3, .int a)]) hx hb dX0_fieldsOf_42 hl (k := 5) rfl (x_inc _) (by decide) rfl (fun ls hl => ?_)
          refine lv_goto (tgt := 6) hx hb dX0_fieldsOf_45 (by decide) ?_
          exact ih (t + 1) (by omega) (by omega) _ (lv_sub hl [2, 3, 4, 5, 1, 0] rfl)
  exact loop 5 0 (by omega) (by omega) _ (lv_sub hl [2, 3, 4, 5, 1, 0] rfl)
end
section
set_option maxHeartbeats 4000000 in
set_option maxRecDepth 100000 in
/-- findEdges() -/
theorem m0_findEdges (l : Launch) (dC : Nat → ClassId) (dI : Nat → Nat → Nat) (ad : Nat → Nat) (cI cB : ClassId) (sz : Nat) (n fb : Nat) (q : Nat → pV) (ra : Nat → Nat → Int32) (pt co rc : Int32) (cf rf fi se : Nat → Int32) (hok : p_ok n q fb) (hrep : p_rep e_T 2 7 n q ra) : Met l yX0_findEdges (ws_ yX0_findEdges cX0_findEdges 2 none) { frames := 1, cells := 0, slots := 0, locals := 24 } (va_Pc [.ref (ad 0)] (PreW (dC, dI) (tyT cI cB) (WA ad cI cB (nI n) (nI fb) (ra 2) (ra 3) (ra 4) (ra 5) (ra 6) (ra 7) pt co rc cf rf fi se) sz)) (va_Qv (fun (u : Int32 × Int32 × (Nat → Int32) × (Nat → Int32)) => ∃ (C R : Nat) (g h : Nat → Nat), p_Ed n q C R g h u.1 u.2.1 u.2.2.1 u.2.2.2) (fun (u : Int32 × Int32 × (Nat → Int32) × (Nat → Int32)) => PosW (dC, dI) (tyT cI cB) (va_A (WA ad cI cB (nI n) (nI fb) (ra 2) (ra 3) (ra 4) (ra 5) (ra 6) (ra 7) pt co rc cf rf fi se) sz) (WT ad cI cB (nI n) (nI fb) ra pt u.1 u.2.1 u.2.2.1 u.2.2.2 fi se)) (va_A (WA ad cI cB (nI n) (nI fb) (ra 2) (ra 3) (ra 4) (ra 5) (ra 6) (ra 7) pt co rc cf rf fi se) sz)) 0 0 (va_A (WA ad cI cB (nI n) (nI fb) (ra 2) (ra 3) (ra 4) (ra 5) (ra 6) (ra 7) pt co rc cf rf fi se) sz) := by
  refine Met.ofW (cc := cX0_findEdges) (maxL := 2) (ret := none) (by decide) rfl ?_
  intro p e s m args below meth c s₁ B hml hv
  obtain ⟨rfl, hsz, hP, hK, hD0⟩ := hv
  have hx := B.exec
  have hb := B.bytes
  have hr := B.returns
  have hts := atoms_spec (ws := (ws_ yX0_findEdges cX0_findEdges 2 none)) B.pre
  have hts : ∀ w ∈ lw_all, w.before _ s = true := fun w h => hts w (List.mem_cons_of_mem _ h)
  have hown : s.vm.findClass RX0 = some m.cls := findClass_of_methodNamed B.named
  have hlocks := B.notSynchronized
  subst hsz
  have hD := hD0.self (sz := s.heap.size)
  generalize hAe : va_A (WA ad cI cB (nI n) (nI fb) (ra 2) (ra 3) (ra 4) (ra 5) (ra 6) (ra 7) pt co rc cf rf fi se) s.heap.size = A at hD ⊢
  have hA : ∀ q : Nat, s.heap.size ≤ q → A q := fun q h => by rw [← hAe]; exact Or.inr h
  have hS : va_S A s.heap s.heap [] := va_S.rf
  have hP : va_P (dC, dI) vwCl (WA ad cI cB (nI n) (nI fb) (ra 2) (ra 3) (ra 4) (ra 5) (ra 6) (ra 7) pt co rc cf rf fi se) s.heap := hP
  have hl := lv_entry ([.ref (ad 0)]) (n := 2) (Nat.le_of_ble_eq_true rfl)
  rw [lg_entry_eq]
  generalize (lg_sl ([.ref (ad 0)]) ++ List.replicate (2 - (lg_sl ([.ref (ad 0)])).length) Slot.unset).toArray = ls at hl ⊢
  have hl : lv_has ls 2 [(0, .ref (ad 0))] := hl
  have hn := hok.1
  refine lv_aload_n hx hb dX0_findEdges_0 rfl (lv_at hl 0 rfl) ?_
  refine lv_iconst (v := (nI 0)) hx hb dX0_findEdges_1 (by decide) ?_
  refine x_putT (v := .int (nI 0)) (ty := .int) hx hb hts hown hK hP hD hS 9 (by decide) q36 rfl rfl (by decide +kernel) rfl rfl (Nat.le_of_ble_eq_true rfl) dX0_findEdges_2 (fun H locs hP hD hS => ?_)
  have hP : va_P (dC, dI) vwCl (WA ad cI cB (nI n) (nI fb) (ra 2) (ra 3) (ra 4) (ra 5) (ra 6) (ra 7) pt (nI 0) rc cf rf fi se) H := hP
  have hD : va_D A (WA ad cI cB (nI n) (nI fb) (ra 2) (ra 3) (ra 4) (ra 5) (ra 6) (ra 7) pt (nI 0) rc cf rf fi se) := hD
  refine lv_aload_n hx hb dX0_findEdges_5 rfl (lv_at hl 0 rfl) ?_
  refine lv_iconst (v := (nI 0)) hx hb dX0_findEdges_6 (by decide) ?_
  refine x_putT (v := .int (nI 0)) (ty := .int) hx hb hts hown hK hP hD hS 10 (by decide) q37 rfl rfl (by decide +kernel) rfl rfl (Nat.le_of_ble_eq_true rfl) dX0_findEdges_7 (fun H locs hP hD hS => ?_)
  have hP : va_P (dC, dI) vwCl (WA ad cI cB (nI n) (nI fb) (ra 2) (ra 3) (ra 4) (ra 5) (ra 6) (ra 7) pt (nI 0) (nI 0) cf rf fi se) H := hP
  have hD : va_D A (WA ad cI cB (nI n) (nI fb) (ra 2) (ra 3) (ra 4) (ra 5) (ra 6) (ra 7) pt (nI 0) (nI 0) cf rf fi se) := hD
  refine lv_iconst (v := (nI 0)) hx hb dX0_findEdges_10 (by decide) ?_
  refine lv_istore_n (lv' := [(1, .int (nI 0)), (0, .ref (ad 0))]) hx hb dX0_findEdges_11 rfl hl (by decide) rfl (fun ls hl => ?_)
  have loop : ∀ (f : Nat) (x C R : Nat) (g h : Nat → Nat) (cf1 rf1 : Nat → Int32), x ≤ 32 → 32 < x + f → p_pre (fun i => (q i).1) n x C g → p_pre (fun i => (q i).2.1) n x R h → (∀ c, c < C → cf1 c = nI (g c)) → (∀ r, r < R → rf1 r = nI (h r)) → ∀ (H : Heap) (locs : List Loc) (ls : Array Slot), va_P (dC, dI) vwCl (WA ad cI cB (nI n) (nI fb) (ra 2) (ra 3) (ra 4) (ra 5) (ra 6) (ra 7) pt (nI C) (nI R) cf1 rf1 fi se) H → va_D A (WA ad cI cB (nI n) (nI fb) (ra 2) (ra 3) (ra 4) (ra 5) (ra 6) (ra 7) pt (nI C) (nI R) cf1 rf1 fi se) → va_S A s.heap H locs → lv_has ls 2 [(0, .ref (ad 0)), (1, .int (nI x))] → W p l e (headSpec (ws_ yX0_findEdges cX0_findEdges 2 none) { frames := 1, cells := 0, slots := 0, locals := 24 }).room s m ([.ref (ad 0)] : List Value).toArray below meth c H locs 0 0 (MQ below (va_Qv (fun (u : Int32 × Int32 × (Nat → Int32) × (Nat → Int32)) => ∃ (C R : Nat) (g h : Nat → Nat), p_Ed n q C R g h u.1 u.2.1 u.2.2.1 u.2.2.2) (fun (u : Int32 × Int32 × (Nat → Int32) × (Nat → Int32)) => PosW (dC, dI) (tyT cI cB) A (WT ad cI cB (nI n) (nI fb) ra pt u.1 u.2.1 u.2.2.1 u.2.2.2 fi se)) A) ([.ref (ad 0)] : List Value).toArray s 0 0 A) (F0 m 12 ls []) := by
    intro f
    induction f with
    | zero => intros; omega
    | succ f ih =>
      intro x C R g h cf1 rf1 h1 h2 hp1 hp2 ha1 ha2 H locs ls hP hD hS hl
      have hC := p_pre_le hn hp1
      have hR := p_pre_le hn hp2
      refine lv_iload_n hx hb dX0_findEdges_12 rfl (lv_at hl 1 rfl) ?_
      refine lv_bipush (v := (nI 32)) hx hb dX0_findEdges_13 (by decide) ?_
      refine x_cge (tgt := 104) hx hb (by omega) (by omega) dX0_findEdges_15 (by decide) (fun ci => ?_) (fun ci => ?_)
      · obtain rfl : x = 32 := by omega
        refine lv_aload_n hx hb dX0_findEdges_104 rfl (lv_at hl 0 rfl) ?_
        refine x_getT (v := .ref (ad 11)) hx hb hts hown hK hP 11 (by decide) q38 rfl rfl dX0_findEdges_105 ?_
        refine lv_aload_n hx hb dX0_findEdges_108 rfl (lv_at hl 0 rfl) ?_
        refine x_getT (v := .int (nI C)) hx hb hts hown hK hP 9 (by decide) q36 rfl rfl dX0_findEdges_109 ?_
        refine lv_bipush (v := (nI 32)) hx hb dX0_findEdges_112 (by decide) ?_
        refine x_iast hx hb hK hP hD hS 7 0 rfl rfl (by omega) (by decide) dX0_findEdges_114 (fun H locs hP hD hS => ?_)
        have hP : va_P (dC, dI) vwCl (WA ad cI cB (nI n) (nI fb) (ra 2) (ra 3) (ra 4) (ra 5) (ra 6) (ra 7) pt (nI C) (nI R) (upd cf1 C (nI 32)) rf1 fi se) H := hP
        have hD : va_D A (WA ad cI cB (nI n) (nI fb) (ra 2) (ra 3) (ra 4) (ra 5) (ra 6) (ra 7) pt (nI C) (nI R) (upd cf1 C (nI 32)) rf1 fi se) := hD
        refine lv_aload_n hx hb dX0_findEdges_115 rfl (lv_at hl 0 rfl) ?_
        refine x_getT (v := .ref (ad 12)) hx hb hts hown hK hP 12 (by decide) q39 rfl rfl dX0_findEdges_116 ?_
        refine lv_aload_n hx hb dX0_findEdges_119 rfl (lv_at hl 0 rfl) ?_
        refine x_getT (v := .int (nI R)) hx hb hts hown hK hP 10 (by decide) q37 rfl rfl dX0_findEdges_120 ?_
        refine lv_bipush (v := (nI 32)) hx hb dX0_findEdges_123 (by decide) ?_
        refine x_iast hx hb hK hP hD hS 8 0 rfl rfl (by omega) (by decide) dX0_findEdges_125 (fun H locs hP hD hS => ?_)
        have hP : va_P (dC, dI) vwCl (WA ad cI cB (nI n) (nI fb) (ra 2) (ra 3) (ra 4) (ra 5) (ra 6) (ra 7) pt (nI C) (nI R) (upd cf1 C (nI 32)) (upd rf1 R (nI 32)) fi se) H := hP
        have hD : va_D A (WA ad cI cB (nI n) (nI fb) (ra 2) (ra 3) (ra 4) (ra 5) (ra 6) (ra 7) pt (nI C) (nI R) (upd cf1 C (nI 32)) (upd rf1 R (nI 32)) fi se) := hD
        exact W.vret hx hb hr (fun t ht hW => ⟨⟨(nI C, nI R, upd cf1 C (nI 32), upd rf1 R (nI 32)), rfl, ⟨C, R, p_up g C 32, p_up h R 32, rfl, rfl, p_pre_end hn hp1, p_pre_end hn hp2, fun c hc => p_arr_up ha1 c (by omega), fun r hr => p_arr_up ha2 r (by omega)⟩, by rw [ht]; exact hP, va_K.moved hW.alike hK, hD⟩, hS.F ht⟩) hS.2.2 dX0_findEdges_126
      · have L58 : ∀ (C' : Nat) (g' : Nat → Nat) (cf' : Nat → Int32), p_pre (fun i => (q i).1) n (x + 1) C' g' → (∀ c, c < C' → cf' c = nI (g' c)) → ∀ (H : Heap) (locs : List Loc) (ls : Array Slot), va_P (dC, dI) vwCl (WA ad cI cB (nI n) (nI fb) (ra 2) (ra 3) (ra 4) (ra 5) (ra 6) (ra 7) pt (nI C') (nI R) cf' rf1 fi se) H → va_D A (WA ad cI cB (nI n) (nI fb) (ra 2) (ra 3) (ra 4) (ra 5) (ra 6) (ra 7) pt (nI C') (nI R) cf' rf1 fi se) → va_S A s.heap H locs → lv_has ls 2 [(0, .ref (ad 0)), (1, .int (nI x))] → W p l e (headSpec (ws_ yX0_findEdges cX0_findEdges 2 none) { frames := 1, cells := 0, slots := 0, locals := 24 }).room s m ([.ref (ad 0)] : List Value).toArray below meth c H locs 0 0 (MQ below (va_Qv (fun (u : Int32 × Int32 × (Nat → Int32) × (Nat → Int32)) => ∃ (C R : Nat) (g h : Nat → Nat), p_Ed n q C R g h u.1 u.2.1 u.2.2.1 u.2.2.2) (fun (u : Int32 × Int32 × (Nat → Int32) × (Nat → Int32)) => PosW (dC, dI) (tyT cI cB) A (WT ad cI cB (nI n) (nI fb) ra pt u.1 u.2.1 u.2.2.1 u.2.2.2 fi se)) A) ([.ref (ad 0)] : List Value).toArray s 0 0 A) (F0 m 58 ls []) := by
          intro C' g' cf' hp1' ha1' H locs ls hP hD hS hl
          have L78 : p_eb (fun i => (q i).2.1) x n = true → ∀ (H : Heap) (locs : List Loc) (ls : Array Slot), va_P (dC, dI) vwCl (WA ad cI cB (nI n) (nI fb) (ra 2) (ra 3) (ra 4) (ra 5) (ra 6) (ra 7) pt (nI C') (nI R) cf' rf1 fi se) H → va_D A (WA ad cI cB (nI n) (nI fb) (ra 2) (ra 3) (ra 4) (ra 5) (ra 6) (ra 7) pt (nI C') (nI R) cf' rf1 fi se) → va_S A s.heap H locs → lv_has ls 2 [(0, .ref (ad 0)), (1, .int (nI x))] → W p l e (headSpec (ws_ yX0_findEdges cX0_findEdges 2 none) { frames := 1, cells := 0, slots := 0, locals := 24 }).room s m ([.ref (ad 0)] : List Value).toArray below meth c H locs 0 0 (MQ below (va_Qv (fun (u : Int32 × Int32 × (Nat → Int32) × (Nat → Int32)) => ∃ (C R : Nat) (g h : Nat → Nat), p_Ed n q C R g h u.1 u.2.1 u.2.2.1 u.2.2.2) (fun (u : Int32 × Int32 × (Nat → Int32) × (Nat → Int32)) => PosW (dC, dI) (tyT cI cB) A (WT ad cI cB (nI n) (nI fb) ra pt u.1 u.2.1 u.2.2.1 u.2.2.2 fi se)) A) ([.ref (ad 0)] : List Value).toArray s 0 0 A) (F0 m 78 ls []) := by
            intro heb H locs ls hP hD hS hl
            refine lv_aload_n hx hb dX0_findEdges_78 rfl (lv_at hl 0 rfl) ?_
            refine x_getT (v := .ref (ad 12)) hx hb hts hown hK hP 12 (by decide) q39 rfl rfl dX0_findEdges_79 ?_
            refine lv_aload_n hx hb dX0_findEdges_82 rfl (lv_at hl 0 rfl) ?_
            refine x_getT (v := .int (nI R)) hx hb hts hown hK hP 10 (by decide) q37 rfl rfl dX0_findEdges_83 ?_
            refine lv_iload_n hx hb dX0_findEdges_86 rfl (lv_at hl 1 rfl) ?_
            refine x_iast hx hb hK hP hD hS 8 0 rfl rfl (by omega) (by decide) dX0_findEdges_87 (fun H locs hP hD hS => ?_)
            have hP : va_P (dC, dI) vwCl (WA ad cI cB (nI n) (nI fb) (ra 2) (ra 3) (ra 4) (ra 5) (ra 6) (ra 7) pt (nI C') (nI R) cf' (upd rf1 R (nI x)) fi se) H := hP
            have hD : va_D A (WA ad cI cB (nI n) (nI fb) (ra 2) (ra 3) (ra 4) (ra 5) (ra 6) (ra 7) pt (nI C') (nI R) cf' (upd rf1 R (nI x)) fi se) := hD
            refine lv_aload_n hx hb dX0_findEdges_88 rfl (lv_at hl 0 rfl) ?_
            refine lv_dup hx hb dX0_findEdges_89 rfl ?_
            refine x_getT (v := .int (nI R)) hx hb hts hown hK hP 10 (by decide) q37 rfl rfl dX0_findEdges_90 ?_
            refine lv_iconst (v := (nI 1)) hx hb dX0_findEdges_93 (by decide) ?_
            refine x_add hx hb dX0_findEdges_94 ?_
            refine x_putT (v := .int (nI (R + 1))) (ty := .int) hx hb hts hown hK hP hD hS 10 (by decide) q37 rfl rfl (by decide +kernel) rfl rfl (Nat.le_of_ble_eq_true rfl) dX0_findEdges_95 (fun H locs hP hD hS => ?_)
            have hP : va_P (dC, dI) vwCl (WA ad cI cB (nI n) (nI fb) (ra 2) (ra 3) (ra 4) (ra 5) (ra 6) (ra 7) pt (nI C') (nI (R + 1)) cf' (upd rf1 R (nI x)) fi se) H := hP
            have hD : va_D A (WA ad cI cB (nI n) (nI fb) (ra 2) (ra 3) (ra 4) (ra 5) (ra 6) (ra 7) pt (nI C') (nI (R + 1)) cf' (upd rf1 R (nI x)) fi se) := hD
            refine lv_iinc (v := (nI (x + 1))) (lv' := [(1, .int (nI (x + 1))), (0, .ref (ad 0))]) hx hb dX0_findEdges_98 hl (k := 1) rfl (x_inc _) (by decide) rfl (fun ls hl => ?_)
            refine lv_goto (tgt := 12) hx hb dX0_findEdges_101 (by decide) ?_
            exact ih (x + 1) C' (R + 1) g' (p_up h R x) cf' (upd rf1 R (nI x)) (by omega) (by omega) hp1' (p_pre_yes hp2 heb) ha1' (p_arr_up ha2) _ _ _ hP hD hS (lv_sub hl [1, 0] rfl)
          refine lv_iload_n hx hb dX0_findEdges_58 rfl (lv_at hl 1 rfl) ?_
          refine x_ieq (tgt := 78) hx hb (by omega) dX0_findEdges_59 (by decide) (fun c0 => ?_) (fun c0 => ?_)
          · exact L78 ((p_eb_iff _ x n).mpr (Or.inl c0)) _ _ _ hP hD hS (lv_sub hl [0, 1] rfl)
          · refine lv_aload_n hx hb dX0_findEdges_62 rfl (lv_at hl 0 rfl) ?_
            refine lv_aload_n hx hb dX0_findEdges_63 rfl (lv_at hl 0 rfl) ?_
            refine x_getT (v := .ref (ad 4)) hx hb hts hown hK hP 4 (by decide) q31 rfl rfl dX0_findEdges_64 ?_
            refine lv_aload_n hx hb dX0_findEdges_67 rfl (lv_at hl 0 rfl) ?_
            refine x_getT (v := .ref (ad 5)) hx hb hts hown hK hP 5 (by decide) q32 rfl rfl dX0_findEdges_68 ?_
            refine lv_iload_n hx hb dX0_findEdges_71 rfl (lv_at hl 1 rfl) ?_
            refine vp_callSi (W.runV (As := [.ref (ad 4), .ref (ad 5), .int (nI x)]) (rest := []) ⟨hx, hb, hml, hown, hts⟩ (m0_isEdge l dC dI ad cI cB n (nI fb) pt (nI C') (nI R) (ad 4) (ad 5) (ra 4) (ra 5) (fun i => (q i).2.1) x hn (by omega) (fun i hi => ⟨(hok.2.2 i hi).2.1, hrep i hi 4 (by decide) (by decide), hrep i hi 5 (by decide) (by decide)⟩)) (cwV 3 hts (lw_V q118 q120 qs5 q17 q121) rfl rfl rfl (by decide +kernel) ⟨Nat.le_of_ble_eq_true rfl, Nat.le_of_ble_eq_true rfl⟩) (x_preVR (ci := 0) (q0 := 0) (ws := [(ad 0, .inr (0, fsT ad (nI n) (nI fb) pt (nI C') (nI R))), (ad 4, .inl (cI, 12, .inl (ra 4))), (ad 5, .inl (cI, 12, .inl (ra 5)))]) hK (hP.sub [0, 3, 4] rfl) rfl rfl) rfl rfl hl.1 rfl (lv_room (Nat.le_of_ble_eq_true rfl)) dX0_findEdges_72 ⟨Nat.le_refl _, Nat.le_refl _⟩) (fun r1 h1 => ?_)
            rcases h1 with ⟨rfl, h1⟩ | ⟨rfl, h1⟩
            · refine lv_if_eq (tgt := 98) hx hb dX0_findEdges_75 (by decide) (fun c9 => absurd c9 (by decide)) (fun _ => ?_)
              exact L78 ((p_eb_iff _ x n).mpr (Or.inr h1)) _ _ _ hP hD hS (lv_sub hl [0, 1] rfl)
            · refine lv_if_eq (tgt := 98) hx hb dX0_findEdges_75 (by decide) (fun _ => ?_) (fun c9 => absurd (by decide) c9)
              refine lv_iinc (v := (nI (x + 1))) (lv' := [(1, .int (nI (x + 1))), (0, .ref (ad 0))]) hx hb dX0_findEdges_98 hl (k := 1) rfl (x_inc _) (by decide) rfl (fun ls hl => ?_)
              refine lv_goto (tgt := 12) hx hb dX0_findEdges_101 (by decide) ?_
              exact ih (x + 1) C' R g' h cf' rf1 (by omega) (by omega) hp1' (p_pre_no hp2 (Bool.eq_false_iff.mpr fun z => by
                                rcases (p_eb_iff _ x n).mp z with z | ⟨i, hi, z⟩
                                · omega
                                · exact h1 i hi z)) ha1' ha2 _ _ _ hP hD hS (lv_sub hl [1, 0] rfl)
        have L38 : p_eb (fun i => (q i).1) x n = true → ∀ (H : Heap) (locs : List Loc) (ls : Array Slot), va_P (dC, dI) vwCl (WA ad cI cB (nI n) (nI fb) (ra 2) (ra 3) (ra 4) (ra 5) (ra 6) (ra 7) pt (nI C) (nI R) cf1 rf1 fi se) H → va_D A (WA ad cI cB (nI n) (nI fb) (ra 2) (ra 3) (ra 4) (ra 5) (ra 6) (ra 7) pt (nI C) (nI R) cf1 rf1 fi se) → va_S A s.heap H locs → lv_has ls 2 [(0, .ref (ad 0)), (1, .int (nI x))] → W p l e (headSpec (ws_ yX0_findEdges cX0_findEdges 2 none) { frames := 1, cells := 0, slots := 0, locals := 24 }).room s m ([.ref (ad 0)] : List Value).toArray below meth c H locs 0 0 (MQ below (va_Qv (fun (u : Int32 × Int32 × (Nat → Int32) × (Nat → Int32)) => ∃ (C R : Nat) (g h : Nat → Nat), p_Ed n q C R g h u.1 u.2.1 u.2.2.1 u.2.2.2) (fun (u : Int32 × Int32 × (Nat → Int32) × (Nat → Int32)) => PosW (dC, dI) (tyT cI cB) A (WT ad cI cB (nI n) (nI fb) ra pt u.1 u.2.1 u.2.2.1 u.2.2.2 fi se)) A) ([.ref (ad 0)] : List Value).toArray s 0 0 A) (F0 m 38 ls []) := by
          intro heb H locs ls hP hD hS hl
          refine lv_aload_n hx hb dX0_findEdges_38 rfl (lv_at hl 0 rfl) ?_
          refine x_getT (v := .ref (ad 11)) hx hb hts hown hK hP 11 (by decide) q38 rfl rfl dX0_findEdges_39 ?_
          refine lv_aload_n hx hb dX0_findEdges_42 rfl (lv_at hl 0 rfl) ?_
          refine x_getT (v := .int (nI C)) hx hb hts hown hK hP 9 (by decide) q36 rfl rfl dX0_findEdges_43 ?_
          refine lv_iload_n hx hb dX0_findEdges_46 rfl (lv_at hl 1 rfl) ?_
          refine x_iast hx hb hK hP hD hS 7 0 rfl rfl (by omega) (by decide) dX0_findEdges_47 (fun H locs hP hD hS => ?_)
          have hP : va_P (dC, dI) vwCl (WA ad cI cB (nI n) (nI fb) (ra 2) (ra 3) (ra 4) (ra 5) (ra 6) (ra 7) pt (nI C) (nI R) (upd cf1 C (nI x)) rf1 fi se) H := hP
          have hD : va_D A (WA ad cI cB (nI n) (nI fb) (ra 2) (ra 3) (ra 4) (ra 5) (ra 6) (ra 7) pt (nI C) (nI R) (upd cf1 C (nI x)) rf1 fi se) := hD
          refine lv_aload_n hx hb dX0_findEdges_48 rfl (lv_at hl 0 rfl) ?_
          refine lv_dup hx hb dX0_findEdges_49 rfl ?_
          refine x_getT (v := .int (nI C)) hx hb hts hown hK hP 9 (by decide) q36 rfl rfl dX0_findEdges_50 ?_
          refine lv_iconst (v := (nI 1)) hx hb dX0_findEdges_53 (by decide) ?_
          refine x_add hx hb dX0_findEdges_54 ?_
          refine x_putT (v := .int (nI (C + 1))) (ty := .int) hx hb hts hown hK hP hD hS 9 (by decide) q36 rfl rfl (by decide +kernel) rfl rfl (Nat.le_of_ble_eq_true rfl) dX0_findEdges_55 (fun H locs hP hD hS => ?_)
          have hP : va_P (dC, dI) vwCl (WA ad cI cB (nI n) (nI fb) (ra 2) (ra 3) (ra 4) (ra 5) (ra 6) (ra 7) pt (nI (C + 1)) (nI R) (upd cf1 C (nI x)) rf1 fi se) H := hP
          have hD : va_D A (WA ad cI cB (nI n) (nI fb) (ra 2) (ra 3) (ra 4) (ra 5) (ra 6) (ra 7) pt (nI (C + 1)) (nI R) (upd cf1 C (nI x)) rf1 fi se) := hD
          exact L58 (C + 1) (p_up g C x) (upd cf1 C (nI x)) (p_pre_yes hp1 heb) (p_arr_up ha1) _ _ _ hP hD hS (lv_sub hl [0, 1] rfl)
        refine lv_iload_n hx hb dX0_findEdges_18 rfl (lv_at hl 1 rfl) ?_
        refine x_ieq (tgt := 38) hx hb (by omega) dX0_findEdges_19 (by decide) (fun c0 => ?_) (fun c0 => ?_)
        · exact L38 ((p_eb_iff _ x n).mpr (Or.inl c0)) _ _ _ hP hD hS (lv_sub hl [0, 1] rfl)
        · refine lv_aload_n hx hb dX0_findEdges_22 rfl (lv_at hl 0 rfl) ?_
          refine lv_aload_n hx hb dX0_findEdges_23 rfl (lv_at hl 0 rfl) ?_
          refine x_getT (v := .ref (ad 2)) hx hb hts hown hK hP 2 (by decide) q29 rfl rfl dX0_findEdges_24 ?_
          refine lv_aload_n hx hb dX0_findEdges_27 rfl (lv_at hl 0 rfl) ?_
          refine x_getT (v := .ref (ad 3)) hx hb hts hown hK hP 3 (by decide) q30 rfl rfl dX0_findEdges_28 ?_
          refine lv_iload_n hx hb dX0_findEdges_31 rfl (lv_at hl 1 rfl) ?_
          refine vp_callSi (W.runV (As := [.ref (ad 2), .ref (ad 3), .int (nI x)]) (rest := []) ⟨hx, hb, hml, hown, hts⟩ (m0_isEdge l dC dI ad cI cB n (nI fb) pt (nI C) (nI R) (ad 2) (ad 3) (ra 2) (ra 3) (fun i => (q i).1) x hn (by omega) (fun i hi => ⟨(hok.2.2 i hi).1, hrep i hi 2 (by decide) (by decide), hrep i hi 3 (by decide) (by decide)⟩)) (cwV 3 hts (lw_V q118 q120 qs5 q17 q121) rfl rfl rfl (by decide +kernel) ⟨Nat.le_of_ble_eq_true rfl, Nat.le_of_ble_eq_true rfl⟩) (x_preVR (ci := 0) (q0 := 0) (ws := [(ad 0, .inr (0, fsT ad (nI n) (nI fb) pt (nI C) (nI R))), (ad 2, .inl (cI, 12, .inl (ra 2))), (ad 3, .inl (cI, 12, .inl (ra 3)))]) hK (hP.sub [0, 1, 2] rfl) rfl rfl) rfl rfl hl.1 rfl (lv_room (Nat.le_of_ble_eq_true rfl)) dX0_findEdges_32 ⟨Nat.le_refl _, Nat.le_refl _⟩) (fun r1 h1 => ?_)
          rcases h1 with ⟨rfl, h1⟩ | ⟨rfl, h1⟩
          · refine lv_if_eq (tgt := 58) hx hb dX0_findEdges_35 (by decide) (fun c9 => absurd c9 (by decide)) (fun _ => ?_)
            exact L38 ((p_eb_iff _ x n).mpr (Or.inr h1)) _ _ _ hP hD hS (lv_sub hl [0, 1] rfl)
          · refine lv_if_eq (tgt := 58) hx hb dX0_findEdges_35 (by decide) (fun _ => ?_) (fun c9 => absurd (by decide) c9)
            exact L58 C g cf1 (p_pre_no hp1 (Bool.eq_false_iff.mpr fun z => by
                              rcases (p_eb_iff _ x n).mp z with z | ⟨i, hi, z⟩
                              · omega
                              · exact h1 i hi z)) ha1 _ _ _ hP hD hS (lv_sub hl [0, 1] rfl)
  exact loop 33 0 0 0 (fun _ => 0) (fun _ => 0) cf rf (by omega) (by omega) (p_pre_0 _ n _) (p_pre_0 _ n _) (fun c hc => absurd hc (Nat.not_lt_zero c)) (fun c hc => absurd hc (Nat.not_lt_zero c)) _ _ _ hP hD hS (lv_sub hl [1, 0] rfl)
end
section
set_option maxHeartbeats 4000000 in
set_option maxRecDepth 100000 in
/-- paintColumn(i, c1) -/
theorem m0_paintColumn (l : Launch) (dC : Nat → ClassId) (dI : Nat → Nat → Nat) (ad : Nat → Nat) (cI cB : ClassId) (sz : Nat) (n fb : Nat) (q : Nat → pV) (ra : Nat → Nat → Int32) (pt : Int32) (cf rf fi se : Nat → Int32) (C R : Nat) (g h : Nat → Nat) (i c1 : Nat) (hok : p_ok n q fb) (hrep : p_rep e_T 2 7 n q ra) (hE : p_Ed n q C R g h (nI C) (nI R) cf rf) (hby : p_by fi) (hi : i < n) (hc1 : c1 < C) : Met l yX0_paintColumn (ws_ yX0_paintColumn cX0_paintColumn 7 none) { frames := 0, cells := 0, slots := 0, locals := 0 } (va_Pc [.ref (ad 0), .int (nI i), .int (nI c1)] (PreW (dC, dI) (tyT cI cB) (WA ad cI cB (nI n) (nI fb) (ra 2) (ra 3) (ra 4) (ra 5) (ra 6) (ra 7) pt (nI C) (nI R) cf rf fi se) sz)) (va_Qv (fun (u : (Nat → Int32) × (Nat → Int32)) => (∀ x, u.1 x = if x / 104 = c1 ∧ x % 104 < 4 * R ∧ p_hit (q i) h (x % 104) = true then nI i else fi x) ∧ (∀ x, u.2 x = if x / 104 = c1 ∧ x % 104 < 4 * R ∧ p_hit (q i) h (x % 104) = true then fi x else se x)) (fun (u : (Nat → Int32) × (Nat → Int32)) => PosW (dC, dI) (tyT cI cB) (va_A (WA ad cI cB (nI n) (nI fb) (ra 2) (ra 3) (ra 4) (ra 5) (ra 6) (ra 7) pt (nI C) (nI R) cf rf fi se) sz) (WT ad cI cB (nI n) (nI fb) ra pt (nI C) (nI R) cf rf u.1 u.2)) (va_A (WA ad cI cB (nI n) (nI fb) (ra 2) (ra 3) (ra 4) (ra 5) (ra 6) (ra 7) pt (nI C) (nI R) cf rf fi se) sz)) 0 0 (va_A (WA ad cI cB (nI n) (nI fb) (ra 2) (ra 3) (ra 4) (ra 5) (ra 6) (ra 7) pt (nI C) (nI R) cf rf fi se) sz) := by
  refine Met.ofW (cc := cX0_paintColumn) (maxL := 7) (ret := none) (by decide) rfl ?_
  intro p e s m args below meth c s₁ B hml hv
  obtain ⟨rfl, hsz, hP, hK, hD0⟩ := hv
  have hx := B.exec
  have hb := B.bytes
  have hr := B.returns
  have hts := atoms_spec (ws := (ws_ yX0_paintColumn cX0_paintColumn 7 none)) B.pre
  have hts : ∀ w ∈ lw_all, w.before _ s = true := fun w h => hts w (List.mem_cons_of_mem _ h)
  have hown : s.vm.findClass RX0 = some m.cls := findClass_of_methodNamed B.named
  have hlocks := B.notSynchronized
  subst hsz
  have hD := hD0.self (sz := s.heap.size)
  generalize hAe : va_A (WA ad cI cB (nI n) (nI fb) (ra 2) (ra 3) (ra 4) (ra 5) (ra 6) (ra 7) pt (nI C) (nI R) cf rf fi se) s.heap.size = A at hD ⊢
  have hA : ∀ q : Nat, s.heap.size ≤ q → A q := fun q h => by rw [← hAe]; exact Or.inr h
  have hS : va_S A s.heap s.heap [] := va_S.rf
  have hP : va_P (dC, dI) vwCl (WA ad cI cB (nI n) (nI fb) (ra 2) (ra 3) (ra 4) (ra 5) (ra 6) (ra 7) pt (nI C) (nI R) cf rf fi se) s.heap := hP
  have hl := lv_entry ([.ref (ad 0), .int (nI i), .int (nI c1)]) (n := 7) (Nat.le_of_ble_eq_true rfl)
  rw [lg_entry_eq]
  generalize (lg_sl ([.ref (ad 0), .int (nI i), .int (nI c1)]) ++ List.replicate (7 - (lg_sl ([.ref (ad 0), .int (nI i), .int (nI c1)])).length) Slot.unset).toArray = ls at hl ⊢
  have hl : lv_has ls 7 [(0, .ref (ad 0)), (1, .int (nI i)), (2, .int (nI c1))] := hl
  have hn := hok.1
  have hC25 := hE.2.2.1.2.1
  have hR25 := hE.2.2.2.1.2.1
  have hrf := hE.2.2.2.2.2
  obtain ⟨hq1, hq2, hq3⟩ := hok.2.2 i hi
  refine lv_iconst (v := (nI 0)) hx hb dX0_paintColumn_0 (by decide) ?_
  refine lv_istore_n (lv' := [(3, .int (nI 0)), (0, .ref (ad 0)), (1, .int (nI i)), (2, .int (nI c1))]) hx hb dX0_paintColumn_1 rfl hl (by decide) rfl (fun ls hl => ?_)
  have loop : ∀ (f : Nat) (k : Nat) (fi1 se1 : Nat → Int32), k ≤ 4 * R → 4 * R < k + f → (∀ x, fi1 x = if x / 104 = c1 ∧ x % 104 < k ∧ p_hit (q i) h (x % 104) = true then nI i else fi x) → (∀ x, se1 x = if x / 104 = c1 ∧ x % 104 < k ∧ p_hit (q i) h (x % 104) = true then fi x else se x) → ∀ (H : Heap) (locs : List Loc) (ls : Array Slot), va_P (dC, dI) vwCl (WA ad cI cB (nI n) (nI fb) (ra 2) (ra 3) (ra 4) (ra 5) (ra 6) (ra 7) pt (nI C) (nI R) cf rf fi1 se1) H → va_D A (WA ad cI cB (nI n) (nI fb) (ra 2) (ra 3) (ra 4) (ra 5) (ra 6) (ra 7) pt (nI C) (nI R) cf rf fi1 se1) → va_S A s.heap H locs → lv_has ls 7 [(0, .ref (ad 0)), (1, .int (nI i)), (2, .int (nI c1)), (3, .int (nI k))] → W p l e (headSpec (ws_ yX0_paintColumn cX0_paintColumn 7 none) { frames := 0, cells := 0, slots := 0, locals := 0 }).room s m ([.ref (ad 0), .int (nI i), .int (nI c1)] : List Value).toArray below meth c H locs 0 0 (MQ below (va_Qv (fun (u : (Nat → Int32) × (Nat → Int32)) => (∀ x, u.1 x = if x / 104 = c1 ∧ x % 104 < 4 * R ∧ p_hit (q i) h (x % 104) = true then nI i else fi x) ∧ (∀ x, u.2 x = if x / 104 = c1 ∧ x % 104 < 4 * R ∧ p_hit (q i) h (x % 104) = true then fi x else se x)) (fun (u : (Nat → Int32) × (Nat → Int32)) => PosW (dC, dI) (tyT cI cB) A (WT ad cI cB (nI n) (nI fb) ra pt (nI C) (nI R) cf rf u.1 u.2)) A) ([.ref (ad 0), .int (nI i), .int (nI c1)] : List Value).toArray s 0 0 A) (F0 m 2 ls []) := by
    intro f
    induction f with
    | zero => intros; omega
    | succ f ih =>
      intro k fi1 se1 h1 h2 hf1 hs1 H locs ls hP hD hS hl
      refine lv_iload_n hx hb dX0_paintColumn_2 rfl (lv_at hl 3 rfl) ?_
      refine lv_iconst (v := (nI 4)) hx hb dX0_paintColumn_3 (by decide) ?_
      refine lv_aload_n hx hb dX0_paintColumn_4 rfl (lv_at hl 0 rfl) ?_
      refine x_getT (v := .int (nI R)) hx hb hts hown hK hP 10 (by decide) q37 rfl rfl dX0_paintColumn_5 ?_
      refine x_mul hx hb dX0_paintColumn_8 ?_
      refine x_cge (tgt := 108) hx hb (by omega) (by omega) dX0_paintColumn_9 (by decide) (fun ci => ?_) (fun ci => ?_)
      · obtain rfl : k = 4 * R := by omega
        exact W.vret hx hb hr (fun t ht hW => ⟨⟨(fi1, se1), rfl, ⟨hf1, hs1⟩, by rw [ht]; exact hP, va_K.moved hW.alike hK, hD⟩, hS.F ht⟩) hS.2.2 dX0_paintColumn_108
      · have hhl := p_cut_le hE.2.2.2.1 (show k / 4 ≤ R by omega)
        have L49 : ∀ (b : Nat), (b = 1 ∧ ((q i).2.1 / 32 ≤ h (k / 4) ∧ h (k / 4) ≤ (q i).2.1 % 32)) ∨ (b = 0 ∧ ¬ ((q i).2.1 / 32 ≤ h (k / 4) ∧ h (k / 4) ≤ (q i).2.1 % 32)) → ∀ (H : Heap) (locs : List Loc) (ls : Array Slot), va_P (dC, dI) vwCl (WA ad cI cB (nI n) (nI fb) (ra 2) (ra 3) (ra 4) (ra 5) (ra 6) (ra 7) pt (nI C) (nI R) cf rf fi1 se1) H → va_D A (WA ad cI cB (nI n) (nI fb) (ra 2) (ra 3) (ra 4) (ra 5) (ra 6) (ra 7) pt (nI C) (nI R) cf rf fi1 se1) → va_S A s.heap H locs → lv_has ls 7 [(0, .ref (ad 0)), (1, .int (nI i)), (2, .int (nI c1)), (3, .int (nI k))] → W p l e (headSpec (ws_ yX0_paintColumn cX0_paintColumn 7 none) { frames := 0, cells := 0, slots := 0, locals := 0 }).room s m ([.ref (ad 0), .int (nI i), .int (nI c1)] : List Value).toArray below meth c H locs 0 0 (MQ below (va_Qv (fun (u : (Nat → Int32) × (Nat → Int32)) => (∀ x, u.1 x = if x / 104 = c1 ∧ x % 104 < 4 * R ∧ p_hit (q i) h (x % 104) = true then nI i else fi x) ∧ (∀ x, u.2 x = if x / 104 = c1 ∧ x % 104 < 4 * R ∧ p_hit (q i) h (x % 104) = true then fi x else se x)) (fun (u : (Nat → Int32) × (Nat → Int32)) => PosW (dC, dI) (tyT cI cB) A (WT ad cI cB (nI n) (nI fb) ra pt (nI C) (nI R) cf rf u.1 u.2)) A) ([.ref (ad 0), .int (nI i), .int (nI c1)] : List Value).toArray s 0 0 A) (F0 m 49 ls [.int (nI b)]) := by
          intro b hb1 H locs ls hP hD hS hl
          refine lv_istore (lv' := [(5, .int (nI b)), (0, .ref (ad 0)), (1, .int (nI i)), (2, .int (nI c1)), (3, .int (nI k))]) hx hb dX0_paintColumn_49 hl (by decide) rfl (fun ls hl => ?_)
          refine lv_iload hx hb dX0_paintColumn_51 (lv_at hl 0 rfl) ?_
          refine x_ieq (tgt := 102) hx hb (by omega) dX0_paintColumn_53 (by decide) (fun z1 => ?_) (fun z1 => ?_)
          · refine lv_iinc (v := (nI (k + 1))) (lv' := [(3, .int (nI (k + 1))), (5, .int (nI b)), (0, .ref (ad 0)), (1, .int (nI i)), (2, .int (nI c1))]) hx hb dX0_paintColumn_102 hl (k := 4) rfl (x_inc _) (by decide) rfl (fun ls hl => ?_)
            refine lv_goto (tgt := 2) hx hb dX0_paintColumn_105 (by decide) ?_
            exact ih (k + 1) fi1 se1 (by omega) (by omega) (pc_no hf1 (decide_eq_false fun z => by have := z.1; omega)) (pc_no hs1 (decide_eq_false fun z => by have := z.1; omega)) _ _ _ hP hD hS (lv_sub hl [2, 3, 4, 0] rfl)
          · refine lv_aload_n hx hb dX0_paintColumn_56 rfl (lv_at hl 1 rfl) ?_
            refine x_getT (v := .ref (ad 6)) hx hb hts hown hK hP 6 (by decide) q33 rfl rfl dX0_paintColumn_57 ?_
            refine lv_iload_n hx hb dX0_paintColumn_60 rfl (lv_at hl 2 rfl) ?_
            refine x_iald (v := (nI ((q i).2.2 % 16))) hx hb hK hP 5 0 rfl rfl (by omega) (by decide) (hrep i hi 6 (by decide) (by decide)) dX0_paintColumn_61 ?_
            refine lv_iload_n hx hb dX0_paintColumn_62 rfl (lv_at hl 4 rfl) ?_
            refine lv_iconst (v := (nI 3)) hx hb dX0_paintColumn_63 (by decide) ?_
            refine x_and (K := 4) hx hb 2 rfl rfl (by decide) (by omega) dX0_paintColumn_64 ?_
            refine x_ushr hx hb (by omega) (by omega) dX0_paintColumn_65 ?_
            refine lv_iconst (v := (nI 1)) hx hb dX0_paintColumn_66 (by decide) ?_
            refine x_and (K := 2) hx hb 1 rfl rfl (by decide) (Nat.lt_of_le_of_lt (Nat.div_le_self _ _) (by omega)) dX0_paintColumn_67 ?_
            refine x_ieq (tgt := 102) hx hb (by omega) dX0_paintColumn_68 (by decide) (fun z2 => ?_) (fun z2 => ?_)
            · refine lv_iinc (v := (nI (k + 1))) (lv' := [(3, .int (nI (k + 1))), (5, .int (nI b)), (0, .ref (ad 0)), (1, .int (nI i)), (2, .int (nI c1))]) hx hb dX0_paintColumn_102 hl (k := 4) rfl (x_inc _) (by decide) rfl (fun ls hl => ?_)
              refine lv_goto (tgt := 2) hx hb dX0_paintColumn_105 (by decide) ?_
              exact ih (k + 1) fi1 se1 (by omega) (by omega) (pc_no hf1 (decide_eq_false fun z => by have z5 := z.2; rw [← p_bit16 (show k % 4 < 4 by omega), z2] at z5; cases z5)) (pc_no hs1 (decide_eq_false fun z => by have z5 := z.2; rw [← p_bit16 (show k % 4 < 4 by omega), z2] at z5; cases z5)) _ _ _ hP hD hS (lv_sub hl [2, 3, 4, 0] rfl)
            · have hhit : p_hit (q i) h k = true := decide_eq_true ⟨by omega, by rw [← p_bit16 (show k % 4 < 4 by omega)]; omega⟩
              refine lv_bipush (v := (nI 104)) hx hb dX0_paintColumn_71 (by decide) ?_
              refine lv_iload_n hx hb dX0_paintColumn_73 rfl (lv_at hl 3 rfl) ?_
              refine x_mul hx hb dX0_paintColumn_74 ?_
              refine lv_iload_n hx hb dX0_paintColumn_75 rfl (lv_at hl 4 rfl) ?_
              refine x_add hx hb dX0_paintColumn_76 ?_
              refine lv_istore (lv' := [(6, .int (nI (104 * c1 + k))), (5, .int (nI b)), (0, .ref (ad 0)), (1, .int (nI i)), (2, .int (nI c1)), (3, .int (nI k))]) hx hb dX0_paintColumn_77 hl (by decide) rfl (fun ls hl => ?_)
              refine lv_aload_n hx hb dX0_paintColumn_79 rfl (lv_at hl 2 rfl) ?_
              refine x_getT (v := .ref (ad 14)) hx hb hts hown hK hP 14 (by decide) q41 rfl rfl dX0_paintColumn_80 ?_
              refine lv_iload hx hb dX0_paintColumn_83 (lv_at hl 0 rfl) ?_
              refine lv_aload_n hx hb dX0_paintColumn_85 rfl (lv_at hl 2 rfl) ?_
              refine x_getT (v := .ref (ad 13)) hx hb hts hown hK hP 13 (by decide) q40 rfl rfl dX0_paintColumn_86 ?_
              refine lv_iload hx hb dX0_paintColumn_89 (lv_at hl 0 rfl) ?_
              refine x_bald (v := (fi (104 * c1 + k))) hx hb hK hP 9 1 rfl rfl (by omega) (by decide) (by rw [hf1, if_neg (fun z => absurd z.2.1 (by omega))]) dX0_paintColumn_91 ?_
              refine x_bast hx hb hK hP hD hS 10 1 rfl rfl (by omega) (by decide) (hby _ (by omega)) dX0_paintColumn_92 (fun H locs hP hD hS => ?_)
              have hP : va_P (dC, dI) vwCl (WA ad cI cB (nI n) (nI fb) (ra 2) (ra 3) (ra 4) (ra 5) (ra 6) (ra 7) pt (nI C) (nI R) cf rf fi1 (upd se1 (104 * c1 + k) (fi (104 * c1 + k)))) H := hP
              have hD : va_D A (WA ad cI cB (nI n) (nI fb) (ra 2) (ra 3) (ra 4) (ra 5) (ra 6) (ra 7) pt (nI C) (nI R) cf rf fi1 (upd se1 (104 * c1 + k) (fi (104 * c1 + k)))) := hD
              refine lv_aload_n hx hb dX0_paintColumn_93 rfl (lv_at hl 2 rfl) ?_
              refine x_getT (v := .ref (ad 13)) hx hb hts hown hK hP 13 (by decide) q40 rfl rfl dX0_paintColumn_94 ?_
              refine lv_iload hx hb dX0_paintColumn_97 (lv_at hl 0 rfl) ?_
              refine lv_iload_n hx hb dX0_paintColumn_99 rfl (lv_at hl 3 rfl) ?_
              refine lv_i2b (v := (nI i)) hx hb dX0_paintColumn_100 (fa_byte_small (by omega)) ?_
              refine x_bast hx hb hK hP hD hS 9 1 rfl rfl (by omega) (by decide) (fa_byte_small (by omega)) dX0_paintColumn_101 (fun H locs hP hD hS => ?_)
              have hP : va_P (dC, dI) vwCl (WA ad cI cB (nI n) (nI fb) (ra 2) (ra 3) (ra 4) (ra 5) (ra 6) (ra 7) pt (nI C) (nI R) cf rf (upd fi1 (104 * c1 + k) (nI i)) (upd se1 (104 * c1 + k) (fi (104 * c1 + k)))) H := hP
              have hD : va_D A (WA ad cI cB (nI n) (nI fb) (ra 2) (ra 3) (ra 4) (ra 5) (ra 6) (ra 7) pt (nI C) (nI R) cf rf (upd fi1 (104 * c1 + k) (nI i)) (upd se1 (104 * c1 + k) (fi (104 * c1 + k)))) := hD
              refine lv_iinc (v := (nI (k + 1))) (lv' := [(3, .int (nI (k + 1))), (6, .int (nI (104 * c1 + k))), (5, .int (nI b)), (0, .ref (ad 0)), (1, .int (nI i)), (2, .int (nI c1))]) hx hb dX0_paintColumn_102 hl (k := 5) rfl (x_inc _) (by decide) rfl (fun ls hl => ?_)
              refine lv_goto (tgt := 2) hx hb dX0_paintColumn_105 (by decide) ?_
              exact ih (k + 1) (upd fi1 (104 * c1 + k) (nI i)) (upd se1 (104 * c1 + k) (fi (104 * c1 + k))) (by omega) (by omega) (pc_yes (A := fun _ => nI i) hf1 (by omega) hhit) (pc_yes (A := fi) hs1 (by omega) hhit) _ _ _ hP hD hS (lv_sub hl [3, 4, 5, 0] rfl)
        refine lv_aload_n hx hb dX0_paintColumn_12 rfl (lv_at hl 0 rfl) ?_
        refine x_getT (v := .ref (ad 12)) hx hb hts hown hK hP 12 (by decide) q39 rfl rfl dX0_paintColumn_13 ?_
        refine lv_iload_n hx hb dX0_paintColumn_16 rfl (lv_at hl 3 rfl) ?_
        refine lv_iconst (v := (nI 2)) hx hb dX0_paintColumn_17 (by decide) ?_
        refine x_shr (K := 4) hx hb (by decide) rfl (by omega) dX0_paintColumn_18 ?_
        refine x_iald (v := (nI (h (k / 4)))) hx hb hK hP 8 0 rfl rfl (by omega) (by decide) (hrf _ (by omega)) dX0_paintColumn_19 ?_
        refine lv_istore (lv' := [(4, .int (nI (h (k / 4)))), (0, .ref (ad 0)), (1, .int (nI i)), (2, .int (nI c1)), (3, .int (nI k))]) hx hb dX0_paintColumn_20 hl (by decide) rfl (fun ls hl => ?_)
        refine lv_aload_n hx hb dX0_paintColumn_22 rfl (lv_at hl 1 rfl) ?_
        refine x_getT (v := .ref (ad 4)) hx hb hts hown hK hP 4 (by decide) q31 rfl rfl dX0_paintColumn_23 ?_
        refine lv_iload_n hx hb dX0_paintColumn_26 rfl (lv_at hl 2 rfl) ?_
        refine x_iald (v := (nI ((q i).2.1 / 32))) hx hb hK hP 3 0 rfl rfl (by omega) (by decide) (hrep i hi 4 (by decide) (by decide)) dX0_paintColumn_27 ?_
        refine lv_iload hx hb dX0_paintColumn_28 (lv_at hl 0 rfl) ?_
        refine x_cgt (tgt := 48) hx hb (by omega) (by omega) dX0_paintColumn_30 (by decide) (fun y1 => ?_) (fun y1 => ?_)
        · refine lv_iconst (v := (nI 0)) hx hb dX0_paintColumn_48 (by decide) ?_
          exact L49 0 (Or.inr ⟨rfl, by omega⟩) _ _ _ hP hD hS (lv_sub hl [1, 2, 3, 4] rfl)
        · refine lv_iload hx hb dX0_paintColumn_33 (lv_at hl 0 rfl) ?_
          refine lv_aload_n hx hb dX0_paintColumn_35 rfl (lv_at hl 1 rfl) ?_
          refine x_getT (v := .ref (ad 5)) hx hb hts hown hK hP 5 (by decide) q32 rfl rfl dX0_paintColumn_36 ?_
          refine lv_iload_n hx hb dX0_paintColumn_39 rfl (lv_at hl 2 rfl) ?_
          refine x_iald (v := (nI ((q i).2.1 % 32))) hx hb hK hP 4 0 rfl rfl (by omega) (by decide) (hrep i hi 5 (by decide) (by decide)) dX0_paintColumn_40 ?_
          refine x_cgt (tgt := 48) hx hb (by omega) (by omega) dX0_paintColumn_41 (by decide) (fun y2 => ?_) (fun y2 => ?_)
          · refine lv_iconst (v := (nI 0)) hx hb dX0_paintColumn_48 (by decide) ?_
            exact L49 0 (Or.inr ⟨rfl, by omega⟩) _ _ _ hP hD hS (lv_sub hl [1, 2, 3, 4] rfl)
          · refine lv_iconst (v := (nI 1)) hx hb dX0_paintColumn_44 (by decide) ?_
            refine lv_goto (tgt := 49) hx hb dX0_paintColumn_45 (by decide) ?_
            exact L49 1 (Or.inl ⟨rfl, by omega⟩) _ _ _ hP hD hS (lv_sub hl [1, 2, 3, 4] rfl)
  exact loop (4 * R + 1) 0 fi se (by omega) (by omega) pc_0 pc_0 _ _ _ hP hD hS (lv_sub hl [1, 2, 3, 0] rfl)
end
section
set_option maxHeartbeats 4000000 in
set_option maxRecDepth 100000 in
/-- paintRule(i) -/
theorem m0_paintRule (l : Launch) (dC : Nat → ClassId) (dI : Nat → Nat → Nat) (ad : Nat → Nat) (cI cB : ClassId) (sz : Nat) (n fb : Nat) (q : Nat → pV) (ra : Nat → Nat → Int32) (pt : Int32) (cf rf fi se : Nat → Int32) (C R : Nat) (g h : Nat → Nat) (i : Nat) (hok : p_ok n q fb) (hrep : p_rep e_T 2 7 n q ra) (hE : p_Ed n q C R g h (nI C) (nI R) cf rf) (hby : p_by fi) (hi : i < n) : Met l yX0_paintRule (ws_ yX0_paintRule cX0_paintRule 3 none) { frames := 1, cells := 0, slots := 0, locals := 26 } (va_Pc [.ref (ad 0), .int (nI i)] (PreW (dC, dI) (tyT cI cB) (WA ad cI cB (nI n) (nI fb) (ra 2) (ra 3) (ra 4) (ra 5) (ra 6) (ra 7) pt (nI C) (nI R) cf rf fi se) sz)) (va_Qv (fun (u : (Nat → Int32) × (Nat → Int32)) => (∀ x, u.1 x = if x / 104 < C ∧ p_hc (q i) g (x / 104) = true ∧ x % 104 < 4 * R ∧ p_hit (q i) h (x % 104) = true then nI i else fi x) ∧ (∀ x, u.2 x = if x / 104 < C ∧ p_hc (q i) g (x / 104) = true ∧ x % 104 < 4 * R ∧ p_hit (q i) h (x % 104) = true then fi x else se x)) (fun (u : (Nat → Int32) × (Nat → Int32)) => PosW (dC, dI) (tyT cI cB) (va_A (WA ad cI cB (nI n) (nI fb) (ra 2) (ra 3) (ra 4) (ra 5) (ra 6) (ra 7) pt (nI C) (nI R) cf rf fi se) sz) (WT ad cI cB (nI n) (nI fb) ra pt (nI C) (nI R) cf rf u.1 u.2)) (va_A (WA ad cI cB (nI n) (nI fb) (ra 2) (ra 3) (ra 4) (ra 5) (ra 6) (ra 7) pt (nI C) (nI R) cf rf fi se) sz)) 0 0 (va_A (WA ad cI cB (nI n) (nI fb) (ra 2) (ra 3) (ra 4) (ra 5) (ra 6) (ra 7) pt (nI C) (nI R) cf rf fi se) sz) := by
  refine Met.ofW (cc := cX0_paintRule) (maxL := 3) (ret := none) (by decide) rfl ?_
  intro p e s m args below meth c s₁ B hml hv
  obtain ⟨rfl, hsz, hP, hK, hD0⟩ := hv
  have hx := B.exec
  have hb := B.bytes
  have hr := B.returns
  have hts := atoms_spec (ws := (ws_ yX0_paintRule cX0_paintRule 3 none)) B.pre
  have hts : ∀ w ∈ lw_all, w.before _ s = true := fun w h => hts w (List.mem_cons_of_mem _ h)
  have hown : s.vm.findClass RX0 = some m.cls := findClass_of_methodNamed B.named
  have hlocks := B.notSynchronized
  subst hsz
  have hD := hD0.self (sz := s.heap.size)
  generalize hAe : va_A (WA ad cI cB (nI n) (nI fb) (ra 2) (ra 3) (ra 4) (ra 5) (ra 6) (ra 7) pt (nI C) (nI R) cf rf fi se) s.heap.size = A at hD ⊢
  have hA : ∀ q : Nat, s.heap.size ≤ q → A q := fun q h => by rw [← hAe]; exact Or.inr h
  have hS : va_S A s.heap s.heap [] := va_S.rf
  have hP : va_P (dC, dI) vwCl (WA ad cI cB (nI n) (nI fb) (ra 2) (ra 3) (ra 4) (ra 5) (ra 6) (ra 7) pt (nI C) (nI R) cf rf fi se) s.heap := hP
  have hl := lv_entry ([.ref (ad 0), .int (nI i)]) (n := 3) (Nat.le_of_ble_eq_true rfl)
  rw [lg_entry_eq]
  generalize (lg_sl ([.ref (ad 0), .int (nI i)]) ++ List.replicate (3 - (lg_sl ([.ref (ad 0), .int (nI i)])).length) Slot.unset).toArray = ls at hl ⊢
  have hl : lv_has ls 3 [(0, .ref (ad 0)), (1, .int (nI i))] := hl
  have hn := hok.1
  have hC25 := hE.2.2.1.2.1
  have hcf := hE.2.2.2.2.1
  obtain ⟨hq1, hq2, hq3⟩ := hok.2.2 i hi
  refine lv_iconst (v := (nI 0)) hx hb dX0_paintRule_0 (by decide) ?_
  refine lv_istore_n (lv' := [(2, .int (nI 0)), (0, .ref (ad 0)), (1, .int (nI i))]) hx hb dX0_paintRule_1 rfl hl (by decide) rfl (fun ls hl => ?_)
  have loop : ∀ (f : Nat) (c1 : Nat) (fi1 se1 : Nat → Int32), c1 ≤ C → C < c1 + f → (∀ x, fi1 x = if x / 104 < c1 ∧ p_hc (q i) g (x / 104) = true ∧ x % 104 < 4 * R ∧ p_hit (q i) h (x % 104) = true then nI i else fi x) → (∀ x, se1 x = if x / 104 < c1 ∧ p_hc (q i) g (x / 104) = true ∧ x % 104 < 4 * R ∧ p_hit (q i) h (x % 104) = true then fi x else se x) → ∀ (H : Heap) (locs : List Loc) (ls : Array Slot), va_P (dC, dI) vwCl (WA ad cI cB (nI n) (nI fb) (ra 2) (ra 3) (ra 4) (ra 5) (ra 6) (ra 7) pt (nI C) (nI R) cf rf fi1 se1) H → va_D A (WA ad cI cB (nI n) (nI fb) (ra 2) (ra 3) (ra 4) (ra 5) (ra 6) (ra 7) pt (nI C) (nI R) cf rf fi1 se1) → va_S A s.heap H locs → lv_has ls 3 [(0, .ref (ad 0)), (1, .int (nI i)), (2, .int (nI c1))] → W p l e (headSpec (ws_ yX0_paintRule cX0_paintRule 3 none) { frames := 1, cells := 0, slots := 0, locals := 26 }).room s m ([.ref (ad 0), .int (nI i)] : List Value).toArray below meth c H locs 0 0 (MQ below (va_Qv (fun (u : (Nat → Int32) × (Nat → Int32)) => (∀ x, u.1 x = if x / 104 < C ∧ p_hc (q i) g (x / 104) = true ∧ x % 104 < 4 * R ∧ p_hit (q i) h (x % 104) = true then nI i else fi x) ∧ (∀ x, u.2 x = if x / 104 < C ∧ p_hc (q i) g (x / 104) = true ∧ x % 104 < 4 * R ∧ p_hit (q i) h (x % 104) = true then fi x else se x)) (fun (u : (Nat → Int32) × (Nat → Int32)) => PosW (dC, dI) (tyT cI cB) A (WT ad cI cB (nI n) (nI fb) ra pt (nI C) (nI R) cf rf u.1 u.2)) A) ([.ref (ad 0), .int (nI i)] : List Value).toArray s 0 0 A) (F0 m 2 ls []) := by
    intro f
    induction f with
    | zero => intros; omega
    | succ f ih =>
      intro c1 fi1 se1 h1 h2 hf1 hs1 H locs ls hP hD hS hl
      refine lv_iload_n hx hb dX0_paintRule_2 rfl (lv_at hl 2 rfl) ?_
      refine lv_aload_n hx hb dX0_paintRule_3 rfl (lv_at hl 0 rfl) ?_
      refine x_getT (v := .int (nI C)) hx hb hts hown hK hP 9 (by decide) q36 rfl rfl dX0_paintRule_4 ?_
      refine x_cge (tgt := 52) hx hb (by omega) (by omega) dX0_paintRule_7 (by decide) (fun ci => ?_) (fun ci => ?_)
      · obtain rfl : c1 = C := by omega
        exact W.vret hx hb hr (fun t ht hW => ⟨⟨(fi1, se1), rfl, ⟨hf1, hs1⟩, by rw [ht]; exact hP, va_K.moved hW.alike hK, hD⟩, hS.F ht⟩) hS.2.2 dX0_paintRule_52
      · have hgl := p_cut_le hE.2.2.1 (show c1 ≤ C by omega)
        refine lv_aload_n hx hb dX0_paintRule_10 rfl (lv_at hl 0 rfl) ?_
        refine x_getT (v := .ref (ad 2)) hx hb hts hown hK hP 2 (by decide) q29 rfl rfl dX0_paintRule_11 ?_
        refine lv_iload_n hx hb dX0_paintRule_14 rfl (lv_at hl 1 rfl) ?_
        refine x_iald (v := (nI ((q i).1 / 32))) hx hb hK hP 1 0 rfl rfl (by omega) (by decide) (hrep i hi 2 (by decide) (by decide)) dX0_paintRule_15 ?_
        refine lv_aload_n hx hb dX0_paintRule_16 rfl (lv_at hl 0 rfl) ?_
        refine x_getT (v := .ref (ad 11)) hx hb hts hown hK hP 11 (by decide) q38 rfl rfl dX0_paintRule_17 ?_
        refine lv_iload_n hx hb dX0_paintRule_20 rfl (lv_at hl 2 rfl) ?_
        refine x_iald (v := (nI (g c1))) hx hb hK hP 7 0 rfl rfl (by omega) (by decide) (hcf _ (by omega)) dX0_paintRule_21 ?_
        refine x_cgt (tgt := 46) hx hb (by omega) (by omega) dX0_paintRule_22 (by decide) (fun y1 => ?_) (fun y1 => ?_)
        · refine lv_iinc (v := (nI (c1 + 1))) (lv' := [(2, .int (nI (c1 + 1))), (0, .ref (ad 0)), (1, .int (nI i))]) hx hb dX0_paintRule_46 hl (k := 2) rfl (x_inc _) (by decide) rfl (fun ls hl => ?_)
          refine lv_goto (tgt := 2) hx hb dX0_paintRule_49 (by decide) ?_
          exact ih (c1 + 1) fi1 se1 (by omega) (by omega) (pr_no hf1 (decide_eq_false (by omega))) (pr_no hs1 (decide_eq_false (by omega))) _ _ _ hP hD hS (lv_sub hl [1, 2, 0] rfl)
        · refine lv_aload_n hx hb dX0_paintRule_25 rfl (lv_at hl 0 rfl) ?_
          refine x_getT (v := .ref (ad 11)) hx hb hts hown hK hP 11 (by decide) q38 rfl rfl dX0_paintRule_26 ?_
          refine lv_iload_n hx hb dX0_paintRule_29 rfl (lv_at hl 2 rfl) ?_
          refine x_iald (v := (nI (g c1))) hx hb hK hP 7 0 rfl rfl (by omega) (by decide) (hcf _ (by omega)) dX0_paintRule_30 ?_
          refine lv_aload_n hx hb dX0_paintRule_31 rfl (lv_at hl 0 rfl) ?_
          refine x_getT (v := .ref (ad 3)) hx hb hts hown hK hP 3 (by decide) q30 rfl rfl dX0_paintRule_32 ?_
          refine lv_iload_n hx hb dX0_paintRule_35 rfl (lv_at hl 1 rfl) ?_
          refine x_iald (v := (nI ((q i).1 % 32))) hx hb hK hP 2 0 rfl rfl (by omega) (by decide) (hrep i hi 3 (by decide) (by decide)) dX0_paintRule_36 ?_
          refine x_cgt (tgt := 46) hx hb (by omega) (by omega) dX0_paintRule_37 (by decide) (fun y2 => ?_) (fun y2 => ?_)
          · refine lv_iinc (v := (nI (c1 + 1))) (lv' := [(2, .int (nI (c1 + 1))), (0, .ref (ad 0)), (1, .int (nI i))]) hx hb dX0_paintRule_46 hl (k := 2) rfl (x_inc _) (by decide) rfl (fun ls hl => ?_)
            refine lv_goto (tgt := 2) hx hb dX0_paintRule_49 (by decide) ?_
            exact ih (c1 + 1) fi1 se1 (by omega) (by omega) (pr_no hf1 (decide_eq_false (by omega))) (pr_no hs1 (decide_eq_false (by omega))) _ _ _ hP hD hS (lv_sub hl [1, 2, 0] rfl)
          · refine lv_aload_n hx hb dX0_paintRule_40 rfl (lv_at hl 0 rfl) ?_
            refine lv_iload_n hx hb dX0_paintRule_41 rfl (lv_at hl 1 rfl) ?_
            refine lv_iload_n hx hb dX0_paintRule_42 rfl (lv_at hl 2 rfl) ?_
            refine x_callv (va_runV (As := [.int (nI i), .int (nI c1)]) (rest := []) ⟨hx, hb, hml, hown, hts⟩ (m0_paintColumn l dC dI ad cI cB H.size n fb q ra pt cf rf fi1 se1 C R g h i c1 hok hrep hE (p_by_c (show i < 12 by omega) hby hf1) hi ci) (cwV 2 hts (lw_V q126 q128 qs7 q17 q129) rfl rfl rfl (by decide +kernel) ⟨Nat.le_of_ble_eq_true rfl, Nat.le_of_ble_eq_true rfl⟩) (x_preV (ci := 0) (q0 := 0) hK hP hD rfl rfl) rfl rfl hl.1 rfl (lv_room (Nat.le_of_ble_eq_true rfl)) dX0_paintRule_43 ⟨Nat.le_refl _, Nat.le_refl _⟩) hD hS hA (fun u H locs hu hP hD hS => ?_)
            obtain ⟨fi2, se2⟩ := u
            obtain ⟨hf2, hs2⟩ := hu
            have hP : va_P (dC, dI) vwCl (WA ad cI cB (nI n) (nI fb) (ra 2) (ra 3) (ra 4) (ra 5) (ra 6) (ra 7) pt (nI C) (nI R) cf rf fi2 se2) H := hP
            have hD : va_D A (WA ad cI cB (nI n) (nI fb) (ra 2) (ra 3) (ra 4) (ra 5) (ra 6) (ra 7) pt (nI C) (nI R) cf rf fi2 se2) := hD
            refine lv_iinc (v := (nI (c1 + 1))) (lv' := [(2, .int (nI (c1 + 1))), (0, .ref (ad 0)), (1, .int (nI i))]) hx hb dX0_paintRule_46 hl (k := 2) rfl (x_inc _) (by decide) rfl (fun ls hl => ?_)
            refine lv_goto (tgt := 2) hx hb dX0_paintRule_49 (by decide) ?_
            exact ih (c1 + 1) fi2 se2 (by omega) (by omega) (pr_yes hf1 hf2 (fun _ _ => rfl) (decide_eq_true ⟨y1, y2⟩)) (pr_yes hs1 hs2 (fun x hx => by rw [hf1, if_neg (fun z => absurd z.1 (by omega))]) (decide_eq_true ⟨y1, y2⟩)) _ _ _ hP hD hS (lv_sub hl [1, 2, 0] rfl)
  exact loop (C + 1) 0 fi se (by omega) (by omega) pr_0 pr_0 _ _ _ hP hD hS (lv_sub hl [1, 2, 0] rfl)
end
section
set_option maxHeartbeats 4000000 in
set_option maxRecDepth 100000 in
/-- paint() -/
theorem m0_paint (l : Launch) (dC : Nat → ClassId) (dI : Nat → Nat → Nat) (ad : Nat → Nat) (cI cB : ClassId) (sz : Nat) (n fb : Nat) (q : Nat → pV) (ra : Nat → Nat → Int32) (pt co rc : Int32) (cf rf fi se : Nat → Int32) (hI : p_IT n q fb ra pt co rc cf rf fi se) : Met l yX0_paint (ws_ yX0_paint cX0_paint 2 none) { frames := 2, cells := 0, slots := 0, locals := 48 } (va_Pc [.ref (ad 0)] (PreW (dC, dI) (tyT cI cB) (WA ad cI cB (nI n) (nI fb) (ra 2) (ra 3) (ra 4) (ra 5) (ra 6) (ra 7) pt co rc cf rf fi se) sz)) (va_Qv (fun (u : Int32 × Int32 × (Nat → Int32) × (Nat → Int32) × (Nat → Int32) × (Nat → Int32)) => p_Board n q u.1 u.2.1 u.2.2.1 u.2.2.2.1 u.2.2.2.2.1 u.2.2.2.2.2) (fun (u : Int32 × Int32 × (Nat → Int32) × (Nat → Int32) × (Nat → Int32) × (Nat → Int32)) => PosW (dC, dI) (tyT cI cB) (va_A (WA ad cI cB (nI n) (nI fb) (ra 2) (ra 3) (ra 4) (ra 5) (ra 6) (ra 7) pt co rc cf rf fi se) sz) (WT ad cI cB (nI n) (nI fb) ra (nI 1) u.1 u.2.1 u.2.2.1 u.2.2.2.1 u.2.2.2.2.1 u.2.2.2.2.2)) (va_A (WA ad cI cB (nI n) (nI fb) (ra 2) (ra 3) (ra 4) (ra 5) (ra 6) (ra 7) pt co rc cf rf fi se) sz)) 0 0 (va_A (WA ad cI cB (nI n) (nI fb) (ra 2) (ra 3) (ra 4) (ra 5) (ra 6) (ra 7) pt co rc cf rf fi se) sz) := by
  refine Met.ofW (cc := cX0_paint) (maxL := 2) (ret := none) (by decide) rfl ?_
  intro p e s m args below meth c s₁ B hml hv
  obtain ⟨rfl, hsz, hP, hK, hD0⟩ := hv
  have hx := B.exec
  have hb := B.bytes
  have hr := B.returns
  have hts := atoms_spec (ws := (ws_ yX0_paint cX0_paint 2 none)) B.pre
  have hts : ∀ w ∈ lw_all, w.before _ s = true := fun w h => hts w (List.mem_cons_of_mem _ h)
  have hown : s.vm.findClass RX0 = some m.cls := findClass_of_methodNamed B.named
  have hlocks := B.notSynchronized
  subst hsz
  have hD := hD0.self (sz := s.heap.size)
  generalize hAe : va_A (WA ad cI cB (nI n) (nI fb) (ra 2) (ra 3) (ra 4) (ra 5) (ra 6) (ra 7) pt co rc cf rf fi se) s.heap.size = A at hD ⊢
  have hA : ∀ q : Nat, s.heap.size ≤ q → A q := fun q h => by rw [← hAe]; exact Or.inr h
  have hS : va_S A s.heap s.heap [] := va_S.rf
  have hP : va_P (dC, dI) vwCl (WA ad cI cB (nI n) (nI fb) (ra 2) (ra 3) (ra 4) (ra 5) (ra 6) (ra 7) pt co rc cf rf fi se) s.heap := hP
  have hl := lv_entry ([.ref (ad 0)]) (n := 2) (Nat.le_of_ble_eq_true rfl)
  rw [lg_entry_eq]
  generalize (lg_sl ([.ref (ad 0)]) ++ List.replicate (2 - (lg_sl ([.ref (ad 0)])).length) Slot.unset).toArray = ls at hl ⊢
  have hl : lv_has ls 2 [(0, .ref (ad 0))] := hl
  have hn := hI.1.1
  have hok := hI.1
  have hrep := hI.2.1
  rcases hI.2.2 with h0 | ⟨h0, hB⟩
  · subst h0
    refine lv_aload_n hx hb dX0_paint_0 rfl (lv_at hl 0 rfl) ?_
    refine x_getT (v := .int 0) hx hb hts hown hK hP 8 (by decide) q35 rfl rfl dX0_paint_1 ?_
    refine lv_if_eq (tgt := 8) hx hb dX0_paint_4 (by decide) (fun _ => ?_) (fun c9 => absurd (by decide) c9)
    refine lv_aload_n hx hb dX0_paint_8 rfl (lv_at hl 0 rfl) ?_
    refine lv_iconst (v := (nI 1)) hx hb dX0_paint_9 (by decide) ?_
    refine x_putT (v := .int (nI 1)) (ty := .boolean) hx hb hts hown hK hP hD hS 8 (by decide) q35 rfl rfl (by decide +kernel) rfl rfl (Nat.le_of_ble_eq_true rfl) dX0_paint_10 (fun H locs hP hD hS => ?_)
    have hP : va_P (dC, dI) vwCl (WA ad cI cB (nI n) (nI fb) (ra 2) (ra 3) (ra 4) (ra 5) (ra 6) (ra 7) (nI 1) co rc cf rf fi se) H := hP
    have hD : va_D A (WA ad cI cB (nI n) (nI fb) (ra 2) (ra 3) (ra 4) (ra 5) (ra 6) (ra 7) (nI 1) co rc cf rf fi se) := hD
    refine lv_aload_n hx hb dX0_paint_13 rfl (lv_at hl 0 rfl) ?_
    refine x_callv (va_runV (As := []) (rest := []) ⟨hx, hb, hml, hown, hts⟩ (m0_findEdges l dC dI ad cI cB H.size n fb q ra (nI 1) co rc cf rf fi se hok hrep) (cwV 0 hts (lw_V q114 q116 qs4 q17 q117) rfl rfl rfl (by decide +kernel) ⟨Nat.le_of_ble_eq_true rfl, Nat.le_of_ble_eq_true rfl⟩) (x_preV (ci := 0) (q0 := 0) hK hP hD rfl rfl) rfl rfl hl.1 rfl (lv_room (Nat.le_of_ble_eq_true rfl)) dX0_paint_14 ⟨Nat.le_refl _, Nat.le_refl _⟩) hD hS hA (fun u H locs hu hP hD hS => ?_)
    obtain ⟨co1, rc1, cf1, rf1⟩ := u
    obtain ⟨C, R, g, h, hE⟩ := hu
    have hE : p_Ed n q C R g h co1 rc1 cf1 rf1 := hE
    obtain ⟨e1, e2, -⟩ := id hE
    subst e1
    subst e2
    have hC25 := hE.2.2.1.2.1
    have hR25 := hE.2.2.2.1.2.1
    have hP : va_P (dC, dI) vwCl (WA ad cI cB (nI n) (nI fb) (ra 2) (ra 3) (ra 4) (ra 5) (ra 6) (ra 7) (nI 1) (nI C) (nI R) cf1 rf1 fi se) H := hP
    have hD : va_D A (WA ad cI cB (nI n) (nI fb) (ra 2) (ra 3) (ra 4) (ra 5) (ra 6) (ra 7) (nI 1) (nI C) (nI R) cf1 rf1 fi se) := hD
    refine lv_iconst (v := (nI 0)) hx hb dX0_paint_17 (by decide) ?_
    refine lv_istore_n (lv' := [(1, .int (nI 0)), (0, .ref (ad 0))]) hx hb dX0_paint_18 rfl hl (by decide) rfl (fun ls hl => ?_)
    have loop : ∀ (f : Nat) (x : Nat) (fi1 se1 : Nat → Int32), x ≤ 2704 → 2704 < x + f → (∀ y, y < x → fi1 y = -1 ∧ se1 y = -1) → ∀ (H : Heap) (locs : List Loc) (ls : Array Slot), va_P (dC, dI) vwCl (WA ad cI cB (nI n) (nI fb) (ra 2) (ra 3) (ra 4) (ra 5) (ra 6) (ra 7) (nI 1) (nI C) (nI R) cf1 rf1 fi1 se1) H → va_D A (WA ad cI cB (nI n) (nI fb) (ra 2) (ra 3) (ra 4) (ra 5) (ra 6) (ra 7) (nI 1) (nI C) (nI R) cf1 rf1 fi1 se1) → va_S A s.heap H locs → lv_has ls 2 [(0, .ref (ad 0)), (1, .int (nI x))] → W p l e (headSpec (ws_ yX0_paint cX0_paint 2 none) { frames := 2, cells := 0, slots := 0, locals := 48 }).room s m ([.ref (ad 0)] : List Value).toArray below meth c H locs 0 0 (MQ below (va_Qv (fun (u : Int32 × Int32 × (Nat → Int32) × (Nat → Int32) × (Nat → Int32) × (Nat → Int32)) => p_Board n q u.1 u.2.1 u.2.2.1 u.2.2.2.1 u.2.2.2.2.1 u.2.2.2.2.2) (fun (u : Int32 × Int32 × (Nat → Int32) × (Nat → Int32) × (Nat → Int32) × (Nat → Int32)) => PosW (dC, dI) (tyT cI cB) A (WT ad cI cB (nI n) (nI fb) ra (nI 1) u.1 u.2.1 u.2.2.1 u.2.2.2.1 u.2.2.2.2.1 u.2.2.2.2.2)) A) ([.ref (ad 0)] : List Value).toArray s 0 0 A) (F0 m 19 ls []) := by
      intro f
      induction f with
      | zero => intros; omega
      | succ f ih =>
        intro x fi1 se1 h1 h2 hf H locs ls hP hD hS hl
        refine lv_iload_n hx hb dX0_paint_19 rfl (lv_at hl 1 rfl) ?_
        refine lv_sipush (v := (nI 2704)) hx hb dX0_paint_20 (by decide) ?_
        refine x_cge (tgt := 46) hx hb (by omega) (by omega) dX0_paint_23 (by decide) (fun ci => ?_) (fun ci => ?_)
        · have hf : ∀ y, y < 2704 → fi1 y = -1 ∧ se1 y = -1 := fun y hy => hf y (by omega)
          refine lv_aload_n hx hb dX0_paint_46 rfl (lv_at hl 0 rfl) ?_
          refine x_getT (v := .int (nI n)) hx hb hts hown hK hP 0 (by decide) q27 rfl rfl dX0_paint_47 ?_
          refine lv_iconst (v := (nI 1)) hx hb dX0_paint_50 (by decide) ?_
          refine lv_isub hx hb dX0_paint_51 ?_
          refine lv_istore_n (lv' := [(1, .int ((nI n) - (nI 1))), (0, .ref (ad 0))]) hx hb dX0_paint_52 rfl hl (by decide) rfl (fun ls hl => ?_)
          have loop2 : ∀ (f : Nat) (k : Nat) (fi2 se2 : Nat → Int32), k ≤ n → k < f → p_Lv n q C R g h k fi2 se2 → p_by fi2 → ∀ (H : Heap) (locs : List Loc) (ls : Array Slot), va_P (dC, dI) vwCl (WA ad cI cB (nI n) (nI fb) (ra 2) (ra 3) (ra 4) (ra 5) (ra 6) (ra 7) (nI 1) (nI C) (nI R) cf1 rf1 fi2 se2) H → va_D A (WA ad cI cB (nI n) (nI fb) (ra 2) (ra 3) (ra 4) (ra 5) (ra 6) (ra 7) (nI 1) (nI C) (nI R) cf1 rf1 fi2 se2) → va_S A s.heap H locs → lv_has ls 2 [(0, .ref (ad 0)), (1, .int ((nI k) - (nI 1)))] → W p l e (headSpec (ws_ yX0_paint cX0_paint 2 none) { frames := 2, cells := 0, slots := 0, locals := 48 }).room s m ([.ref (ad 0)] : List Value).toArray below meth c H locs 0 0 (MQ below (va_Qv (fun (u : Int32 × Int32 × (Nat → Int32) × (Nat → Int32) × (Nat → Int32) × (Nat → Int32)) => p_Board n q u.1 u.2.1 u.2.2.1 u.2.2.2.1 u.2.2.2.2.1 u.2.2.2.2.2) (fun (u : Int32 × Int32 × (Nat → Int32) × (Nat → Int32) × (Nat → Int32) × (Nat → Int32)) => PosW (dC, dI) (tyT cI cB) A (WT ad cI cB (nI n) (nI fb) ra (nI 1) u.1 u.2.1 u.2.2.1 u.2.2.2.1 u.2.2.2.2.1 u.2.2.2.2.2)) A) ([.ref (ad 0)] : List Value).toArray s 0 0 A) (F0 m 53 ls []) := by
            intro f
            induction f with
            | zero => intros; omega
            | succ f ih =>
              intro k fi2 se2 k1 k2 hL hby H locs ls hP hD hS hl
              refine lv_iload_n hx hb dX0_paint_53 rfl (lv_at hl 1 rfl) ?_
              refine lv_if_lt (tgt := 68) hx hb dX0_paint_54 (by decide) (fun ck => ?_) (fun ck => ?_)
              · obtain rfl : k = 0 := (x_m1 (by omega)).mp ck
                exact W.vret hx hb hr (fun t ht hW => ⟨⟨(nI C, nI R, cf1, rf1, fi2, se2), rfl, ⟨C, R, g, h, hE, p_Lv_0 hL⟩, by rw [ht]; exact hP, va_K.moved hW.alike hK, hD⟩, hS.F ht⟩) hS.2.2 dX0_paint_68
              · obtain ⟨j, rfl⟩ : ∃ j, k = j + 1 := ⟨k - 1, by have : ¬ k = 0 := fun z => ck ((x_m1 (by omega)).mpr z); omega⟩
                rw [x_m1s j] at hl
                refine lv_aload_n hx hb dX0_paint_57 rfl (lv_at hl 0 rfl) ?_
                refine lv_iload_n hx hb dX0_paint_58 rfl (lv_at hl 1 rfl) ?_
                refine x_callv (va_runV (As := [.int (nI j)]) (rest := []) ⟨hx, hb, hml, hown, hts⟩ (m0_paintRule l dC dI ad cI cB H.size n fb q ra (nI 1) cf1 rf1 fi2 se2 C R g h j hok hrep hE hby (by omega)) (cwV 1 hts (lw_V q122 q124 qs6 q17 q125) rfl rfl rfl (by decide +kernel) ⟨Nat.le_of_ble_eq_true rfl, Nat.le_of_ble_eq_true rfl⟩) (x_preV (ci := 0) (q0 := 0) hK hP hD rfl rfl) rfl rfl hl.1 rfl (lv_room (Nat.le_of_ble_eq_true rfl)) dX0_paint_59 ⟨Nat.le_refl _, Nat.le_refl _⟩) hD hS hA (fun u H locs hu hP hD hS => ?_)
                obtain ⟨fi3, se3⟩ := u
                obtain ⟨hf3, hs3⟩ := hu
                have hP : va_P (dC, dI) vwCl (WA ad cI cB (nI n) (nI fb) (ra 2) (ra 3) (ra 4) (ra 5) (ra 6) (ra 7) (nI 1) (nI C) (nI R) cf1 rf1 fi3 se3) H := hP
                have hD : va_D A (WA ad cI cB (nI n) (nI fb) (ra 2) (ra 3) (ra 4) (ra 5) (ra 6) (ra 7) (nI 1) (nI C) (nI R) cf1 rf1 fi3 se3) := hD
                refine lv_iinc (v := ((nI j) - (nI 1))) (lv' := [(1, .int ((nI j) - (nI 1))), (0, .ref (ad 0))]) hx hb dX0_paint_62 hl (k := 1) rfl (x_dec1 j) (by decide) rfl (fun ls hl => ?_)
                refine lv_goto (tgt := 53) hx hb dX0_paint_65 (by decide) ?_
                exact ih j fi3 se3 (by omega) (by omega) (p_Lv_step hR25 (by omega) hL hf3 hs3) (p_by_c (show j < 12 by omega) hby hf3) _ _ _ hP hD hS (lv_sub hl [1, 0] rfl)
          exact loop2 (n + 1) n fi1 se1 (by omega) (by omega) (p_Lv_n hC25 hR25 hf) (fun x hx => by rw [(hf x hx).1]; decide) _ _ _ hP hD hS (lv_sub hl [1, 0] rfl)
        · refine lv_aload_n hx hb dX0_paint_26 rfl (lv_at hl 0 rfl) ?_
          refine x_getT (v := .ref (ad 13)) hx hb hts hown hK hP 13 (by decide) q40 rfl rfl dX0_paint_27 ?_
          refine lv_iload_n hx hb dX0_paint_30 rfl (lv_at hl 1 rfl) ?_
          refine lv_iconst (v := -1) hx hb dX0_paint_31 (by decide) ?_
          refine x_bast hx hb hK hP hD hS 9 1 rfl rfl (by omega) (by decide) (by decide) dX0_paint_32 (fun H locs hP hD hS => ?_)
          have hP : va_P (dC, dI) vwCl (WA ad cI cB (nI n) (nI fb) (ra 2) (ra 3) (ra 4) (ra 5) (ra 6) (ra 7) (nI 1) (nI C) (nI R) cf1 rf1 (upd fi1 x (-1)) se1) H := hP
          have hD : va_D A (WA ad cI cB (nI n) (nI fb) (ra 2) (ra 3) (ra 4) (ra 5) (ra 6) (ra 7) (nI 1) (nI C) (nI R) cf1 rf1 (upd fi1 x (-1)) se1) := hD
          refine lv_aload_n hx hb dX0_paint_33 rfl (lv_at hl 0 rfl) ?_
          refine x_getT (v := .ref (ad 14)) hx hb hts hown hK hP 14 (by decide) q41 rfl rfl dX0_paint_34 ?_
          refine lv_iload_n hx hb dX0_paint_37 rfl (lv_at hl 1 rfl) ?_
          refine lv_iconst (v := -1) hx hb dX0_paint_38 (by decide) ?_
          refine x_bast hx hb hK hP hD hS 10 1 rfl rfl (by omega) (by decide) (by decide) dX0_paint_39 (fun H locs hP hD hS => ?_)
          have hP : va_P (dC, dI) vwCl (WA ad cI cB (nI n) (nI fb) (ra 2) (ra 3) (ra 4) (ra 5) (ra 6) (ra 7) (nI 1) (nI C) (nI R) cf1 rf1 (upd fi1 x (-1)) (upd se1 x (-1))) H := hP
          have hD : va_D A (WA ad cI cB (nI n) (nI fb) (ra 2) (ra 3) (ra 4) (ra 5) (ra 6) (ra 7) (nI 1) (nI C) (nI R) cf1 rf1 (upd fi1 x (-1)) (upd se1 x (-1))) := hD
          refine lv_iinc (v := (nI (x + 1))) (lv' := [(1, .int (nI (x + 1))), (0, .ref (ad 0))]) hx hb dX0_paint_40 hl (k := 1) rfl (x_inc _) (by decide) rfl (fun ls hl => ?_)
          refine lv_goto (tgt := 19) hx hb dX0_paint_43 (by decide) ?_
          exact ih (x + 1) (upd fi1 x (-1)) (upd se1 x (-1)) (by omega) (by omega) (fun y hy => by
                            by_cases e : y = x
                            · rw [e, pk_us, pk_us]; exact ⟨rfl, rfl⟩
                            · rw [pk_un e, pk_un e]; exact hf y (by omega)) _ _ _ hP hD hS (lv_sub hl [1, 0] rfl)
    exact loop 2705 0 fi se (by omega) (by omega) (fun y hy => absurd hy (Nat.not_lt_zero y)) _ _ _ hP hD hS (lv_sub hl [1, 0] rfl)
  · subst h0
    refine lv_aload_n hx hb dX0_paint_0 rfl (lv_at hl 0 rfl) ?_
    refine x_getT (v := .int 1) hx hb hts hown hK hP 8 (by decide) q35 rfl rfl dX0_paint_1 ?_
    refine lv_if_eq (tgt := 8) hx hb dX0_paint_4 (by decide) (fun c9 => absurd c9 (by decide)) (fun _ => ?_)
    exact W.vret hx hb hr (fun t ht hW => ⟨⟨(co, rc, cf, rf, fi, se), rfl, hB, by rw [ht]; exact hP, va_K.moved hW.alike hK, hD⟩, hS.F ht⟩) hS.2.2 dX0_paint_7
end
section
set_option maxHeartbeats 4000000 in
set_option maxRecDepth 100000 in
/-- decide -/
theorem m0_decide (l : Launch) (dC : Nat → ClassId) (dI : Nat → Nat → Nat) (ad : Nat → Nat) (cI cB : ClassId) (sz : Nat) (n fb : Nat) (q : Nat → pV) (ra : Nat → Nat → Int32) (pt co rc : Int32) (cf rf fi se : Nat → Int32) (a b c0 : Int32) (hI : p_IT n q fb ra pt co rc cf rf fi se) : Met l yX0_decide (ws_ yX0_decide cX0_decide 6 (some .int)) { frames := 3, cells := 0, slots := 0, locals := 69 } (va_Pc [.ref (ad 0), .int a, .int b, .int c0] (PreW (dC, dI) (tyT cI cB) (WA ad cI cB (nI n) (nI fb) (ra 2) (ra 3) (ra 4) (ra 5) (ra 6) (ra 7) pt co rc cf rf fi se) sz)) (va_Qi (fun (r : Int32) (u : pS × pR) => (r, u.1) = o_dec n q fb a b c0 ∧ p_ITr u.1.1 u.1.2.1 u.1.2.2 u.2) (fun (u : pS × pR) => PosW (dC, dI) (tyT cI cB) (va_A (WA ad cI cB (nI n) (nI fb) (ra 2) (ra 3) (ra 4) (ra 5) (ra 6) (ra 7) pt co rc cf rf fi se) sz) (WTr ad cI cB (nI u.1.1) (nI u.1.2.2) u.2)) (va_A (WA ad cI cB (nI n) (nI fb) (ra 2) (ra 3) (ra 4) (ra 5) (ra 6) (ra 7) pt co rc cf rf fi se) sz)) 0 0 (va_A (WA ad cI cB (nI n) (nI fb) (ra 2) (ra 3) (ra 4) (ra 5) (ra 6) (ra 7) pt co rc cf rf fi se) sz) := by
  refine Met.ofW (cc := cX0_decide) (maxL := 6) (ret := (some .int)) (by decide) rfl ?_
  intro p e s m args below meth c s₁ B hml hv
  obtain ⟨rfl, hsz, hP, hK, hD0⟩ := hv
  have hx := B.exec
  have hb := B.bytes
  have hr := B.returns
  have hts := atoms_spec (ws := (ws_ yX0_decide cX0_decide 6 (some .int))) B.pre
  have hts : ∀ w ∈ lw_all, w.before _ s = true := fun w h => hts w (List.mem_cons_of_mem _ h)
  have hown : s.vm.findClass RX0 = some m.cls := findClass_of_methodNamed B.named
  have hlocks := B.notSynchronized
  subst hsz
  have hD := hD0.self (sz := s.heap.size)
  generalize hAe : va_A (WA ad cI cB (nI n) (nI fb) (ra 2) (ra 3) (ra 4) (ra 5) (ra 6) (ra 7) pt co rc cf rf fi se) s.heap.size = A at hD ⊢
  have hA : ∀ q : Nat, s.heap.size ≤ q → A q := fun q h => by rw [← hAe]; exact Or.inr h
  have hS : va_S A s.heap s.heap [] := va_S.rf
  have hP : va_P (dC, dI) vwCl (WA ad cI cB (nI n) (nI fb) (ra 2) (ra 3) (ra 4) (ra 5) (ra 6) (ra 7) pt co rc cf rf fi se) s.heap := hP
  have hl := lv_entry ([.ref (ad 0), .int a, .int b, .int c0]) (n := 6) (Nat.le_of_ble_eq_true rfl)
  rw [lg_entry_eq]
  generalize (lg_sl ([.ref (ad 0), .int a, .int b, .int c0]) ++ List.replicate (6 - (lg_sl ([.ref (ad 0), .int a, .int b, .int c0])).length) Slot.unset).toArray = ls at hl ⊢
  have hl : lv_has ls 6 [(0, .ref (ad 0)), (1, .int a), (2, .int b), (3, .int c0)] := hl
  have hn := hI.1.1
  refine lv_iload_n hx hb dX0_decide_0 rfl (lv_at hl 1 rfl) ?_
  refine lv_iload_n hx hb dX0_decide_1 rfl (lv_at hl 2 rfl) ?_
  refine lv_iload_n hx hb dX0_decide_2 rfl (lv_at hl 3 rfl) ?_
  refine vp_callSi (W.runS (As := [.int a, .int b, .int c0]) (rest := []) ⟨hx, hb, hml, hown, hts⟩ (m0_isPacket l a b c0) (va_cwS 3 hts (lw_S q107 q108 q17 q109) rfl rfl rfl (by decide +kernel) ⟨Nat.le_of_ble_eq_true rfl, Nat.le_of_ble_eq_true rfl⟩) (x_preS0) rfl rfl hl.1 rfl (lv_room (Nat.le_of_ble_eq_true rfl)) dX0_decide_3 ⟨Nat.le_refl _, Nat.le_refl _⟩) (fun r1 h1 => ?_)
  rcases h1 with ⟨rfl, x, y, z, hx1, hy1, hz1, rfl, rfl, rfl⟩ | ⟨rfl, hno⟩
  · refine lv_if_ne (tgt := 12) hx hb dX0_decide_6 (by decide) (fun _ => ?_) (fun c9 => absurd c9 (by decide))
    refine lv_aload_n hx hb dX0_decide_12 rfl (lv_at hl 0 rfl) ?_
    refine x_callv (va_runV (As := []) (rest := []) ⟨hx, hb, hml, hown, hts⟩ (m0_paint l dC dI ad cI cB s.heap.size n fb q ra pt co rc cf rf fi se hI) (cwV 0 hts (lw_V q110 q112 qs3 q17 q113) rfl rfl rfl (by decide +kernel) ⟨Nat.le_of_ble_eq_true rfl, Nat.le_of_ble_eq_true rfl⟩) (x_preV (ci := 0) (q0 := 0) hK hP hD rfl rfl) rfl rfl hl.1 rfl (lv_room (Nat.le_of_ble_eq_true rfl)) dX0_decide_13 ⟨Nat.le_refl _, Nat.le_refl _⟩) hD hS hA (fun u H locs hu hP hD hS => ?_)
    obtain ⟨co1, rc1, cf1, rf1, fi1, se1⟩ := u
    obtain ⟨C, R, g, h, hE, hBd⟩ := hu
    have hE : p_Ed n q C R g h co1 rc1 cf1 rf1 := hE
    have hBd : p_Bd n q C R g h fi1 se1 := hBd
    obtain ⟨e1, e2, -⟩ := id hE
    subst e1
    subst e2
    have hC25 := hE.2.2.1.2.1
    have hR25 := hE.2.2.2.1.2.1
    have hcf := hE.2.2.2.2.1
    have hrf := hE.2.2.2.2.2
    have hP : va_P (dC, dI) vwCl (WA ad cI cB (nI n) (nI fb) (ra 2) (ra 3) (ra 4) (ra 5) (ra 6) (ra 7) (nI 1) (nI C) (nI R) cf1 rf1 fi1 se1) H := hP
    have hD : va_D A (WA ad cI cB (nI n) (nI fb) (ra 2) (ra 3) (ra 4) (ra 5) (ra 6) (ra 7) (nI 1) (nI C) (nI R) cf1 rf1 fi1 se1) := hD
    refine lv_aload_n hx hb dX0_decide_16 rfl (lv_at hl 0 rfl) ?_
    refine x_getT (v := .ref (ad 11)) hx hb hts hown hK hP 11 (by decide) q38 rfl rfl dX0_decide_17 ?_
    refine lv_aload_n hx hb dX0_decide_20 rfl (lv_at hl 0 rfl) ?_
    refine x_getT (v := .int (nI C)) hx hb hts hown hK hP 9 (by decide) q36 rfl rfl dX0_decide_21 ?_
    refine lv_iload_n hx hb dX0_decide_24 rfl (lv_at hl 1 rfl) ?_
    refine vp_callSi (W.runS (As := [.ref (ad 11), .int (nI C), .int (nI x)]) (rest := []) ⟨hx, hb, hml, hown, hts⟩ (m0_intervalOf l dC dI cI cB (ad 11) cf1 (fun i => (q i).1) n C g x hE.2.2.1 hcf hx1) (va_cwS 3 hts (lw_S q130 q131 q17 q132) rfl rfl rfl (by decide +kernel) ⟨Nat.le_of_ble_eq_true rfl, Nat.le_of_ble_eq_true rfl⟩) (x_preSR (ws := [(ad 11, .inl (cI, 27, .inl cf1))]) hK (hP.sub [7] rfl)) rfl rfl hl.1 rfl (lv_room (Nat.le_of_ble_eq_true rfl)) dX0_decide_25 ⟨Nat.le_refl _, Nat.le_refl _⟩) (fun r2 h2 => ?_)
    obtain ⟨cx, hc1, rfl, hc2, hc3⟩ := h2
    refine lv_istore (lv' := [(4, .int (nI cx)), (0, .ref (ad 0)), (1, .int (nI x)), (2, .int (nI y)), (3, .int (nI z))]) hx hb dX0_decide_28 hl (by decide) rfl (fun ls hl => ?_)
    refine lv_aload_n hx hb dX0_decide_30 rfl (lv_at hl 1 rfl) ?_
    refine x_getT (v := .ref (ad 12)) hx hb hts hown hK hP 12 (by decide) q39 rfl rfl dX0_decide_31 ?_
    refine lv_aload_n hx hb dX0_decide_34 rfl (lv_at hl 1 rfl) ?_
    refine x_getT (v := .int (nI R)) hx hb hts hown hK hP 10 (by decide) q37 rfl rfl dX0_decide_35 ?_
    refine lv_iload_n hx hb dX0_decide_38 rfl (lv_at hl 3 rfl) ?_
    refine vp_callSi (W.runS (As := [.ref (ad 12), .int (nI R), .int (nI y)]) (rest := []) ⟨hx, hb, hml, hown, hts⟩ (m0_intervalOf l dC dI cI cB (ad 12) rf1 (fun i => (q i).2.1) n R h y hE.2.2.2.1 hrf hy1) (va_cwS 3 hts (lw_S q130 q131 q17 q132) rfl rfl rfl (by decide +kernel) ⟨Nat.le_of_ble_eq_true rfl, Nat.le_of_ble_eq_true rfl⟩) (x_preSR (ws := [(ad 12, .inl (cI, 27, .inl rf1))]) hK (hP.sub [8] rfl)) rfl rfl hl.1 rfl (lv_room (Nat.le_of_ble_eq_true rfl)) dX0_decide_39 ⟨Nat.le_refl _, Nat.le_refl _⟩) (fun r2 h2 => ?_)
    obtain ⟨ry, hr1, rfl, hr2, hr3⟩ := h2
    refine lv_istore (lv' := [(5, .int (nI ry)), (4, .int (nI cx)), (0, .ref (ad 0)), (1, .int (nI x)), (2, .int (nI y)), (3, .int (nI z))]) hx hb dX0_decide_42 hl (by decide) rfl (fun ls hl => ?_)
    refine lv_aload_n hx hb dX0_decide_44 rfl (lv_at hl 2 rfl) ?_
    refine x_getT (v := .ref (ad 13)) hx hb hts hown hK hP 13 (by decide) q40 rfl rfl dX0_decide_45 ?_
    refine lv_bipush (v := (nI 104)) hx hb dX0_decide_48 (by decide) ?_
    refine lv_iload hx hb dX0_decide_50 (lv_at hl 1 rfl) ?_
    refine x_mul hx hb dX0_decide_52 ?_
    refine lv_iconst (v := (nI 4)) hx hb dX0_decide_53 (by decide) ?_
    refine lv_iload hx hb dX0_decide_54 (lv_at hl 0 rfl) ?_
    refine x_mul hx hb dX0_decide_56 ?_
    refine x_add hx hb dX0_decide_57 ?_
    refine lv_iload_n hx hb dX0_decide_58 rfl (lv_at hl 5 rfl) ?_
    refine x_add hx hb dX0_decide_59 ?_
    refine x_bald (v := (p_cd n (p_D n q (g cx) (h ry) z))) hx hb hK hP 9 1 rfl rfl (by omega) (by decide) ((hBd cx ry z hc1 hr1 hz1).1) dX0_decide_60 ?_
    exact W.iret (v := (p_cd n (p_D n q (g cx) (h ry) z))) hx hb hr (fun t ht hW => ⟨⟨_, ((n, q, fb), (ra, nI 1, nI C, nI R, cf1, rf1, fi1, se1)), rfl, ⟨by rw [o_dec_y q fb hx1 hy1 hz1, p_D_field hE.2.2.1 hE.2.2.2.1 hc1 hc2 hc3 hr1 hr2 hr3], ⟨hI.1, hI.2.1, Or.inr ⟨rfl, C, R, g, h, hE, hBd⟩⟩⟩, by rw [ht]; exact hP, va_K.moved hW.alike hK, hD⟩, hS.F ht⟩) hS.2.2 dX0_decide_61
  · refine lv_if_ne (tgt := 12) hx hb dX0_decide_6 (by decide) (fun c9 => absurd (by decide) c9) (fun _ => ?_)
    refine lv_bipush (v := -2) hx hb dX0_decide_9 (by decide) ?_
    exact W.iret (v := (-2)) hx hb hr (fun t ht hW => ⟨⟨_, ((n, q, fb), (ra, pt, co, rc, cf, rf, fi, se)), rfl, ⟨(o_dec_n q fb hno).symm, hI⟩, by rw [ht]; exact hP, va_K.moved hW.alike hK, hD⟩, hS.F ht⟩) hS.2.2 dX0_decide_11
set_option maxHeartbeats 4000000 in
set_option maxRecDepth 100000 in
/-- action -/
theorem m0_action (l : Launch) (dC : Nat → ClassId) (dI : Nat → Nat → Nat) (ad : Nat → Nat) (cI cB : ClassId) (sz : Nat) (n fb : Nat) (q : Nat → pV) (ra : Nat → Nat → Int32) (pt co rc : Int32) (cf rf fi se : Nat → Int32) (a b c0 : Int32) (hI : p_IT n q fb ra pt co rc cf rf fi se) : Met l yX0_action (ws_ yX0_action cX0_action 5 (some .int)) { frames := 4, cells := 0, slots := 0, locals := 94 } (va_Pc [.ref (ad 0), .int a, .int b, .int c0] (PreW (dC, dI) (tyT cI cB) (WA ad cI cB (nI n) (nI fb) (ra 2) (ra 3) (ra 4) (ra 5) (ra 6) (ra 7) pt co rc cf rf fi se) sz)) (va_Qi (fun (r : Int32) (u : pS × pR) => (r, u.1) = o_act n q fb a b c0 ∧ p_ITr u.1.1 u.1.2.1 u.1.2.2 u.2) (fun (u : pS × pR) => PosW (dC, dI) (tyT cI cB) (va_A (WA ad cI cB (nI n) (nI fb) (ra 2) (ra 3) (ra 4) (ra 5) (ra 6) (ra 7) pt co rc cf rf fi se) sz) (WTr ad cI cB (nI u.1.1) (nI u.1.2.2) u.2)) (va_A (WA ad cI cB (nI n) (nI fb) (ra 2) (ra 3) (ra 4) (ra 5) (ra 6) (ra 7) pt co rc cf rf fi se) sz)) 0 0 (va_A (WA ad cI cB (nI n) (nI fb) (ra 2) (ra 3) (ra 4) (ra 5) (ra 6) (ra 7) pt co rc cf rf fi se) sz) := by
  refine Met.ofW (cc := cX0_action) (maxL := 5) (ret := (some .int)) (by decide) rfl ?_
  intro p e s m args below meth c s₁ B hml hv
  obtain ⟨rfl, hsz, hP, hK, hD0⟩ := hv
  have hx := B.exec
  have hb := B.bytes
  have hr := B.returns
  have hts := atoms_spec (ws := (ws_ yX0_action cX0_action 5 (some .int))) B.pre
  have hts : ∀ w ∈ lw_all, w.before _ s = true := fun w h => hts w (List.mem_cons_of_mem _ h)
  have hown : s.vm.findClass RX0 = some m.cls := findClass_of_methodNamed B.named
  have hlocks := B.notSynchronized
  subst hsz
  have hD := hD0.self (sz := s.heap.size)
  generalize hAe : va_A (WA ad cI cB (nI n) (nI fb) (ra 2) (ra 3) (ra 4) (ra 5) (ra 6) (ra 7) pt co rc cf rf fi se) s.heap.size = A at hD ⊢
  have hA : ∀ q : Nat, s.heap.size ≤ q → A q := fun q h => by rw [← hAe]; exact Or.inr h
  have hS : va_S A s.heap s.heap [] := va_S.rf
  have hP : va_P (dC, dI) vwCl (WA ad cI cB (nI n) (nI fb) (ra 2) (ra 3) (ra 4) (ra 5) (ra 6) (ra 7) pt co rc cf rf fi se) s.heap := hP
  have hl := lv_entry ([.ref (ad 0), .int a, .int b, .int c0]) (n := 5) (Nat.le_of_ble_eq_true rfl)
  rw [lg_entry_eq]
  generalize (lg_sl ([.ref (ad 0), .int a, .int b, .int c0]) ++ List.replicate (5 - (lg_sl ([.ref (ad 0), .int a, .int b, .int c0])).length) Slot.unset).toArray = ls at hl ⊢
  have hl : lv_has ls 5 [(0, .ref (ad 0)), (1, .int a), (2, .int b), (3, .int c0)] := hl
  have hn := hI.1.1
  refine lv_iload_n hx hb dX0_action_0 rfl (lv_at hl 1 rfl) ?_
  refine lv_iload_n hx hb dX0_action_1 rfl (lv_at hl 2 rfl) ?_
  refine lv_iload_n hx hb dX0_action_2 rfl (lv_at hl 3 rfl) ?_
  refine vp_callSi (W.runS (As := [.int a, .int b, .int c0]) (rest := []) ⟨hx, hb, hml, hown, hts⟩ (m0_isPacket l a b c0) (va_cwS 3 hts (lw_S q107 q108 q17 q109) rfl rfl rfl (by decide +kernel) ⟨Nat.le_of_ble_eq_true rfl, Nat.le_of_ble_eq_true rfl⟩) (x_preS0) rfl rfl hl.1 rfl (lv_room (Nat.le_of_ble_eq_true rfl)) dX0_action_3 ⟨Nat.le_refl _, Nat.le_refl _⟩) (fun r1 h1 => ?_)
  rcases h1 with ⟨rfl, x, y, z, hx1, hy1, hz1, rfl, rfl, rfl⟩ | ⟨rfl, hno⟩
  · refine lv_if_ne (tgt := 12) hx hb dX0_action_6 (by decide) (fun _ => ?_) (fun c9 => absurd c9 (by decide))
    refine lv_aload_n hx hb dX0_action_12 rfl (lv_at hl 0 rfl) ?_
    refine lv_iload_n hx hb dX0_action_13 rfl (lv_at hl 1 rfl) ?_
    refine lv_iload_n hx hb dX0_action_14 rfl (lv_at hl 2 rfl) ?_
    refine lv_iload_n hx hb dX0_action_15 rfl (lv_at hl 3 rfl) ?_
    refine x_calli (va_runV (As := [.int (nI x), .int (nI y), .int (nI z)]) (rest := []) ⟨hx, hb, hml, hown, hts⟩ (m0_decide l dC dI ad cI cB s.heap.size n fb q ra pt co rc cf rf fi se (nI x) (nI y) (nI z) hI) (cwV 3 hts (lw_V q137 q104 q105 q17 q106) rfl rfl rfl (by decide +kernel) ⟨Nat.le_of_ble_eq_true rfl, Nat.le_of_ble_eq_true rfl⟩) (x_preV (ci := 0) (q0 := 0) hK hP hD rfl rfl) rfl rfl hl.1 rfl (lv_room (Nat.le_of_ble_eq_true rfl)) dX0_action_16 ⟨Nat.le_refl _, Nat.le_refl _⟩) hD hS hA (fun r2 u H locs hu hP hD hS => ?_)
    obtain ⟨u1, rb, pt1, co1, rc1, cf1, rf1, fi1, se1⟩ := u
    obtain ⟨e1, e2⟩ := Prod.mk.inj (hu.1.trans (o_dec_y q fb hx1 hy1 hz1))
    dsimp only at e2
    subst e2
    have hI2 : p_IT n q fb rb pt1 co1 rc1 cf1 rf1 fi1 se1 := hu.2
    have hP : va_P (dC, dI) vwCl (WA ad cI cB (nI n) (nI fb) (rb 2) (rb 3) (rb 4) (rb 5) (rb 6) (rb 7) pt1 co1 rc1 cf1 rf1 fi1 se1) H := hP
    have hD : va_D A (WA ad cI cB (nI n) (nI fb) (rb 2) (rb 3) (rb 4) (rb 5) (rb 6) (rb 7) pt1 co1 rc1 cf1 rf1 fi1 se1) := hD
    have hDl := p_D_le n q x y z
    by_cases hdl : p_D n q x y z < n
    · rw [p_cd_lt hdl] at e1
      subst e1
      refine lv_istore (lv' := [(4, .int (nI (p_D n q x y z))), (0, .ref (ad 0)), (1, .int (nI x)), (2, .int (nI y)), (3, .int (nI z))]) hx hb dX0_action_19 hl (by decide) rfl (fun ls hl => ?_)
      refine lv_iload hx hb dX0_action_21 (lv_at hl 0 rfl) ?_
      refine x_igeN (tgt := 33) hx hb (by omega) dX0_action_23 (by decide) ?_
      refine lv_aload_n hx hb dX0_action_33 rfl (lv_at hl 1 rfl) ?_
      refine x_getT (v := .ref (ad 7)) hx hb hts hown hK hP 7 (by decide) q34 rfl rfl dX0_action_34 ?_
      refine lv_iload hx hb dX0_action_37 (lv_at hl 0 rfl) ?_
      refine x_iald (v := (nI ((q (p_D n q x y z)).2.2 / 16))) hx hb hK hP 6 0 rfl rfl (by omega) (by decide) (hI2.2.1 _ hdl 7 (by decide) (by decide)) dX0_action_39 ?_
      exact W.iret (v := (nI ((q (p_D n q x y z)).2.2 / 16))) hx hb hr (fun t ht hW => ⟨⟨_, ((n, q, fb), (rb, pt1, co1, rc1, cf1, rf1, fi1, se1)), rfl, ⟨by rw [o_act_y q fb hx1 hy1 hz1]; unfold p_act; rw [if_pos hdl], hI2⟩, by rw [ht]; exact hP, va_K.moved hW.alike hK, hD⟩, hS.F ht⟩) hS.2.2 dX0_action_40
    · have hDn : p_D n q x y z = n := by omega
      rw [hDn, p_cd_n] at e1
      subst e1
      refine lv_istore (lv' := [(4, .int (-1)), (0, .ref (ad 0)), (1, .int (nI x)), (2, .int (nI y)), (3, .int (nI z))]) hx hb dX0_action_19 hl (by decide) rfl (fun ls hl => ?_)
      refine lv_iload hx hb dX0_action_21 (lv_at hl 0 rfl) ?_
      refine lv_if_ge (tgt := 33) hx hb dX0_action_23 (by decide) (fun c9 => absurd c9 (by decide)) (fun _ => ?_)
      refine lv_aload_n hx hb dX0_action_26 rfl (lv_at hl 1 rfl) ?_
      refine x_getT (v := .int (nI fb)) hx hb hts hown hK hP 1 (by decide) q28 rfl rfl dX0_action_27 ?_
      refine lv_goto (tgt := 40) hx hb dX0_action_30 (by decide) ?_
      exact W.iret (v := (nI fb)) hx hb hr (fun t ht hW => ⟨⟨_, ((n, q, fb), (rb, pt1, co1, rc1, cf1, rf1, fi1, se1)), rfl, ⟨by rw [o_act_y q fb hx1 hy1 hz1]; unfold p_act; rw [if_neg hdl], hI2⟩, by rw [ht]; exact hP, va_K.moved hW.alike hK, hD⟩, hS.F ht⟩) hS.2.2 dX0_action_40
  · refine lv_if_ne (tgt := 12) hx hb dX0_action_6 (by decide) (fun c9 => absurd (by decide) c9) (fun _ => ?_)
    refine lv_bipush (v := -2) hx hb dX0_action_9 (by decide) ?_
    exact W.iret (v := (-2)) hx hb hr (fun t ht hW => ⟨⟨_, ((n, q, fb), (ra, pt, co, rc, cf, rf, fi, se)), rfl, ⟨(o_act_n q fb hno).symm, hI⟩, by rw [ht]; exact hP, va_K.moved hW.alike hK, hD⟩, hS.F ht⟩) hS.2.2 dX0_action_11
end
section
set_option maxHeartbeats 4000000 in
set_option maxRecDepth 100000 in
/-- decided -/
theorem m0_decided (l : Launch) (dC : Nat → ClassId) (dI : Nat → Nat → Nat) (ad : Nat → Nat) (cI cB : ClassId) (sz : Nat) (n fb : Nat) (q : Nat → pV) (ra : Nat → Nat → Int32) (pt co rc : Int32) (cf rf fi se : Nat → Int32) (a : Int32) (hI : p_IT n q fb ra pt co rc cf rf fi se) : Met l yX0_decided (ws_ yX0_decided cX0_decided 5 (some .int)) { frames := 3, cells := 0, slots := 0, locals := 69 } (va_Pc [.ref (ad 0), .int a] (PreW (dC, dI) (tyT cI cB) (WA ad cI cB (nI n) (nI fb) (ra 2) (ra 3) (ra 4) (ra 5) (ra 6) (ra 7) pt co rc cf rf fi se) sz)) (va_Qi (fun (r : Int32) (u : pS × pR) => (r, u.1) = o_ded n q fb a ∧ p_ITr u.1.1 u.1.2.1 u.1.2.2 u.2) (fun (u : pS × pR) => PosW (dC, dI) (tyT cI cB) (va_A (WA ad cI cB (nI n) (nI fb) (ra 2) (ra 3) (ra 4) (ra 5) (ra 6) (ra 7) pt co rc cf rf fi se) sz) (WTr ad cI cB (nI u.1.1) (nI u.1.2.2) u.2)) (va_A (WA ad cI cB (nI n) (nI fb) (ra 2) (ra 3) (ra 4) (ra 5) (ra 6) (ra 7) pt co rc cf rf fi se) sz)) 0 0 (va_A (WA ad cI cB (nI n) (nI fb) (ra 2) (ra 3) (ra 4) (ra 5) (ra 6) (ra 7) pt co rc cf rf fi se) sz) := by
  refine Met.ofW (cc := cX0_decided) (maxL := 5) (ret := (some .int)) (by decide) rfl ?_
  intro p e s m args below meth c s₁ B hml hv
  obtain ⟨rfl, hsz, hP, hK, hD0⟩ := hv
  have hx := B.exec
  have hb := B.bytes
  have hr := B.returns
  have hts := atoms_spec (ws := (ws_ yX0_decided cX0_decided 5 (some .int))) B.pre
  have hts : ∀ w ∈ lw_all, w.before _ s = true := fun w h => hts w (List.mem_cons_of_mem _ h)
  have hown : s.vm.findClass RX0 = some m.cls := findClass_of_methodNamed B.named
  have hlocks := B.notSynchronized
  subst hsz
  have hD := hD0.self (sz := s.heap.size)
  generalize hAe : va_A (WA ad cI cB (nI n) (nI fb) (ra 2) (ra 3) (ra 4) (ra 5) (ra 6) (ra 7) pt co rc cf rf fi se) s.heap.size = A at hD ⊢
  have hA : ∀ q : Nat, s.heap.size ≤ q → A q := fun q h => by rw [← hAe]; exact Or.inr h
  have hS : va_S A s.heap s.heap [] := va_S.rf
  have hP : va_P (dC, dI) vwCl (WA ad cI cB (nI n) (nI fb) (ra 2) (ra 3) (ra 4) (ra 5) (ra 6) (ra 7) pt co rc cf rf fi se) s.heap := hP
  have hl := lv_entry ([.ref (ad 0), .int a]) (n := 5) (Nat.le_of_ble_eq_true rfl)
  rw [lg_entry_eq]
  generalize (lg_sl ([.ref (ad 0), .int a]) ++ List.replicate (5 - (lg_sl ([.ref (ad 0), .int a])).length) Slot.unset).toArray = ls at hl ⊢
  have hl : lv_has ls 5 [(0, .ref (ad 0)), (1, .int a)] := hl
  have hn := hI.1.1
  have L16 : ∀ (k : Nat), k ≤ n → a = p_cd n k → ∀ (ls : Array Slot), lv_has ls 5 [(0, .ref (ad 0)), (1, .int a)] → W p l e (headSpec (ws_ yX0_decided cX0_decided 5 (some .int)) { frames := 3, cells := 0, slots := 0, locals := 69 }).room s m ([.ref (ad 0), .int a] : List Value).toArray below meth c s.heap [] 0 0 (MQ below (va_Qi (fun (r : Int32) (u : pS × pR) => (r, u.1) = o_ded n q fb a ∧ p_ITr u.1.1 u.1.2.1 u.1.2.2 u.2) (fun (u : pS × pR) => PosW (dC, dI) (tyT cI cB) A (WTr ad cI cB (nI u.1.1) (nI u.1.2.2) u.2)) A) ([.ref (ad 0), .int a] : List Value).toArray s 0 0 A) (F0 m 16 ls []) := by
    intro k hk ha ls hl
    refine lv_aload_n hx hb dX0_decided_16 rfl (lv_at hl 0 rfl) ?_
    refine x_callv (va_runV (As := []) (rest := []) ⟨hx, hb, hml, hown, hts⟩ (m0_paint l dC dI ad cI cB s.heap.size n fb q ra pt co rc cf rf fi se hI) (cwV 0 hts (lw_V q110 q112 qs3 q17 q113) rfl rfl rfl (by decide +kernel) ⟨Nat.le_of_ble_eq_true rfl, Nat.le_of_ble_eq_true rfl⟩) (x_preV (ci := 0) (q0 := 0) hK hP hD rfl rfl) rfl rfl hl.1 rfl (lv_room (Nat.le_of_ble_eq_true rfl)) dX0_decided_17 ⟨Nat.le_refl _, Nat.le_refl _⟩) hD hS hA (fun u H locs hu hP hD hS => ?_)
    obtain ⟨co1, rc1, cf1, rf1, fi1, se1⟩ := u
    obtain ⟨C, R, g, h, hE, hBd⟩ := hu
    have hE : p_Ed n q C R g h co1 rc1 cf1 rf1 := hE
    have hBd : p_Bd n q C R g h fi1 se1 := hBd
    obtain ⟨e1, e2, -⟩ := id hE
    subst e1
    subst e2
    have hC25 := hE.2.2.1.2.1
    have hR25 := hE.2.2.2.1.2.1
    have hcf := hE.2.2.2.2.1
    have hrf := hE.2.2.2.2.2
    have hP : va_P (dC, dI) vwCl (WA ad cI cB (nI n) (nI fb) (ra 2) (ra 3) (ra 4) (ra 5) (ra 6) (ra 7) (nI 1) (nI C) (nI R) cf1 rf1 fi1 se1) H := hP
    have hD : va_D A (WA ad cI cB (nI n) (nI fb) (ra 2) (ra 3) (ra 4) (ra 5) (ra 6) (ra 7) (nI 1) (nI C) (nI R) cf1 rf1 fi1 se1) := hD
    refine lv_iconst (v := (nI 0)) hx hb dX0_decided_20 (by decide) ?_
    refine lv_istore_n (lv' := [(2, .int (nI 0)), (0, .ref (ad 0)), (1, .int a)]) hx hb dX0_decided_21 rfl hl (by decide) rfl (fun ls hl => ?_)
    refine lv_iconst (v := (nI 0)) hx hb dX0_decided_22 (by decide) ?_
    refine lv_istore_n (lv' := [(3, .int (nI 0)), (2, .int (nI 0)), (0, .ref (ad 0)), (1, .int a)]) hx hb dX0_decided_23 rfl hl (by decide) rfl (fun ls hl => ?_)
    have loop : ∀ (f : Nat) (c1 : Nat), c1 ≤ C → C < c1 + f → ∀ (H : Heap) (locs : List Loc) (ls : Array Slot), va_P (dC, dI) vwCl (WA ad cI cB (nI n) (nI fb) (ra 2) (ra 3) (ra 4) (ra 5) (ra 6) (ra 7) (nI 1) (nI C) (nI R) cf1 rf1 fi1 se1) H → va_D A (WA ad cI cB (nI n) (nI fb) (ra 2) (ra 3) (ra 4) (ra 5) (ra 6) (ra 7) (nI 1) (nI C) (nI R) cf1 rf1 fi1 se1) → va_S A s.heap H locs → lv_has ls 5 [(0, .ref (ad 0)), (1, .int a), (2, .int (nI (p_S2 n q g h k R c1))), (3, .int (nI c1))] → W p l e (headSpec (ws_ yX0_decided cX0_decided 5 (some .int)) { frames := 3, cells := 0, slots := 0, locals := 69 }).room s m ([.ref (ad 0), .int a] : List Value).toArray below meth c H locs 0 0 (MQ below (va_Qi (fun (r : Int32) (u : pS × pR) => (r, u.1) = o_ded n q fb a ∧ p_ITr u.1.1 u.1.2.1 u.1.2.2 u.2) (fun (u : pS × pR) => PosW (dC, dI) (tyT cI cB) A (WTr ad cI cB (nI u.1.1) (nI u.1.2.2) u.2)) A) ([.ref (ad 0), .int a] : List Value).toArray s 0 0 A) (F0 m 24 ls []) := by
      intro f
      induction f with
      | zero => intros; omega
      | succ f ih =>
        intro c1 h1 h2 H locs ls hP hD hS hl
        refine lv_iload_n hx hb dX0_decided_24 rfl (lv_at hl 3 rfl) ?_
        refine lv_aload_n hx hb dX0_decided_25 rfl (lv_at hl 0 rfl) ?_
        refine x_getT (v := .int (nI C)) hx hb hts hown hK hP 9 (by decide) q36 rfl rfl dX0_decided_26 ?_
        refine x_cge (tgt := 75) hx hb (by omega) (by omega) dX0_decided_29 (by decide) (fun ci => ?_) (fun ci => ?_)
        · have ec : c1 = C := by omega
          rw [ec, p_S2_end hE.2.2.1 hE.2.2.2.1 k] at hl
          refine lv_iload_n hx hb dX0_decided_75 rfl (lv_at hl 2 rfl) ?_
          exact W.iret (v := (nI (p_N n q k))) hx hb hr (fun t ht hW => ⟨⟨_, ((n, q, fb), (ra, nI 1, nI C, nI R, cf1, rf1, fi1, se1)), rfl, ⟨by rw [ha, o_ded_y q fb hn hk], ⟨hI.1, hI.2.1, Or.inr ⟨rfl, C, R, g, h, hE, hBd⟩⟩⟩, by rw [ht]; exact hP, va_K.moved hW.alike hK, hD⟩, hS.F ht⟩) hS.2.2 dX0_decided_76
        · refine lv_iconst (v := (nI 0)) hx hb dX0_decided_32 (by decide) ?_
          refine lv_istore (lv' := [(4, .int (nI 0)), (0, .ref (ad 0)), (1, .int a), (2, .int (nI (p_S2 n q g h k R c1))), (3, .int (nI c1))]) hx hb dX0_decided_33 hl (by decide) rfl (fun ls hl => ?_)
          have loop2 : ∀ (f2 : Nat) (r1 : Nat), r1 ≤ R → R < r1 + f2 → ∀ (H : Heap) (locs : List Loc) (ls : Array Slot), va_P (dC, dI) vwCl (WA ad cI cB (nI n) (nI fb) (ra 2) (ra 3) (ra 4) (ra 5) (ra 6) (ra 7) (nI 1) (nI C) (nI R) cf1 rf1 fi1 se1) H → va_D A (WA ad cI cB (nI n) (nI fb) (ra 2) (ra 3) (ra 4) (ra 5) (ra 6) (ra 7) (nI 1) (nI C) (nI R) cf1 rf1 fi1 se1) → va_S A s.heap H locs → lv_has ls 5 [(0, .ref (ad 0)), (1, .int a), (2, .int (nI (p_S2 n q g h k R c1 + p_S1 n q g h k c1 r1))), (3, .int (nI c1)), (4, .int (nI r1))] → W p l e (headSpec (ws_ yX0_decided cX0_decided 5 (some .int)) { frames := 3, cells := 0, slots := 0, locals := 69 }).room s m ([.ref (ad 0), .int a] : List Value).toArray below meth c H locs 0 0 (MQ below (va_Qi (fun (r : Int32) (u : pS × pR) => (r, u.1) = o_ded n q fb a ∧ p_ITr u.1.1 u.1.2.1 u.1.2.2 u.2) (fun (u : pS × pR) => PosW (dC, dI) (tyT cI cB) A (WTr ad cI cB (nI u.1.1) (nI u.1.2.2) u.2)) A) ([.ref (ad 0), .int a] : List Value).toArray s 0 0 A) (F0 m 35 ls []) := by
            intro f2
            induction f2 with
            | zero => intros; omega
            | succ f2 ih2 =>
              intro r1 k1 k2 H locs ls hP hD hS hl
              refine lv_iload hx hb dX0_decided_35 (lv_at hl 4 rfl) ?_
              refine lv_aload_n hx hb dX0_decided_37 rfl (lv_at hl 0 rfl) ?_
              refine x_getT (v := .int (nI R)) hx hb hts hown hK hP 10 (by decide) q37 rfl rfl dX0_decided_38 ?_
              refine x_cge (tgt := 69) hx hb (by omega) (by omega) dX0_decided_41 (by decide) (fun cj => ?_) (fun cj => ?_)
              · have er : r1 = R := by omega
                rw [er, p_S2_s] at hl
                refine lv_iinc (v := (nI (c1 + 1))) (lv' := [(3, .int (nI (c1 + 1))), (0, .ref (ad 0)), (1, .int a), (2, .int (nI (p_S2 n q g h k R (c1 + 1)))), (4, .int (nI R))]) hx hb dX0_decided_69 hl (k := 3) rfl (x_inc _) (by decide) rfl (fun ls hl => ?_)
                refine lv_goto (tgt := 24) hx hb dX0_decided_72 (by decide) ?_
                exact ih (c1 + 1) (by omega) (by omega) _ _ _ hP hD hS (lv_sub hl [1, 2, 3, 0] rfl)
              · refine lv_iload_n hx hb dX0_decided_44 rfl (lv_at hl 2 rfl) ?_
                refine lv_aload_n hx hb dX0_decided_45 rfl (lv_at hl 0 rfl) ?_
                refine lv_iload_n hx hb dX0_decided_46 rfl (lv_at hl 3 rfl) ?_
                refine lv_iload hx hb dX0_decided_47 (lv_at hl 4 rfl) ?_
                refine lv_iload_n hx hb dX0_decided_49 rfl (lv_at hl 1 rfl) ?_
                refine vp_callSi (W.runV (As := [.int (nI c1), .int (nI r1), .int a]) (rest := [.int (nI (p_S2 n q g h k R c1 + p_S1 n q g h k c1 r1))]) ⟨hx, hb, hml, hown, hts⟩ (m0_fieldsOf l dC dI ad cI cB n fb q ra (nI 1) (nI C) (nI R) cf1 rf1 fi1 se1 C R g h hE hBd hn c1 r1 k a ci cj hk ha) (cwV 3 hts (lw_V q142 q144 qs8 q17 q145) rfl rfl rfl (by decide +kernel) ⟨Nat.le_of_ble_eq_true rfl, Nat.le_of_ble_eq_true rfl⟩) (x_preVR (ci := 0) (q0 := 0) hK hP rfl rfl) rfl rfl hl.1 rfl (lv_room (Nat.le_of_ble_eq_true rfl)) dX0_decided_50 ⟨Nat.le_refl _, Nat.le_refl _⟩) (fun r3 h3 => ?_)
                subst h3
                refine lv_aload_n hx hb dX0_decided_53 rfl (lv_at hl 0 rfl) ?_
                refine lv_iload_n hx hb dX0_decided_54 rfl (lv_at hl 3 rfl) ?_
                refine lv_iload hx hb dX0_decided_55 (lv_at hl 4 rfl) ?_
                refine vp_callSi (W.runV (As := [.int (nI c1), .int (nI r1)]) (rest := [.int (nI (p_FL n q g h k c1 r1 4)), .int (nI (p_S2 n q g h k R c1 + p_S1 n q g h k c1 r1))]) ⟨hx, hb, hml, hown, hts⟩ (m0_packetsOf l dC dI ad cI cB n fb q ra (nI 1) (nI C) (nI R) cf1 rf1 fi1 se1 C R g h hE c1 r1 ci cj) (cwV 2 hts (lw_V q146 q148 qs9 q17 q149) rfl rfl rfl (by decide +kernel) ⟨Nat.le_of_ble_eq_true rfl, Nat.le_of_ble_eq_true rfl⟩) (x_preVR (ci := 0) (q0 := 0) hK hP rfl rfl) rfl rfl hl.1 rfl (lv_room (Nat.le_of_ble_eq_true rfl)) dX0_decided_57 ⟨Nat.le_refl _, Nat.le_refl _⟩) (fun r4 h4 => ?_)
                subst h4
                refine x_mul hx hb dX0_decided_60 ?_
                refine x_add hx hb dX0_decided_61 ?_
                refine x_top (y := (nI (p_S2 n q g h k R c1 + p_S1 n q g h k c1 (r1 + 1)))) (by rw [Nat.add_assoc, p_S1_s]) ?_
                refine lv_istore_n (lv' := [(2, .int (nI (p_S2 n q g h k R c1 + p_S1 n q g h k c1 (r1 + 1)))), (0, .ref (ad 0)), (1, .int a), (3, .int (nI c1)), (4, .int (nI r1))]) hx hb dX0_decided_62 rfl hl (by decide) rfl (fun ls hl => ?_)
                refine lv_iinc (v := (nI (r1 + 1))) (lv' := [(4, .int (nI (r1 + 1))), (2, .int (nI (p_S2 n q g h k R c1 + p_S1 n q g h k c1 (r1 + 1)))), (0, .ref (ad 0)), (1, .int a), (3, .int (nI c1))]) hx hb dX0_decided_63 hl (k := 4) rfl (x_inc _) (by decide) rfl (fun ls hl => ?_)
                refine lv_goto (tgt := 35) hx hb dX0_decided_66 (by decide) ?_
                exact ih2 (r1 + 1) (by omega) (by omega) _ _ _ hP hD hS (lv_sub hl [2, 3, 1, 4, 0] rfl)
          exact loop2 (R + 1) 0 (by omega) (by omega) _ _ _ hP hD hS (lv_sub hl [1, 2, 3, 4, 0] rfl)
    exact loop (C + 1) 0 (by omega) (by omega) _ _ _ hP hD hS (lv_sub hl [2, 3, 1, 0] rfl)
  refine lv_iload_n hx hb dX0_decided_0 rfl (lv_at hl 1 rfl) ?_
  refine lv_iconst (v := -1) hx hb dX0_decided_1 (by decide) ?_
  refine lv_icmp_eq (tgt := 16) hx hb dX0_decided_2 (by decide) (fun c1 => ?_) (fun c1 => ?_)
  · exact L16 n (Nat.le_refl n) (c1.trans (p_cd_n n).symm) _ (lv_sub hl [0, 1] rfl)
  · refine lv_aload_n hx hb dX0_decided_5 rfl (lv_at hl 0 rfl) ?_
    refine lv_iload_n hx hb dX0_decided_6 rfl (lv_at hl 1 rfl) ?_
    refine vp_callSi (W.runV (As := [.int a]) (rest := []) ⟨hx, hb, hml, hown, hts⟩ (m0_isRule l dC dI ad cI cB n (nI fb) ra pt co rc cf rf fi se a hn) (cwV 1 hts (lw_V q87 q89 qs1 q17 q90) rfl rfl rfl (by decide +kernel) ⟨Nat.le_of_ble_eq_true rfl, Nat.le_of_ble_eq_true rfl⟩) (x_preVR (ci := 0) (q0 := 0) hK hP rfl rfl) rfl rfl hl.1 rfl (lv_room (Nat.le_of_ble_eq_true rfl)) dX0_decided_7 ⟨Nat.le_refl _, Nat.le_refl _⟩) (fun r1 h1 => ?_)
    rcases h1 with ⟨rfl, k, hk, hak⟩ | ⟨rfl, h1⟩
    · refine lv_if_ne (tgt := 16) hx hb dX0_decided_10 (by decide) (fun _ => ?_) (fun c9 => absurd c9 (by decide))
      exact L16 k (by omega) (hak.trans (p_cd_lt hk).symm) _ (lv_sub hl [0, 1] rfl)
    · refine lv_if_ne (tgt := 16) hx hb dX0_decided_10 (by decide) (fun c9 => absurd (by decide) c9) (fun _ => ?_)
      refine lv_bipush (v := -2) hx hb dX0_decided_13 (by decide) ?_
      exact W.iret (v := (-2)) hx hb hr (fun t ht hW => ⟨⟨_, ((n, q, fb), (ra, pt, co, rc, cf, rf, fi, se)), rfl, ⟨(o_ded_n q fb hn c1 h1).symm, hI⟩, by rw [ht]; exact hP, va_K.moved hW.alike hK, hD⟩, hS.F ht⟩) hS.2.2 dX0_decided_15
end
section
set_option maxHeartbeats 4000000 in
set_option maxRecDepth 100000 in
/-- having -/
theorem m0_having (l : Launch) (dC : Nat → ClassId) (dI : Nat → Nat → Nat) (ad : Nat → Nat) (cI cB : ClassId) (sz : Nat) (n fb : Nat) (q : Nat → pV) (ra : Nat → Nat → Int32) (pt co rc : Int32) (cf rf fi se : Nat → Int32) (a : Int32) (hI : p_IT n q fb ra pt co rc cf rf fi se) : Met l yX0_having (ws_ yX0_having cX0_having 5 (some .int)) { frames := 4, cells := 0, slots := 0, locals := 93 } (va_Pc [.ref (ad 0), .int a] (PreW (dC, dI) (tyT cI cB) (WA ad cI cB (nI n) (nI fb) (ra 2) (ra 3) (ra 4) (ra 5) (ra 6) (ra 7) pt co rc cf rf fi se) sz)) (va_Qi (fun (r : Int32) (u : pS × pR) => (r, u.1) = o_hav n q fb a ∧ p_ITr u.1.1 u.1.2.1 u.1.2.2 u.2) (fun (u : pS × pR) => PosW (dC, dI) (tyT cI cB) (va_A (WA ad cI cB (nI n) (nI fb) (ra 2) (ra 3) (ra 4) (ra 5) (ra 6) (ra 7) pt co rc cf rf fi se) sz) (WTr ad cI cB (nI u.1.1) (nI u.1.2.2) u.2)) (va_A (WA ad cI cB (nI n) (nI fb) (ra 2) (ra 3) (ra 4) (ra 5) (ra 6) (ra 7) pt co rc cf rf fi se) sz)) 0 0 (va_A (WA ad cI cB (nI n) (nI fb) (ra 2) (ra 3) (ra 4) (ra 5) (ra 6) (ra 7) pt co rc cf rf fi se) sz) := by
  refine Met.ofW (cc := cX0_having) (maxL := 5) (ret := (some .int)) (by decide) rfl ?_
  intro p e s m args below meth c s₁ B hml hv
  obtain ⟨rfl, hsz, hP, hK, hD0⟩ := hv
  have hx := B.exec
  have hb := B.bytes
  have hr := B.returns
  have hts := atoms_spec (ws := (ws_ yX0_having cX0_having 5 (some .int))) B.pre
  have hts : ∀ w ∈ lw_all, w.before _ s = true := fun w h => hts w (List.mem_cons_of_mem _ h)
  have hown : s.vm.findClass RX0 = some m.cls := findClass_of_methodNamed B.named
  have hlocks := B.notSynchronized
  subst hsz
  have hD := hD0.self (sz := s.heap.size)
  generalize hAe : va_A (WA ad cI cB (nI n) (nI fb) (ra 2) (ra 3) (ra 4) (ra 5) (ra 6) (ra 7) pt co rc cf rf fi se) s.heap.size = A at hD ⊢
  have hA : ∀ q : Nat, s.heap.size ≤ q → A q := fun q h => by rw [← hAe]; exact Or.inr h
  have hS : va_S A s.heap s.heap [] := va_S.rf
  have hP : va_P (dC, dI) vwCl (WA ad cI cB (nI n) (nI fb) (ra 2) (ra 3) (ra 4) (ra 5) (ra 6) (ra 7) pt co rc cf rf fi se) s.heap := hP
  have hl := lv_entry ([.ref (ad 0), .int a]) (n := 5) (Nat.le_of_ble_eq_true rfl)
  rw [lg_entry_eq]
  generalize (lg_sl ([.ref (ad 0), .int a]) ++ List.replicate (5 - (lg_sl ([.ref (ad 0), .int a])).length) Slot.unset).toArray = ls at hl ⊢
  have hl : lv_has ls 5 [(0, .ref (ad 0)), (1, .int a)] := hl
  have hn := hI.1.1
  refine lv_iconst (v := (nI 0)) hx hb dX0_having_0 (by decide) ?_
  refine lv_istore_n (lv' := [(2, .int (nI 0)), (0, .ref (ad 0)), (1, .int a)]) hx hb dX0_having_1 rfl hl (by decide) rfl (fun ls hl => ?_)
  refine lv_iconst (v := -1) hx hb dX0_having_2 (by decide) ?_
  refine lv_istore_n (lv' := [(3, .int (-1)), (2, .int (nI 0)), (0, .ref (ad 0)), (1, .int a)]) hx hb dX0_having_3 rfl hl (by decide) rfl (fun ls hl => ?_)
  have e0 : (-1 : Int32) = nI 0 - nI 1 := by decide
  rw [e0] at hl
  have loop : ∀ (f : Nat) (k : Nat) (ra1 : Nat → Nat → Int32) (pt1 co1 rc1 : Int32) (cf1 rf1 fi1 se1 : Nat → Int32), k ≤ n + 1 → n + 1 < k + f → p_IT n q fb ra1 pt1 co1 rc1 cf1 rf1 fi1 se1 → ∀ (H : Heap) (locs : List Loc) (ls : Array Slot), va_P (dC, dI) vwCl (WA ad cI cB (nI n) (nI fb) (ra1 2) (ra1 3) (ra1 4) (ra1 5) (ra1 6) (ra1 7) pt1 co1 rc1 cf1 rf1 fi1 se1) H → va_D A (WA ad cI cB (nI n) (nI fb) (ra1 2) (ra1 3) (ra1 4) (ra1 5) (ra1 6) (ra1 7) pt1 co1 rc1 cf1 rf1 fi1 se1) → va_S A s.heap H locs → lv_has ls 5 [(0, .ref (ad 0)), (1, .int a), (2, .int (nI (p_HV n q fb (a.toBitVec.toNat % 4) k))), (3, .int ((nI k) - (nI 1)))] → W p l e (headSpec (ws_ yX0_having cX0_having 5 (some .int)) { frames := 4, cells := 0, slots := 0, locals := 93 }).room s m ([.ref (ad 0), .int a] : List Value).toArray below meth c H locs 0 0 (MQ below (va_Qi (fun (r : Int32) (u : pS × pR) => (r, u.1) = o_hav n q fb a ∧ p_ITr u.1.1 u.1.2.1 u.1.2.2 u.2) (fun (u : pS × pR) => PosW (dC, dI) (tyT cI cB) A (WTr ad cI cB (nI u.1.1) (nI u.1.2.2) u.2)) A) ([.ref (ad 0), .int a] : List Value).toArray s 0 0 A) (F0 m 4 ls []) := by
    intro f
    induction f with
    | zero => intros; omega
    | succ f ih =>
      intro k ra1 pt1 co1 rc1 cf1 rf1 fi1 se1 h1 h2 hI1 H locs ls hP hD hS hl
      refine lv_iload_n hx hb dX0_having_4 rfl (lv_at hl 3 rfl) ?_
      refine lv_aload_n hx hb dX0_having_5 rfl (lv_at hl 0 rfl) ?_
      refine x_getT (v := .int (nI n)) hx hb hts hown hK hP 0 (by decide) q27 rfl rfl dX0_having_6 ?_
      refine lv_icmp_ge (tgt := 53) hx hb dX0_having_9 (by decide) (fun ci => ?_) (fun ci => ?_)
      · have ci := (x_m1ge hn (by omega)).mp ci
        have ek : k = n + 1 := by omega
        refine lv_iload_n hx hb dX0_having_53 rfl (lv_at hl 2 rfl) ?_
        exact W.iret (v := (nI (p_HV n q fb (a.toBitVec.toNat % 4) k))) hx hb hr (fun t ht hW => ⟨⟨_, ((n, q, fb), (ra1, pt1, co1, rc1, cf1, rf1, fi1, se1)), rfl, ⟨by rw [ek, p_HV_end]; rfl, hI1⟩, by rw [ht]; exact hP, va_K.moved hW.alike hK, hD⟩, hS.F ht⟩) hS.2.2 dX0_having_54
      · have ci : k < n + 1 := Nat.lt_of_not_le fun z => ci ((x_m1ge hn (by omega)).mpr z)
        have L29 : ∀ (pv : Int32) (j : Nat), j ≤ n → pv = p_cd n j → j = h_ix n k → pv + Int32.ofInt 1 = nI (k + 1) - nI 1 → ∀ (H : Heap) (locs : List Loc) (ls : Array Slot), va_P (dC, dI) vwCl (WA ad cI cB (nI n) (nI fb) (ra1 2) (ra1 3) (ra1 4) (ra1 5) (ra1 6) (ra1 7) pt1 co1 rc1 cf1 rf1 fi1 se1) H → va_D A (WA ad cI cB (nI n) (nI fb) (ra1 2) (ra1 3) (ra1 4) (ra1 5) (ra1 6) (ra1 7) pt1 co1 rc1 cf1 rf1 fi1 se1) → va_S A s.heap H locs → lv_has ls 5 [(0, .ref (ad 0)), (1, .int a), (2, .int (nI (p_HV n q fb (a.toBitVec.toNat % 4) k))), (3, .int pv)] → W p l e (headSpec (ws_ yX0_having cX0_having 5 (some .int)) { frames := 4, cells := 0, slots := 0, locals := 93 }).room s m ([.ref (ad 0), .int a] : List Value).toArray below meth c H locs 0 0 (MQ below (va_Qi (fun (r : Int32) (u : pS × pR) => (r, u.1) = o_hav n q fb a ∧ p_ITr u.1.1 u.1.2.1 u.1.2.2 u.2) (fun (u : pS × pR) => PosW (dC, dI) (tyT cI cB) A (WTr ad cI cB (nI u.1.1) (nI u.1.2.2) u.2)) A) ([.ref (ad 0), .int a] : List Value).toArray s 0 0 A) (F0 m 29 ls [.int (nI (p_act n q fb j))]) := by
          intro pv j hj hpv hjx hinc H locs ls hP hD hS hl
          have hal := p_act_lt hI.1 j
          refine lv_istore (lv' := [(4, .int (nI (p_act n q fb j))), (0, .ref (ad 0)), (1, .int a), (2, .int (nI (p_HV n q fb (a.toBitVec.toNat % 4) k))), (3, .int pv)]) hx hb dX0_having_29 hl (by decide) rfl (fun ls hl => ?_)
          refine lv_iload hx hb dX0_having_31 (lv_at hl 0 rfl) ?_
          refine lv_iload_n hx hb dX0_having_33 rfl (lv_at hl 2 rfl) ?_
          refine lv_iconst (v := (nI 3)) hx hb dX0_having_34 (by decide) ?_
          refine lv_iand hx hb dX0_having_35 (x_top (pk_and a 2 (by decide)) ?_)
          refine x_cne (tgt := 47) hx hb (by omega) (by omega) dX0_having_36 (by decide) (fun cd => ?_) (fun cd => ?_)
          · rw [p_HV_n hjx cd] at hl
            refine lv_iinc (v := ((nI (k + 1)) - (nI 1))) (lv' := [(3, .int ((nI (k + 1)) - (nI 1))), (4, .int (nI (p_act n q fb j))), (0, .ref (ad 0)), (1, .int a), (2, .int (nI (p_HV n q fb (a.toBitVec.toNat % 4) (k + 1))))]) hx hb dX0_having_47 hl (k := 4) rfl (hinc) (by decide) rfl (fun ls hl => ?_)
            refine lv_goto (tgt := 4) hx hb dX0_having_50 (by decide) ?_
            exact ih (k + 1) ra1 pt1 co1 rc1 cf1 rf1 fi1 se1 (by omega) (by omega) hI1 _ _ _ hP hD hS (lv_sub hl [2, 3, 4, 0] rfl)
          · refine lv_iload_n hx hb dX0_having_39 rfl (lv_at hl 3 rfl) ?_
            refine lv_aload_n hx hb dX0_having_40 rfl (lv_at hl 1 rfl) ?_
            refine lv_iload_n hx hb dX0_having_41 rfl (lv_at hl 4 rfl) ?_
            refine x_calli (va_runV (As := [.int pv]) (rest := [.int (nI (p_HV n q fb (a.toBitVec.toNat % 4) k))]) ⟨hx, hb, hml, hown, hts⟩ (m0_decided l dC dI ad cI cB H.size n fb q ra1 pt1 co1 rc1 cf1 rf1 fi1 se1 pv hI1) (cwV 1 hts (lw_V q154 q139 q140 q17 q141) rfl rfl rfl (by decide +kernel) ⟨Nat.le_of_ble_eq_true rfl, Nat.le_of_ble_eq_true rfl⟩) (x_preV (ci := 0) (q0 := 0) hK hP hD rfl rfl) rfl rfl hl.1 rfl (lv_room (Nat.le_of_ble_eq_true rfl)) dX0_having_42 ⟨Nat.le_refl _, Nat.le_refl _⟩) hD hS hA (fun r2 u H locs hu hP hD hS => ?_)
            obtain ⟨u1, ra2, pt2, co2, rc2, cf2, rf2, fi2, se2⟩ := u
            have ho : o_ded n q fb pv = (nI (p_N n q j), (n, q, fb)) := by rw [hpv]; exact o_ded_y q fb hn hj
            obtain ⟨e1, e2⟩ := Prod.mk.inj (hu.1.trans ho)
            dsimp only at e2
            subst e2
            subst e1
            have hI2 : p_IT n q fb ra2 pt2 co2 rc2 cf2 rf2 fi2 se2 := hu.2
            have hP : va_P (dC, dI) vwCl (WA ad cI cB (nI n) (nI fb) (ra2 2) (ra2 3) (ra2 4) (ra2 5) (ra2 6) (ra2 7) pt2 co2 rc2 cf2 rf2 fi2 se2) H := hP
            have hD : va_D A (WA ad cI cB (nI n) (nI fb) (ra2 2) (ra2 3) (ra2 4) (ra2 5) (ra2 6) (ra2 7) pt2 co2 rc2 cf2 rf2 fi2 se2) := hD
            refine x_add hx hb dX0_having_45 ?_
            refine x_top (y := (nI (p_HV n q fb (a.toBitVec.toNat % 4) (k + 1)))) (by rw [p_HV_y hjx cd]) ?_
            refine lv_istore_n (lv' := [(2, .int (nI (p_HV n q fb (a.toBitVec.toNat % 4) (k + 1)))), (4, .int (nI (p_act n q fb j))), (0, .ref (ad 0)), (1, .int a), (3, .int pv)]) hx hb dX0_having_46 rfl hl (by decide) rfl (fun ls hl => ?_)
            refine lv_iinc (v := ((nI (k + 1)) - (nI 1))) (lv' := [(3, .int ((nI (k + 1)) - (nI 1))), (2, .int (nI (p_HV n q fb (a.toBitVec.toNat % 4) (k + 1)))), (4, .int (nI (p_act n q fb j))), (0, .ref (ad 0)), (1, .int a)]) hx hb dX0_having_47 hl (k := 4) rfl (hinc) (by decide) rfl (fun ls hl => ?_)
            refine lv_goto (tgt := 4) hx hb dX0_having_50 (by decide) ?_
            exact ih (k + 1) ra2 pt2 co2 rc2 cf2 rf2 fi2 se2 (by omega) (by omega) hI2 _ _ _ hP hD hS (lv_sub hl [3, 4, 1, 0] rfl)
        by_cases hk0 : k = 0
        · have e3 : nI k - nI 1 = -1 := by rw [hk0]; exact e0.symm
          rw [e3] at hl
          refine lv_iload_n hx hb dX0_having_12 rfl (lv_at hl 3 rfl) ?_
          refine lv_if_ge (tgt := 23) hx hb dX0_having_13 (by decide) (fun c9 => absurd c9 (by decide)) (fun _ => ?_)
          refine lv_aload_n hx hb dX0_having_16 rfl (lv_at hl 0 rfl) ?_
          refine x_getT (v := .int (nI fb)) hx hb hts hown hK hP 1 (by decide) q28 rfl rfl dX0_having_17 ?_
          refine lv_goto (tgt := 29) hx hb dX0_having_20 (by decide) ?_
          refine x_top (y := (nI (p_act n q fb n))) (by unfold p_act; rw [if_neg (Nat.lt_irrefl n)]) ?_
          exact L29 (-1) n (Nat.le_refl n) (p_cd_n n).symm (by rw [hk0]; rfl) (by rw [hk0]; decide) _ _ _ hP hD hS (lv_sub hl [0, 1, 2, 3] rfl)
        · obtain ⟨j, rfl⟩ : ∃ j, k = j + 1 := ⟨k - 1, by omega⟩
          rw [x_m1s j] at hl
          refine lv_iload_n hx hb dX0_having_12 rfl (lv_at hl 3 rfl) ?_
          refine x_igeN (tgt := 23) hx hb (by omega) dX0_having_13 (by decide) ?_
          refine lv_aload_n hx hb dX0_having_23 rfl (lv_at hl 0 rfl) ?_
          refine x_getT (v := .ref (ad 7)) hx hb hts hown hK hP 7 (by decide) q34 rfl rfl dX0_having_24 ?_
          refine lv_iload_n hx hb dX0_having_27 rfl (lv_at hl 3 rfl) ?_
          refine x_iald (v := (nI ((q j).2.2 / 16))) hx hb hK hP 6 0 rfl rfl (by omega) (by decide) (hI1.2.1 j (by omega) 7 (by decide) (by decide)) dX0_having_28 ?_
          refine x_top (y := (nI (p_act n q fb j))) (by unfold p_act; rw [if_pos (show j < n by omega)]) ?_
          exact L29 (nI j) j (by omega) (p_cd_lt (by omega)).symm rfl (x_ii j) _ _ _ hP hD hS (lv_sub hl [0, 1, 2, 3] rfl)
  exact loop (n + 2) 0 ra pt co rc cf rf fi se (by omega) (by omega) hI _ _ _ hP hD hS (lv_sub hl [2, 3, 1, 0] rfl)
end
section
set_option maxHeartbeats 4000000 in
set_option maxRecDepth 100000 in
/-- use -/
theorem m0_use (l : Launch) (dC : Nat → ClassId) (dI : Nat → Nat → Nat) (ad : Nat → Nat) (cI cB : ClassId) (sz : Nat) (n fb : Nat) (q : Nat → pV) (ra : Nat → Nat → Int32) (pt co rc : Int32) (cf rf fi se : Nat → Int32) (a : Int32) (hI : p_IT n q fb ra pt co rc cf rf fi se) : Met l yX0_use (ws_ yX0_use cX0_use 6 (some .int)) { frames := 3, cells := 0, slots := 0, locals := 69 } (va_Pc [.ref (ad 0), .int a] (PreW (dC, dI) (tyT cI cB) (WA ad cI cB (nI n) (nI fb) (ra 2) (ra 3) (ra 4) (ra 5) (ra 6) (ra 7) pt co rc cf rf fi se) sz)) (va_Qi (fun (r : Int32) (u : pS × pR) => (r, u.1) = o_use n q fb a ∧ p_ITr u.1.1 u.1.2.1 u.1.2.2 u.2) (fun (u : pS × pR) => PosW (dC, dI) (tyT cI cB) (va_A (WA ad cI cB (nI n) (nI fb) (ra 2) (ra 3) (ra 4) (ra 5) (ra 6) (ra 7) pt co rc cf rf fi se) sz) (WTr ad cI cB (nI u.1.1) (nI u.1.2.2) u.2)) (va_A (WA ad cI cB (nI n) (nI fb) (ra 2) (ra 3) (ra 4) (ra 5) (ra 6) (ra 7) pt co rc cf rf fi se) sz)) 0 0 (va_A (WA ad cI cB (nI n) (nI fb) (ra 2) (ra 3) (ra 4) (ra 5) (ra 6) (ra 7) pt co rc cf rf fi se) sz) := by
  refine Met.ofW (cc := cX0_use) (maxL := 6) (ret := (some .int)) (by decide) rfl ?_
  intro p e s m args below meth c s₁ B hml hv
  obtain ⟨rfl, hsz, hP, hK, hD0⟩ := hv
  have hx := B.exec
  have hb := B.bytes
  have hr := B.returns
  have hts := atoms_spec (ws := (ws_ yX0_use cX0_use 6 (some .int))) B.pre
  have hts : ∀ w ∈ lw_all, w.before _ s = true := fun w h => hts w (List.mem_cons_of_mem _ h)
  have hown : s.vm.findClass RX0 = some m.cls := findClass_of_methodNamed B.named
  have hlocks := B.notSynchronized
  subst hsz
  have hD := hD0.self (sz := s.heap.size)
  generalize hAe : va_A (WA ad cI cB (nI n) (nI fb) (ra 2) (ra 3) (ra 4) (ra 5) (ra 6) (ra 7) pt co rc cf rf fi se) s.heap.size = A at hD ⊢
  have hA : ∀ q : Nat, s.heap.size ≤ q → A q := fun q h => by rw [← hAe]; exact Or.inr h
  have hS : va_S A s.heap s.heap [] := va_S.rf
  have hP : va_P (dC, dI) vwCl (WA ad cI cB (nI n) (nI fb) (ra 2) (ra 3) (ra 4) (ra 5) (ra 6) (ra 7) pt co rc cf rf fi se) s.heap := hP
  have hl := lv_entry ([.ref (ad 0), .int a]) (n := 6) (Nat.le_of_ble_eq_true rfl)
  rw [lg_entry_eq]
  generalize (lg_sl ([.ref (ad 0), .int a]) ++ List.replicate (6 - (lg_sl ([.ref (ad 0), .int a])).length) Slot.unset).toArray = ls at hl ⊢
  have hl : lv_has ls 6 [(0, .ref (ad 0)), (1, .int a)] := hl
  have hn := hI.1.1
  refine lv_aload_n hx hb dX0_use_0 rfl (lv_at hl 0 rfl) ?_
  refine lv_iload_n hx hb dX0_use_1 rfl (lv_at hl 1 rfl) ?_
  refine vp_callSi (W.runV (As := [.int a]) (rest := []) ⟨hx, hb, hml, hown, hts⟩ (m0_isRule l dC dI ad cI cB n (nI fb) ra pt co rc cf rf fi se a hn) (cwV 1 hts (lw_V q87 q89 qs1 q17 q90) rfl rfl rfl (by decide +kernel) ⟨Nat.le_of_ble_eq_true rfl, Nat.le_of_ble_eq_true rfl⟩) (x_preVR (ci := 0) (q0 := 0) hK hP rfl rfl) rfl rfl hl.1 rfl (lv_room (Nat.le_of_ble_eq_true rfl)) dX0_use_2 ⟨Nat.le_refl _, Nat.le_refl _⟩) (fun r1 h1 => ?_)
  rcases h1 with ⟨rfl, k, hk, rfl⟩ | ⟨rfl, h1⟩
  · refine lv_if_ne (tgt := 11) hx hb dX0_use_5 (by decide) (fun _ => ?_) (fun c9 => absurd c9 (by decide))
    refine lv_aload_n hx hb dX0_use_11 rfl (lv_at hl 0 rfl) ?_
    refine x_callv (va_runV (As := []) (rest := []) ⟨hx, hb, hml, hown, hts⟩ (m0_paint l dC dI ad cI cB s.heap.size n fb q ra pt co rc cf rf fi se hI) (cwV 0 hts (lw_V q110 q112 qs3 q17 q113) rfl rfl rfl (by decide +kernel) ⟨Nat.le_of_ble_eq_true rfl, Nat.le_of_ble_eq_true rfl⟩) (x_preV (ci := 0) (q0 := 0) hK hP hD rfl rfl) rfl rfl hl.1 rfl (lv_room (Nat.le_of_ble_eq_true rfl)) dX0_use_12 ⟨Nat.le_refl _, Nat.le_refl _⟩) hD hS hA (fun u H locs hu hP hD hS => ?_)
    obtain ⟨co1, rc1, cf1, rf1, fi1, se1⟩ := u
    obtain ⟨C, R, g, h, hE, hBd⟩ := hu
    have hE : p_Ed n q C R g h co1 rc1 cf1 rf1 := hE
    have hBd : p_Bd n q C R g h fi1 se1 := hBd
    obtain ⟨e1, e2, -⟩ := id hE
    subst e1
    subst e2
    have hC25 := hE.2.2.1.2.1
    have hR25 := hE.2.2.2.1.2.1
    have hcf := hE.2.2.2.2.1
    have hrf := hE.2.2.2.2.2
    have hP : va_P (dC, dI) vwCl (WA ad cI cB (nI n) (nI fb) (ra 2) (ra 3) (ra 4) (ra 5) (ra 6) (ra 7) (nI 1) (nI C) (nI R) cf1 rf1 fi1 se1) H := hP
    have hD : va_D A (WA ad cI cB (nI n) (nI fb) (ra 2) (ra 3) (ra 4) (ra 5) (ra 6) (ra 7) (nI 1) (nI C) (nI R) cf1 rf1 fi1 se1) := hD
    refine lv_iconst (v := (nI 0)) hx hb dX0_use_15 (by decide) ?_
    refine lv_istore_n (lv' := [(2, .int (nI 0)), (0, .ref (ad 0)), (1, .int (nI k))]) hx hb dX0_use_16 rfl hl (by decide) rfl (fun ls hl => ?_)
    refine lv_iconst (v := (nI 0)) hx hb dX0_use_17 (by decide) ?_
    refine lv_istore_n (lv' := [(3, .int (nI 0)), (2, .int (nI 0)), (0, .ref (ad 0)), (1, .int (nI k))]) hx hb dX0_use_18 rfl hl (by decide) rfl (fun ls hl => ?_)
    refine lv_iconst (v := (nI 0)) hx hb dX0_use_19 (by decide) ?_
    refine lv_istore (lv' := [(4, .int (nI 0)), (3, .int (nI 0)), (2, .int (nI 0)), (0, .ref (ad 0)), (1, .int (nI k))]) hx hb dX0_use_20 hl (by decide) rfl (fun ls hl => ?_)
    have loop : ∀ (f : Nat) (x sm mt : Nat), x ≤ 104 * C → 104 * C < x + f → u_I (u_S n q R g h k) x sm → u_I (u_M n q fb R g h k) x mt → ∀ (H : Heap) (locs : List Loc) (ls : Array Slot), va_P (dC, dI) vwCl (WA ad cI cB (nI n) (nI fb) (ra 2) (ra 3) (ra 4) (ra 5) (ra 6) (ra 7) (nI 1) (nI C) (nI R) cf1 rf1 fi1 se1) H → va_D A (WA ad cI cB (nI n) (nI fb) (ra 2) (ra 3) (ra 4) (ra 5) (ra 6) (ra 7) (nI 1) (nI C) (nI R) cf1 rf1 fi1 se1) → va_S A s.heap H locs → lv_has ls 6 [(0, .ref (ad 0)), (1, .int (nI k)), (2, .int (nI sm)), (3, .int (nI mt)), (4, .int (nI x))] → W p l e (headSpec (ws_ yX0_use cX0_use 6 (some .int)) { frames := 3, cells := 0, slots := 0, locals := 69 }).room s m ([.ref (ad 0), .int (nI k)] : List Value).toArray below meth c H locs 0 0 (MQ below (va_Qi (fun (r : Int32) (u : pS × pR) => (r, u.1) = o_use n q fb (nI k) ∧ p_ITr u.1.1 u.1.2.1 u.1.2.2 u.2) (fun (u : pS × pR) => PosW (dC, dI) (tyT cI cB) A (WTr ad cI cB (nI u.1.1) (nI u.1.2.2) u.2)) A) ([.ref (ad 0), .int (nI k)] : List Value).toArray s 0 0 A) (F0 m 22 ls []) := by
      intro f
      induction f with
      | zero => intros; omega
      | succ f ih =>
        intro x sm mt h1 h2 h3 h4 H locs ls hP hD hS hl
        have hsm := u_I_lt h3
        have hmt := u_I_lt h4
        refine lv_iload hx hb dX0_use_22 (lv_at hl 4 rfl) ?_
        refine lv_bipush (v := (nI 104)) hx hb dX0_use_24 (by decide) ?_
        refine lv_aload_n hx hb dX0_use_26 rfl (lv_at hl 0 rfl) ?_
        refine x_getT (v := .int (nI C)) hx hb hts hown hK hP 9 (by decide) q36 rfl rfl dX0_use_27 ?_
        refine x_mul hx hb dX0_use_30 ?_
        refine x_cge (tgt := 119) hx hb (by omega) (by omega) dX0_use_31 (by decide) (fun ci => ?_) (fun ci => ?_)
        · obtain rfl : x = 104 * C := by omega
          obtain ⟨z1, z2, z3⟩ := u_end hE.2.2.1 hE.2.2.2.1 h3 h4
          refine lv_iload_n hx hb dX0_use_119 rfl (lv_at hl 2 rfl) ?_
          refine x_ine (tgt := 127) hx hb (by omega) dX0_use_120 (by decide) (fun d1 => ?_) (fun d1 => ?_)
          · refine lv_iload_n hx hb dX0_use_127 rfl (lv_at hl 3 rfl) ?_
            refine x_ieq (tgt := 135) hx hb (by omega) dX0_use_128 (by decide) (fun d2 => ?_) (fun d2 => ?_)
            · refine lv_iconst (v := (nI 2)) hx hb dX0_use_135 (by decide) ?_
              exact W.iret (v := (nI 2)) hx hb hr (fun t ht hW => ⟨⟨_, ((n, q, fb), (ra, nI 1, nI C, nI R, cf1, rf1, fi1, se1)), rfl, ⟨by rw [o_use_y q fb hn hk, z3 d1 d2]; rfl, ⟨hI.1, hI.2.1, Or.inr ⟨rfl, C, R, g, h, hE, hBd⟩⟩⟩, by rw [ht]; exact hP, va_K.moved hW.alike hK, hD⟩, hS.F ht⟩) hS.2.2 dX0_use_136
            · refine lv_iconst (v := (nI 0)) hx hb dX0_use_131 (by decide) ?_
              refine lv_goto (tgt := 136) hx hb dX0_use_132 (by decide) ?_
              exact W.iret (v := (nI 0)) hx hb hr (fun t ht hW => ⟨⟨_, ((n, q, fb), (ra, nI 1, nI C, nI R, cf1, rf1, fi1, se1)), rfl, ⟨by rw [o_use_y q fb hn hk, z2 d1 d2]; rfl, ⟨hI.1, hI.2.1, Or.inr ⟨rfl, C, R, g, h, hE, hBd⟩⟩⟩, by rw [ht]; exact hP, va_K.moved hW.alike hK, hD⟩, hS.F ht⟩) hS.2.2 dX0_use_136
          · refine lv_iconst (v := (nI 1)) hx hb dX0_use_123 (by decide) ?_
            refine lv_goto (tgt := 136) hx hb dX0_use_124 (by decide) ?_
            exact W.iret (v := (nI 1)) hx hb hr (fun t ht hW => ⟨⟨_, ((n, q, fb), (ra, nI 1, nI C, nI R, cf1, rf1, fi1, se1)), rfl, ⟨by rw [o_use_y q fb hn hk, z1 d1]; rfl, ⟨hI.1, hI.2.1, Or.inr ⟨rfl, C, R, g, h, hE, hBd⟩⟩⟩, by rw [ht]; exact hP, va_K.moved hW.alike hK, hD⟩, hS.F ht⟩) hS.2.2 dX0_use_136
        · refine lv_iload hx hb dX0_use_34 (lv_at hl 4 rfl) ?_
          refine lv_bipush (v := (nI 104)) hx hb dX0_use_36 (by decide) ?_
          refine x_rem hx hb (by omega) (by decide) (by decide) dX0_use_38 ?_
          refine lv_iconst (v := (nI 4)) hx hb dX0_use_39 (by decide) ?_
          refine lv_aload_n hx hb dX0_use_40 rfl (lv_at hl 0 rfl) ?_
          refine x_getT (v := .int (nI R)) hx hb hts hown hK hP 10 (by decide) q37 rfl rfl dX0_use_41 ?_
          refine x_mul hx hb dX0_use_44 ?_
          refine x_cge (tgt := 113) hx hb (by omega) (by omega) dX0_use_45 (by decide) (fun cr => ?_) (fun cr => ?_)
          · refine lv_iinc (v := (nI (x + 1))) (lv' := [(4, .int (nI (x + 1))), (0, .ref (ad 0)), (1, .int (nI k)), (2, .int (nI sm)), (3, .int (nI mt))]) hx hb dX0_use_113 hl (k := 4) rfl (x_inc _) (by decide) rfl (fun ls hl => ?_)
            refine lv_goto (tgt := 22) hx hb dX0_use_116 (by decide) ?_
            exact ih (x + 1) sm mt (by omega) (by omega) (u_I_no h3 (fun z => absurd z.1 (by omega))) (u_I_no h4 (fun z => (fun z => absurd z.1 (by omega)) z.1)) _ _ _ hP hD hS (lv_sub hl [1, 2, 3, 4, 0] rfl)
          · have hx0 := hBd (x / 104) (x % 104 / 4) (x % 4) (by omega) (by omega) (by omega)
            rw [show 104 * (x / 104) + 4 * (x % 104 / 4) + x % 4 = x by omega] at hx0
            obtain ⟨dd, hdd⟩ : ∃ dd, dd = p_D n q (g (x / 104)) (h (x % 104 / 4)) (x % 4) := ⟨_, rfl⟩
            rw [← hdd] at hx0
            have hj : p_cd n dd = nI k ↔ dd = k := p_cd_eq hn hk (by rw [hdd]; exact p_D_le n q _ _ _)
            refine lv_aload_n hx hb dX0_use_48 rfl (lv_at hl 0 rfl) ?_
            refine x_getT (v := .ref (ad 13)) hx hb hts hown hK hP 13 (by decide) q40 rfl rfl dX0_use_49 ?_
            refine lv_iload hx hb dX0_use_52 (lv_at hl 4 rfl) ?_
            refine x_bald (v := (p_cd n dd)) hx hb hK hP 9 1 rfl rfl (by omega) (by decide) hx0.1 dX0_use_54 ?_
            refine lv_iload_n hx hb dX0_use_55 rfl (lv_at hl 1 rfl) ?_
            refine lv_icmp_ne (tgt := 113) hx hb dX0_use_56 (by decide) (fun cd => ?_) (fun cd => ?_)
            · refine lv_iinc (v := (nI (x + 1))) (lv' := [(4, .int (nI (x + 1))), (0, .ref (ad 0)), (1, .int (nI k)), (2, .int (nI sm)), (3, .int (nI mt))]) hx hb dX0_use_113 hl (k := 4) rfl (x_inc _) (by decide) rfl (fun ls hl => ?_)
              refine lv_goto (tgt := 22) hx hb dX0_use_116 (by decide) ?_
              exact ih (x + 1) sm mt (by omega) (by omega) (u_I_no h3 (fun z => cd (hj.mpr (hdd.trans z.2)))) (u_I_no h4 (fun z => (fun z => cd (hj.mpr (hdd.trans z.2))) z.1)) _ _ _ hP hD hS (lv_sub hl [1, 2, 3, 4, 0] rfl)
            · obtain rfl : dd = k := hj.mp cd
              have hUS : u_S n q R g h dd x := ⟨cr, hdd.symm⟩
              obtain ⟨ee, hee⟩ : ∃ ee, ee = p_D2 n q dd (g (x / 104)) (h (x % 104 / 4)) (x % 4) := ⟨_, rfl⟩
              rw [← hee] at hx0
              have hel : ee ≤ n := by rw [hee]; exact p_D2_le n q _ _ _ _
              have L88 : ∀ (H : Heap) (locs : List Loc) (ls : Array Slot), va_P (dC, dI) vwCl (WA ad cI cB (nI n) (nI fb) (ra 2) (ra 3) (ra 4) (ra 5) (ra 6) (ra 7) (nI 1) (nI C) (nI R) cf1 rf1 fi1 se1) H → va_D A (WA ad cI cB (nI n) (nI fb) (ra 2) (ra 3) (ra 4) (ra 5) (ra 6) (ra 7) (nI 1) (nI C) (nI R) cf1 rf1 fi1 se1) → va_S A s.heap H locs → lv_has ls 6 [(0, .ref (ad 0)), (1, .int (nI dd)), (2, .int (nI sm)), (3, .int (nI mt)), (4, .int (nI x))] → W p l e (headSpec (ws_ yX0_use cX0_use 6 (some .int)) { frames := 3, cells := 0, slots := 0, locals := 69 }).room s m ([.ref (ad 0), .int (nI dd)] : List Value).toArray below meth c H locs 0 0 (MQ below (va_Qi (fun (r : Int32) (u : pS × pR) => (r, u.1) = o_use n q fb (nI dd) ∧ p_ITr u.1.1 u.1.2.1 u.1.2.2 u.2) (fun (u : pS × pR) => PosW (dC, dI) (tyT cI cB) A (WTr ad cI cB (nI u.1.1) (nI u.1.2.2) u.2)) A) ([.ref (ad 0), .int (nI dd)] : List Value).toArray s 0 0 A) (F0 m 88 ls [.int (nI (p_act n q fb ee))]) := by
                intro H locs ls hP hD hS hl
                have hal := p_act_lt hI.1 ee
                have hqk := (hI.1.2.2 dd hk).2.2
                have hak : p_act n q fb dd = (q dd).2.2 / 16 := if_pos hk
                refine lv_istore (lv' := [(5, .int (nI (p_act n q fb ee))), (0, .ref (ad 0)), (1, .int (nI dd)), (2, .int (nI sm)), (3, .int (nI mt)), (4, .int (nI x))]) hx hb dX0_use_88 hl (by decide) rfl (fun ls hl => ?_)
                refine lv_iconst (v := (nI 1)) hx hb dX0_use_90 (by decide) ?_
                refine lv_istore_n (lv' := [(2, .int (nI 1)), (5, .int (nI (p_act n q fb ee))), (0, .ref (ad 0)), (1, .int (nI dd)), (3, .int (nI mt)), (4, .int (nI x))]) hx hb dX0_use_91 rfl hl (by decide) rfl (fun ls hl => ?_)
                refine lv_iload_n hx hb dX0_use_92 rfl (lv_at hl 4 rfl) ?_
                refine x_ine (tgt := 107) hx hb (by omega) dX0_use_93 (by decide) (fun d1 => ?_) (fun d1 => ?_)
                · refine lv_iconst (v := (nI 1)) hx hb dX0_use_107 (by decide) ?_
                  refine lv_goto (tgt := 112) hx hb dX0_use_108 (by decide) ?_
                  refine lv_istore_n (lv' := [(3, .int (nI 1)), (2, .int (nI 1)), (5, .int (nI (p_act n q fb ee))), (0, .ref (ad 0)), (1, .int (nI dd)), (4, .int (nI x))]) hx hb dX0_use_112 rfl hl (by decide) rfl (fun ls hl => ?_)
                  refine lv_iinc (v := (nI (x + 1))) (lv' := [(4, .int (nI (x + 1))), (3, .int (nI 1)), (2, .int (nI 1)), (5, .int (nI (p_act n q fb ee))), (0, .ref (ad 0)), (1, .int (nI dd))]) hx hb dX0_use_113 hl (k := 5) rfl (x_inc _) (by decide) rfl (fun ls hl => ?_)
                  refine lv_goto (tgt := 22) hx hb dX0_use_116 (by decide) ?_
                  exact ih (x + 1) 1 1 (by omega) (by omega) (u_I_yes hUS) (u_I_mono h4 d1) _ _ _ hP hD hS (lv_sub hl [4, 5, 2, 1, 0] rfl)
                · refine lv_iload hx hb dX0_use_96 (lv_at hl 1 rfl) ?_
                  refine lv_aload_n hx hb dX0_use_98 rfl (lv_at hl 2 rfl) ?_
                  refine x_getT (v := .ref (ad 7)) hx hb hts hown hK hP 7 (by decide) q34 rfl rfl dX0_use_99 ?_
                  refine lv_iload_n hx hb dX0_use_102 rfl (lv_at hl 3 rfl) ?_
                  refine x_iald (v := (nI ((q dd).2.2 / 16))) hx hb hK hP 6 0 rfl rfl (by omega) (by decide) (hI.2.1 dd hk 7 (by decide) (by decide)) dX0_use_103 ?_
                  refine x_ceq (tgt := 111) hx hb (by omega) (by omega) dX0_use_104 (by decide) (fun d2 => ?_) (fun d2 => ?_)
                  · refine lv_iconst (v := (nI 0)) hx hb dX0_use_111 (by decide) ?_
                    refine lv_istore_n (lv' := [(3, .int (nI 0)), (2, .int (nI 1)), (5, .int (nI (p_act n q fb ee))), (0, .ref (ad 0)), (1, .int (nI dd)), (4, .int (nI x))]) hx hb dX0_use_112 rfl hl (by decide) rfl (fun ls hl => ?_)
                    refine lv_iinc (v := (nI (x + 1))) (lv' := [(4, .int (nI (x + 1))), (3, .int (nI 0)), (2, .int (nI 1)), (5, .int (nI (p_act n q fb ee))), (0, .ref (ad 0)), (1, .int (nI dd))]) hx hb dX0_use_113 hl (k := 5) rfl (x_inc _) (by decide) rfl (fun ls hl => ?_)
                    refine lv_goto (tgt := 22) hx hb dX0_use_116 (by decide) ?_
                    exact ih (x + 1) 1 0 (by omega) (by omega) (u_I_yes hUS) (u_I_no (d1 ▸ h4) (fun z => z.2 (by rw [← hee, hak]; exact d2))) _ _ _ hP hD hS (lv_sub hl [4, 5, 2, 1, 0] rfl)
                  · refine lv_iconst (v := (nI 1)) hx hb dX0_use_107 (by decide) ?_
                    refine lv_goto (tgt := 112) hx hb dX0_use_108 (by decide) ?_
                    refine lv_istore_n (lv' := [(3, .int (nI 1)), (2, .int (nI 1)), (5, .int (nI (p_act n q fb ee))), (0, .ref (ad 0)), (1, .int (nI dd)), (4, .int (nI x))]) hx hb dX0_use_112 rfl hl (by decide) rfl (fun ls hl => ?_)
                    refine lv_iinc (v := (nI (x + 1))) (lv' := [(4, .int (nI (x + 1))), (3, .int (nI 1)), (2, .int (nI 1)), (5, .int (nI (p_act n q fb ee))), (0, .ref (ad 0)), (1, .int (nI dd))]) hx hb dX0_use_113 hl (k := 5) rfl (x_inc _) (by decide) rfl (fun ls hl => ?_)
                    refine lv_goto (tgt := 22) hx hb dX0_use_116 (by decide) ?_
                    exact ih (x + 1) 1 1 (by omega) (by omega) (u_I_yes hUS) (u_I_yes ⟨hUS, by rw [← hee, hak]; exact d2⟩) _ _ _ hP hD hS (lv_sub hl [4, 5, 2, 1, 0] rfl)
              refine lv_aload_n hx hb dX0_use_59 rfl (lv_at hl 0 rfl) ?_
              refine x_getT (v := .ref (ad 14)) hx hb hts hown hK hP 14 (by decide) q41 rfl rfl dX0_use_60 ?_
              refine lv_iload hx hb dX0_use_63 (lv_at hl 4 rfl) ?_
              refine x_bald (v := (p_cd n ee)) hx hb hK hP 10 1 rfl rfl (by omega) (by decide) hx0.2 dX0_use_65 ?_
              by_cases he : ee < n
              · refine x_top (y := (nI ee)) (p_cd_lt he) ?_
                refine x_igeN (tgt := 76) hx hb (by omega) dX0_use_66 (by decide) ?_
                have hx2 : se1 x = nI ee := hx0.2.trans (p_cd_lt he)
                refine lv_aload_n hx hb dX0_use_76 rfl (lv_at hl 0 rfl) ?_
                refine x_getT (v := .ref (ad 7)) hx hb hts hown hK hP 7 (by decide) q34 rfl rfl dX0_use_77 ?_
                refine lv_aload_n hx hb dX0_use_80 rfl (lv_at hl 0 rfl) ?_
                refine x_getT (v := .ref (ad 14)) hx hb hts hown hK hP 14 (by decide) q41 rfl rfl dX0_use_81 ?_
                refine lv_iload hx hb dX0_use_84 (lv_at hl 4 rfl) ?_
                refine x_bald (v := (nI ee)) hx hb hK hP 10 1 rfl rfl (by omega) (by decide) hx2 dX0_use_86 ?_
                refine x_iald (v := (nI ((q ee).2.2 / 16))) hx hb hK hP 6 0 rfl rfl (by omega) (by decide) (hI.2.1 ee he 7 (by decide) (by decide)) dX0_use_87 ?_
                refine x_top (y := (nI (p_act n q fb ee))) (by unfold p_act; rw [if_pos he]) ?_
                exact L88  _ _ _ hP hD hS (lv_sub hl [0, 1, 2, 3, 4] rfl)
              · have hen : ee = n := by omega
                refine x_top (y := (-1)) (by rw [hen]; exact p_cd_n n) ?_
                refine lv_if_ge (tgt := 76) hx hb dX0_use_66 (by decide) (fun c9 => absurd c9 (by decide)) (fun _ => ?_)
                refine lv_aload_n hx hb dX0_use_69 rfl (lv_at hl 0 rfl) ?_
                refine x_getT (v := .int (nI fb)) hx hb hts hown hK hP 1 (by decide) q28 rfl rfl dX0_use_70 ?_
                refine lv_goto (tgt := 88) hx hb dX0_use_73 (by decide) ?_
                refine x_top (y := (nI (p_act n q fb ee))) (by unfold p_act; rw [if_neg he]) ?_
                exact L88  _ _ _ hP hD hS (lv_sub hl [0, 1, 2, 3, 4] rfl)
    exact loop (104 * C + 1) 0 0 0 (by omega) (by omega) (u_I_0 _) (u_I_0 _) _ _ _ hP hD hS (lv_sub hl [3, 4, 2, 1, 0] rfl)
  · refine lv_if_ne (tgt := 11) hx hb dX0_use_5 (by decide) (fun c9 => absurd (by decide) c9) (fun _ => ?_)
    refine lv_bipush (v := -2) hx hb dX0_use_8 (by decide) ?_
    exact W.iret (v := (-2)) hx hb hr (fun t ht hW => ⟨⟨_, ((n, q, fb), (ra, pt, co, rc, cf, rf, fi, se)), rfl, ⟨(o_use_n q fb hn h1).symm, hI⟩, by rw [ht]; exact hP, va_K.moved hW.alike hK, hD⟩, hS.F ht⟩) hS.2.2 dX0_use_10
end
section
set_option maxHeartbeats 4000000 in
set_option maxRecDepth 100000 in
/-- witness -/
theorem m0_witness (l : Launch) (dC : Nat → ClassId) (dI : Nat → Nat → Nat) (ad : Nat → Nat) (cI cB : ClassId) (sz : Nat) (n fb : Nat) (q : Nat → pV) (ra : Nat → Nat → Int32) (pt co rc : Int32) (cf rf fi se : Nat → Int32) (a : Int32) (hI : p_IT n q fb ra pt co rc cf rf fi se) : Met l yX0_witness (ws_ yX0_witness cX0_witness 4 (some .int)) { frames := 3, cells := 0, slots := 0, locals := 69 } (va_Pc [.ref (ad 0), .int a] (PreW (dC, dI) (tyT cI cB) (WA ad cI cB (nI n) (nI fb) (ra 2) (ra 3) (ra 4) (ra 5) (ra 6) (ra 7) pt co rc cf rf fi se) sz)) (va_Qi (fun (r : Int32) (u : pS × pR) => (r, u.1) = o_wit n q fb a ∧ p_ITr u.1.1 u.1.2.1 u.1.2.2 u.2) (fun (u : pS × pR) => PosW (dC, dI) (tyT cI cB) (va_A (WA ad cI cB (nI n) (nI fb) (ra 2) (ra 3) (ra 4) (ra 5) (ra 6) (ra 7) pt co rc cf rf fi se) sz) (WTr ad cI cB (nI u.1.1) (nI u.1.2.2) u.2)) (va_A (WA ad cI cB (nI n) (nI fb) (ra 2) (ra 3) (ra 4) (ra 5) (ra 6) (ra 7) pt co rc cf rf fi se) sz)) 0 0 (va_A (WA ad cI cB (nI n) (nI fb) (ra 2) (ra 3) (ra 4) (ra 5) (ra 6) (ra 7) pt co rc cf rf fi se) sz) := by
  refine Met.ofW (cc := cX0_witness) (maxL := 4) (ret := (some .int)) (by decide) rfl ?_
  intro p e s m args below meth c s₁ B hml hv
  obtain ⟨rfl, hsz, hP, hK, hD0⟩ := hv
  have hx := B.exec
  have hb := B.bytes
  have hr := B.returns
  have hts := atoms_spec (ws := (ws_ yX0_witness cX0_witness 4 (some .int))) B.pre
  have hts : ∀ w ∈ lw_all, w.before _ s = true := fun w h => hts w (List.mem_cons_of_mem _ h)
  have hown : s.vm.findClass RX0 = some m.cls := findClass_of_methodNamed B.named
  have hlocks := B.notSynchronized
  subst hsz
  have hD := hD0.self (sz := s.heap.size)
  generalize hAe : va_A (WA ad cI cB (nI n) (nI fb) (ra 2) (ra 3) (ra 4) (ra 5) (ra 6) (ra 7) pt co rc cf rf fi se) s.heap.size = A at hD ⊢
  have hA : ∀ q : Nat, s.heap.size ≤ q → A q := fun q h => by rw [← hAe]; exact Or.inr h
  have hS : va_S A s.heap s.heap [] := va_S.rf
  have hP : va_P (dC, dI) vwCl (WA ad cI cB (nI n) (nI fb) (ra 2) (ra 3) (ra 4) (ra 5) (ra 6) (ra 7) pt co rc cf rf fi se) s.heap := hP
  have hl := lv_entry ([.ref (ad 0), .int a]) (n := 4) (Nat.le_of_ble_eq_true rfl)
  rw [lg_entry_eq]
  generalize (lg_sl ([.ref (ad 0), .int a]) ++ List.replicate (4 - (lg_sl ([.ref (ad 0), .int a])).length) Slot.unset).toArray = ls at hl ⊢
  have hl : lv_has ls 4 [(0, .ref (ad 0)), (1, .int a)] := hl
  have hn := hI.1.1
  have L16 : ∀ (k : Nat), k ≤ n → a = p_cd n k → ∀ (ls : Array Slot), lv_has ls 4 [(0, .ref (ad 0)), (1, .int a)] → W p l e (headSpec (ws_ yX0_witness cX0_witness 4 (some .int)) { frames := 3, cells := 0, slots := 0, locals := 69 }).room s m ([.ref (ad 0), .int a] : List Value).toArray below meth c s.heap [] 0 0 (MQ below (va_Qi (fun (r : Int32) (u : pS × pR) => (r, u.1) = o_wit n q fb a ∧ p_ITr u.1.1 u.1.2.1 u.1.2.2 u.2) (fun (u : pS × pR) => PosW (dC, dI) (tyT cI cB) A (WTr ad cI cB (nI u.1.1) (nI u.1.2.2) u.2)) A) ([.ref (ad 0), .int a] : List Value).toArray s 0 0 A) (F0 m 16 ls []) := by
    intro k hk ha ls hl
    refine lv_aload_n hx hb dX0_witness_16 rfl (lv_at hl 0 rfl) ?_
    refine x_callv (va_runV (As := []) (rest := []) ⟨hx, hb, hml, hown, hts⟩ (m0_paint l dC dI ad cI cB s.heap.size n fb q ra pt co rc cf rf fi se hI) (cwV 0 hts (lw_V q110 q112 qs3 q17 q113) rfl rfl rfl (by decide +kernel) ⟨Nat.le_of_ble_eq_true rfl, Nat.le_of_ble_eq_true rfl⟩) (x_preV (ci := 0) (q0 := 0) hK hP hD rfl rfl) rfl rfl hl.1 rfl (lv_room (Nat.le_of_ble_eq_true rfl)) dX0_witness_17 ⟨Nat.le_refl _, Nat.le_refl _⟩) hD hS hA (fun u H locs hu hP hD hS => ?_)
    obtain ⟨co1, rc1, cf1, rf1, fi1, se1⟩ := u
    obtain ⟨C, R, g, h, hE, hBd⟩ := hu
    have hE : p_Ed n q C R g h co1 rc1 cf1 rf1 := hE
    have hBd : p_Bd n q C R g h fi1 se1 := hBd
    obtain ⟨e1, e2, -⟩ := id hE
    subst e1
    subst e2
    have hC25 := hE.2.2.1.2.1
    have hR25 := hE.2.2.2.1.2.1
    have hcf := hE.2.2.2.2.1
    have hrf := hE.2.2.2.2.2
    have hP : va_P (dC, dI) vwCl (WA ad cI cB (nI n) (nI fb) (ra 2) (ra 3) (ra 4) (ra 5) (ra 6) (ra 7) (nI 1) (nI C) (nI R) cf1 rf1 fi1 se1) H := hP
    have hD : va_D A (WA ad cI cB (nI n) (nI fb) (ra 2) (ra 3) (ra 4) (ra 5) (ra 6) (ra 7) (nI 1) (nI C) (nI R) cf1 rf1 fi1 se1) := hD
    refine lv_iconst (v := (nI 0)) hx hb dX0_witness_20 (by decide) ?_
    refine lv_istore_n (lv' := [(2, .int (nI 0)), (0, .ref (ad 0)), (1, .int a)]) hx hb dX0_witness_21 rfl hl (by decide) rfl (fun ls hl => ?_)
    have loop : ∀ (f : Nat) (c1 : Nat), c1 ≤ C → C < c1 + f → (∀ c2 r t, c2 < c1 → r < R → t < 4 → ¬ p_D n q (g c2) (h r) t = k) → ∀ (H : Heap) (locs : List Loc) (ls : Array Slot), va_P (dC, dI) vwCl (WA ad cI cB (nI n) (nI fb) (ra 2) (ra 3) (ra 4) (ra 5) (ra 6) (ra 7) (nI 1) (nI C) (nI R) cf1 rf1 fi1 se1) H → va_D A (WA ad cI cB (nI n) (nI fb) (ra 2) (ra 3) (ra 4) (ra 5) (ra 6) (ra 7) (nI 1) (nI C) (nI R) cf1 rf1 fi1 se1) → va_S A s.heap H locs → lv_has ls 4 [(0, .ref (ad 0)), (1, .int a), (2, .int (nI c1))] → W p l e (headSpec (ws_ yX0_witness cX0_witness 4 (some .int)) { frames := 3, cells := 0, slots := 0, locals := 69 }).room s m ([.ref (ad 0), .int a] : List Value).toArray below meth c H locs 0 0 (MQ below (va_Qi (fun (r : Int32) (u : pS × pR) => (r, u.1) = o_wit n q fb a ∧ p_ITr u.1.1 u.1.2.1 u.1.2.2 u.2) (fun (u : pS × pR) => PosW (dC, dI) (tyT cI cB) A (WTr ad cI cB (nI u.1.1) (nI u.1.2.2) u.2)) A) ([.ref (ad 0), .int a] : List Value).toArray s 0 0 A) (F0 m 22 ls []) := by
      intro f
      induction f with
      | zero => intros; omega
      | succ f ih =>
        intro c1 h1 h2 h3 H locs ls hP hD hS hl
        refine lv_iload_n hx hb dX0_witness_22 rfl (lv_at hl 2 rfl) ?_
        refine lv_aload_n hx hb dX0_witness_23 rfl (lv_at hl 0 rfl) ?_
        refine x_getT (v := .int (nI C)) hx hb hts hown hK hP 9 (by decide) q36 rfl rfl dX0_witness_24 ?_
        refine x_cge (tgt := 95) hx hb (by omega) (by omega) dX0_witness_27 (by decide) (fun ci => ?_) (fun ci => ?_)
        · refine lv_iconst (v := -1) hx hb dX0_witness_95 (by decide) ?_
          exact W.iret (v := (-1)) hx hb hr (fun t ht hW => ⟨⟨_, ((n, q, fb), (ra, nI 1, nI C, nI R, cf1, rf1, fi1, se1)), rfl, ⟨by rw [ha, o_wit_y q fb hn hk, w_n hE.2.2.1 hE.2.2.2.1 (fun c2 r t hc2 => h3 c2 r t (by omega))], ⟨hI.1, hI.2.1, Or.inr ⟨rfl, C, R, g, h, hE, hBd⟩⟩⟩, by rw [ht]; exact hP, va_K.moved hW.alike hK, hD⟩, hS.F ht⟩) hS.2.2 dX0_witness_96
        · refine lv_iconst (v := (nI 0)) hx hb dX0_witness_30 (by decide) ?_
          refine lv_istore_n (lv' := [(3, .int (nI 0)), (0, .ref (ad 0)), (1, .int a), (2, .int (nI c1))]) hx hb dX0_witness_31 rfl hl (by decide) rfl (fun ls hl => ?_)
          have loop2 : ∀ (f2 : Nat) (j : Nat), j ≤ 4 * R → 4 * R < j + f2 → (∀ r t, t < 4 → 4 * r + t < j → ¬ p_D n q (g c1) (h r) t = k) → ∀ (H : Heap) (locs : List Loc) (ls : Array Slot), va_P (dC, dI) vwCl (WA ad cI cB (nI n) (nI fb) (ra 2) (ra 3) (ra 4) (ra 5) (ra 6) (ra 7) (nI 1) (nI C) (nI R) cf1 rf1 fi1 se1) H → va_D A (WA ad cI cB (nI n) (nI fb) (ra 2) (ra 3) (ra 4) (ra 5) (ra 6) (ra 7) (nI 1) (nI C) (nI R) cf1 rf1 fi1 se1) → va_S A s.heap H locs → lv_has ls 4 [(0, .ref (ad 0)), (1, .int a), (2, .int (nI c1)), (3, .int (nI j))] → W p l e (headSpec (ws_ yX0_witness cX0_witness 4 (some .int)) { frames := 3, cells := 0, slots := 0, locals := 69 }).room s m ([.ref (ad 0), .int a] : List Value).toArray below meth c H locs 0 0 (MQ below (va_Qi (fun (r : Int32) (u : pS × pR) => (r, u.1) = o_wit n q fb a ∧ p_ITr u.1.1 u.1.2.1 u.1.2.2 u.2) (fun (u : pS × pR) => PosW (dC, dI) (tyT cI cB) A (WTr ad cI cB (nI u.1.1) (nI u.1.2.2) u.2)) A) ([.ref (ad 0), .int a] : List Value).toArray s 0 0 A) (F0 m 32 ls []) := by
            intro f2
            induction f2 with
            | zero => intros; omega
            | succ f2 ih2 =>
              intro j k1 k2 k3 H locs ls hP hD hS hl
              refine lv_iload_n hx hb dX0_witness_32 rfl (lv_at hl 3 rfl) ?_
              refine lv_iconst (v := (nI 4)) hx hb dX0_witness_33 (by decide) ?_
              refine lv_aload_n hx hb dX0_witness_34 rfl (lv_at hl 0 rfl) ?_
              refine x_getT (v := .int (nI R)) hx hb hts hown hK hP 10 (by decide) q37 rfl rfl dX0_witness_35 ?_
              refine x_mul hx hb dX0_witness_38 ?_
              refine x_cge (tgt := 89) hx hb (by omega) (by omega) dX0_witness_39 (by decide) (fun cj => ?_) (fun cj => ?_)
              · refine lv_iinc (v := (nI (c1 + 1))) (lv' := [(2, .int (nI (c1 + 1))), (0, .ref (ad 0)), (1, .int a), (3, .int (nI j))]) hx hb dX0_witness_89 hl (k := 2) rfl (x_inc _) (by decide) rfl (fun ls hl => ?_)
                refine lv_goto (tgt := 22) hx hb dX0_witness_92 (by decide) ?_
                exact ih (c1 + 1) (by omega) (by omega) (fun c2 r t hc2 hr2 ht2 => by
                                  by_cases e : c2 = c1
                                  · rw [e]; exact k3 r t ht2 (by omega)
                                  · exact h3 c2 r t (by omega) hr2 ht2) _ _ _ hP hD hS (lv_sub hl [1, 2, 0] rfl)
              · have hj0 := (hBd c1 (j / 4) (j % 4) ci (by omega) (by omega)).1
                rw [show 104 * c1 + 4 * (j / 4) + j % 4 = 104 * c1 + j by omega] at hj0
                have hj : p_cd n (p_D n q (g c1) (h (j / 4)) (j % 4)) = a ↔ p_D n q (g c1) (h (j / 4)) (j % 4) = k := by rw [ha]; exact p_cd_inj hn (p_D_le n q _ _ _) hk
                refine lv_aload_n hx hb dX0_witness_42 rfl (lv_at hl 0 rfl) ?_
                refine x_getT (v := .ref (ad 13)) hx hb hts hown hK hP 13 (by decide) q40 rfl rfl dX0_witness_43 ?_
                refine lv_bipush (v := (nI 104)) hx hb dX0_witness_46 (by decide) ?_
                refine lv_iload_n hx hb dX0_witness_48 rfl (lv_at hl 2 rfl) ?_
                refine x_mul hx hb dX0_witness_49 ?_
                refine lv_iload_n hx hb dX0_witness_50 rfl (lv_at hl 3 rfl) ?_
                refine x_add hx hb dX0_witness_51 ?_
                refine x_bald (v := (p_cd n (p_D n q (g c1) (h (j / 4)) (j % 4)))) hx hb hK hP 9 1 rfl rfl (by omega) (by decide) hj0 dX0_witness_52 ?_
                refine lv_iload_n hx hb dX0_witness_53 rfl (lv_at hl 1 rfl) ?_
                refine lv_icmp_ne (tgt := 83) hx hb dX0_witness_54 (by decide) (fun cd => ?_) (fun cd => ?_)
                · refine lv_iinc (v := (nI (j + 1))) (lv' := [(3, .int (nI (j + 1))), (0, .ref (ad 0)), (1, .int a), (2, .int (nI c1))]) hx hb dX0_witness_83 hl (k := 3) rfl (x_inc _) (by decide) rfl (fun ls hl => ?_)
                  refine lv_goto (tgt := 32) hx hb dX0_witness_86 (by decide) ?_
                  exact ih2 (j + 1) (by omega) (by omega) (fun r t ht2 hrt => by
                                    by_cases e : 4 * r + t = j
                                    · have e1 : r = j / 4 := by omega
                                      have e2 : t = j % 4 := by omega
                                      rw [e1, e2]; exact fun z => cd (hj.mpr z)
                                    · exact k3 r t ht2 (by omega)) _ _ _ hP hD hS (lv_sub hl [1, 2, 3, 0] rfl)
                · have cd := hj.mp cd
                  refine lv_sipush (v := (nI 128)) hx hb dX0_witness_57 (by decide) ?_
                  refine lv_aload_n hx hb dX0_witness_60 rfl (lv_at hl 0 rfl) ?_
                  refine x_getT (v := .ref (ad 11)) hx hb hts hown hK hP 11 (by decide) q38 rfl rfl dX0_witness_61 ?_
                  refine lv_iload_n hx hb dX0_witness_64 rfl (lv_at hl 2 rfl) ?_
                  refine x_iald (v := (nI (g c1))) hx hb hK hP 7 0 rfl rfl (by omega) (by decide) (hcf _ (by omega)) dX0_witness_65 ?_
                  refine x_mul hx hb dX0_witness_66 ?_
                  refine lv_iconst (v := (nI 4)) hx hb dX0_witness_67 (by decide) ?_
                  refine lv_aload_n hx hb dX0_witness_68 rfl (lv_at hl 0 rfl) ?_
                  refine x_getT (v := .ref (ad 12)) hx hb hts hown hK hP 12 (by decide) q39 rfl rfl dX0_witness_69 ?_
                  refine lv_iload_n hx hb dX0_witness_72 rfl (lv_at hl 3 rfl) ?_
                  refine lv_iconst (v := (nI 2)) hx hb dX0_witness_73 (by decide) ?_
                  refine x_shr (K := 4) hx hb (by decide) rfl (by omega) dX0_witness_74 ?_
                  refine x_iald (v := (nI (h (j / 4)))) hx hb hK hP 8 0 rfl rfl (by omega) (by decide) (hrf _ (by omega)) dX0_witness_75 ?_
                  refine x_mul hx hb dX0_witness_76 ?_
                  refine x_add hx hb dX0_witness_77 ?_
                  refine lv_iload_n hx hb dX0_witness_78 rfl (lv_at hl 3 rfl) ?_
                  refine lv_iconst (v := (nI 3)) hx hb dX0_witness_79 (by decide) ?_
                  refine x_and (K := 4) hx hb 2 rfl rfl (by decide) (by omega) dX0_witness_80 ?_
                  refine x_add hx hb dX0_witness_81 ?_
                  exact W.iret (v := (nI (128 * (g c1) + 4 * (h (j / 4)) + j % 4))) hx hb hr (fun t ht hW => ⟨⟨_, ((n, q, fb), (ra, nI 1, nI C, nI R, cf1, rf1, fi1, se1)), rfl, ⟨by rw [ha, o_wit_y q fb hn hk, w_t hE.2.2.1 hE.2.2.2.1 ci cj cd h3 k3], ⟨hI.1, hI.2.1, Or.inr ⟨rfl, C, R, g, h, hE, hBd⟩⟩⟩, by rw [ht]; exact hP, va_K.moved hW.alike hK, hD⟩, hS.F ht⟩) hS.2.2 dX0_witness_82
          exact loop2 (4 * R + 1) 0 (by omega) (by omega) (fun r t _ z => absurd z (Nat.not_lt_zero _)) _ _ _ hP hD hS (lv_sub hl [1, 2, 3, 0] rfl)
    exact loop (C + 1) 0 (by omega) (by omega) (fun c2 r t z => absurd z (Nat.not_lt_zero _)) _ _ _ hP hD hS (lv_sub hl [1, 2, 0] rfl)
  refine lv_iload_n hx hb dX0_witness_0 rfl (lv_at hl 1 rfl) ?_
  refine lv_iconst (v := -1) hx hb dX0_witness_1 (by decide) ?_
  refine lv_icmp_eq (tgt := 16) hx hb dX0_witness_2 (by decide) (fun c1 => ?_) (fun c1 => ?_)
  · exact L16 n (Nat.le_refl n) (c1.trans (p_cd_n n).symm) _ (lv_sub hl [0, 1] rfl)
  · refine lv_aload_n hx hb dX0_witness_5 rfl (lv_at hl 0 rfl) ?_
    refine lv_iload_n hx hb dX0_witness_6 rfl (lv_at hl 1 rfl) ?_
    refine vp_callSi (W.runV (As := [.int a]) (rest := []) ⟨hx, hb, hml, hown, hts⟩ (m0_isRule l dC dI ad cI cB n (nI fb) ra pt co rc cf rf fi se a hn) (cwV 1 hts (lw_V q87 q89 qs1 q17 q90) rfl rfl rfl (by decide +kernel) ⟨Nat.le_of_ble_eq_true rfl, Nat.le_of_ble_eq_true rfl⟩) (x_preVR (ci := 0) (q0 := 0) hK hP rfl rfl) rfl rfl hl.1 rfl (lv_room (Nat.le_of_ble_eq_true rfl)) dX0_witness_7 ⟨Nat.le_refl _, Nat.le_refl _⟩) (fun r1 h1 => ?_)
    rcases h1 with ⟨rfl, k, hk, hak⟩ | ⟨rfl, h1⟩
    · refine lv_if_ne (tgt := 16) hx hb dX0_witness_10 (by decide) (fun _ => ?_) (fun c9 => absurd c9 (by decide))
      exact L16 k (by omega) (hak.trans (p_cd_lt hk).symm) _ (lv_sub hl [0, 1] rfl)
    · refine lv_if_ne (tgt := 16) hx hb dX0_witness_10 (by decide) (fun c9 => absurd (by decide) c9) (fun _ => ?_)
      refine lv_bipush (v := -2) hx hb dX0_witness_13 (by decide) ?_
      exact W.iret (v := (-2)) hx hb hr (fun t ht hW => ⟨⟨_, ((n, q, fb), (ra, pt, co, rc, cf, rf, fi, se)), rfl, ⟨(o_wit_n q fb hn c1 h1).symm, hI⟩, by rw [ht]; exact hP, va_K.moved hW.alike hK, hD⟩, hS.F ht⟩) hS.2.2 dX0_witness_15
end
section
/-! rows for the constructors and the law: new arrays of a known class, final fields, the script, calls on one of two worlds -/
set_option maxRecDepth 100000
section XN
variable {p : Program} {l : Launch} {e : Env} {R : Room} {s : State} {m : MethodId} {args : Array Value} {below : List Frame} {meth : Method} {c : Code} {H : Heap} {locs : List Loc} {cells slots : Nat} {Q : State → Prop}
variable {cc : ByteArray} {pc : Nat} {ls : Array Slot} {rest : List Value} {D : va_G} {cl : List vw_C} {A : Nat → Prop} {tys : List (ClassId × FieldType)} {ws : va_W} {H0 : Heap} {b index : Nat} {fs : List Value} {v : Value}
/-- a new array whose class is known already -/
theorem x_newa (hx : p.tables.exec = Jvm.exec) (hb : c.code = cc) {atype : ArrayType} (harr : (Cond.arrayClass (newarray.typeOf atype)).before args s = true) {ty : FieldType} (hty : newarray.typeOf atype = ty) (hK : va_K D cl tys s) (hP : va_P D cl ws H) (hD : va_D A ws) (hS : va_S A H0 H locs) (hA : ∀ q, H0.size ≤ q → A q) (t0 : Nat) {cA : ClassId} (ht : tys[t0]? = some (cA, ty)) (hra : ∀ c2, va_RA s c2 ty → s.vm.findClass ("[" ++ ty.toString) = some c2)
    {n : Int32} {N' : Nat} {a0 : vp_A} (ha : ∀ cA : ClassId, vp_cell cA a0 = arrV cA N' (fun _ => defaultValue ty)) (hn : ¬ n < 0) (hN : n.toNatClampNeg = N') (hbytes : N' * componentBytes ty ≤ 536870912) (hcells : cells + 1 ≤ R.cells) (hslots : slots + N' ≤ R.slots) (hdg : decode cc pc = .ok (.newarray atype, 2))
    (kk : ∀ (q : Nat) (H1 : Heap), va_P D cl (ws ++ [(q, .inl (cA, a0))]) H1 → va_D A (ws ++ [(q, .inl (cA, a0))]) → va_S A H0 H1 locs → W p l e R s m args below meth c H1 locs (cells + 1) (slots + N') Q (F0 m (pc + 2) ls (.ref q :: rest))) : W p l e R s m args below meth c H locs cells slots Q (F0 m pc ls (.int n :: rest)) := by
  refine va_newa hx hb harr hty hK hP hD hS hA ha hn hN hbytes hcells hslots hdg (fun q c2 H1 hK2 hP2 hD2 hS2 => ?_)
  have h1 := hra _ (hK2.2 tys.length (c2, ty) (by simp)).2
  have h2 := hra _ (hK.2 t0 _ ht).2
  have e0 : c2 = cA := Option.some.inj (h1.symm.trans h2)
  subst e0
  exact kk q H1 hP2 hD2 hS2
theorem x_finT (hx : p.tables.exec = Jvm.exec) (hb : c.code = cc) (hts : ∀ w ∈ lw_all, w.before args s = true) (hown : s.vm.findClass RX0 = some m.cls) (hK : va_K D vwCl tys s) (hP : va_P D vwCl ((b, .inr (0, fs)) :: ws) H) (hD : va_D A ((b, .inr (0, fs)) :: ws)) (hS : va_S A H0 H locs) (k : Nat) (hk : k < 15) (hlink : Cond.fieldLink RX0 index RX0 (TX0 k).2.1 (TX0 k).2.2.1 ∈ lw_all) (h0 : (TX0 k).1 = RX0) (hfin : (TX0 k).2.2.2 = true) (hin2 : meth.name = "<init>") {ty : FieldType} (hd : parseFieldDescriptor (TX0 k).2.2.1 = some ty) (hn : narrow ty v = v) (hfit : fits ty v = true) (hl : k < fs.length) (hdg : decode cc pc = .ok (.putfield index, 3))
    (kk : ∀ (H1 : Heap) (locs1 : List Loc), va_P D vwCl ((b, .inr (0, fs.set k v)) :: ws) H1 → va_D A ((b, .inr (0, fs.set k v)) :: ws) → va_S A H0 H1 locs1 → W p l e R s m args below meth c H1 locs1 cells slots Q (F0 m (pc + 3) ls rest)) : W p l e R s m args below meth c H locs cells slots Q (F0 m pc ls (v :: .ref b :: rest)) :=
  va_putF (D := D) (ci := 0) (v := v) (ty := ty) (C := RX0) (T := TX0) (N := 15) hx hb hts in_X0 tyX0 tyX0_ok nmX0 hown hK hP hD hS 0 rfl rfl k hk (hts _ hlink) (fun _ h9 => by rw [h0] at h9; exact h9) hfin hin2 h0 hd hn hfit hl hdg kk
theorem x_finM (hx : p.tables.exec = Jvm.exec) (hb : c.code = cc) (hts : ∀ w ∈ lw_all, w.before args s = true) (hown : s.vm.findClass RX1 = some m.cls) (hK : va_K D vwCl tys s) (hP : va_P D vwCl ((b, .inr (1, fs)) :: ws) H) (hD : va_D A ((b, .inr (1, fs)) :: ws)) (hS : va_S A H0 H locs) (k : Nat) (hk : k < 5) (hlink : Cond.fieldLink RX1 index RX1 (TX1 k).2.1 (TX1 k).2.2.1 ∈ lw_all) (h0 : (TX1 k).1 = RX1) (hfin : (TX1 k).2.2.2 = true) (hin2 : meth.name = "<init>") {ty : FieldType} (hd : parseFieldDescriptor (TX1 k).2.2.1 = some ty) (hn : narrow ty v = v) (hfit : fits ty v = true) (hl : k < fs.length) (hdg : decode cc pc = .ok (.putfield index, 3))
    (kk : ∀ (H1 : Heap) (locs1 : List Loc), va_P D vwCl ((b, .inr (1, fs.set k v)) :: ws) H1 → va_D A ((b, .inr (1, fs.set k v)) :: ws) → va_S A H0 H1 locs1 → W p l e R s m args below meth c H1 locs1 cells slots Q (F0 m (pc + 3) ls rest)) : W p l e R s m args below meth c H locs cells slots Q (F0 m pc ls (v :: .ref b :: rest)) :=
  va_putF (D := D) (ci := 1) (v := v) (ty := ty) (C := RX1) (T := TX1) (N := 5) hx hb hts in_X1 tyX1 tyX1_ok nmX1 hown hK hP hD hS 0 rfl rfl k hk (hts _ hlink) (fun _ h9 => by rw [h0] at h9; exact h9) hfin hin2 h0 hd hn hfit hl hdg kk
/-- the script at a natural place -/
theorem x_sld (hx : p.tables.exec = Jvm.exec) (hb : c.code = cc) {b L : Nat} {xs : Nat → Int32} (hX : va_X b L xs s H0) (hbl : b < H0.size) (hbA : ¬ A b) (hS : va_S A H0 H locs) {i : Nat} (hi : i < L) (hL : L < 2 ^ 31) (hdg : decode cc pc = .ok (.iaload, 1))
    (kk : W p l e R s m args below meth c H locs cells slots Q (F0 m (pc + 1) ls (.int (xs i) :: rest))) : W p l e R s m args below meth c H locs cells slots Q (F0 m pc ls (.int (nI i) :: .ref b :: rest)) := by
  refine va_sld hx hb hX hbl hbA hS (vp_in_nI hi hL) hdg ?_
  rw [nI_clamp (by omega)]
  exact kk
end XN
/-! two worlds side by side -/
section XL
variable {D : va_G} {cl : List vw_C} {A : Nat → Prop} {w1 w2 : va_W} {H : Heap}
theorem vl_l {k : Nat} {q : Nat × va_E} (h : w1[k]? = some q) : (w1 ++ w2)[k]? = some q := by
  rw [List.getElem?_append_left (List.getElem?_eq_some_iff.mp h).1]
  exact h
theorem vl_r {k : Nat} {q : Nat × va_E} (h : w2[k]? = some q) : (w1 ++ w2)[w1.length + k]? = some q := by
  rw [List.getElem?_append_right (Nat.le_add_right _ _), Nat.add_sub_cancel_left]
  exact h
theorem vl_Pl (h : va_P D cl (w1 ++ w2) H) : va_P D cl w1 H := fun k q hk => h k q (vl_l hk)
theorem vl_Pr (h : va_P D cl (w1 ++ w2) H) : va_P D cl w2 H := fun _ q hk => h _ q (vl_r hk)
theorem vl_Dl (h : va_D A (w1 ++ w2)) : va_D A w1 := ⟨fun i j x y hi hj e => h.1 i j x y (vl_l hi) (vl_l hj) e, fun k q hk => h.2 k q (vl_l hk)⟩
theorem vl_Dr (h : va_D A (w1 ++ w2)) : va_D A w2 := ⟨fun i j x y hi hj e => by have := h.1 _ _ x y (vl_r hi) (vl_r hj) e; omega, fun _ q hk => h.2 _ q (vl_r hk)⟩
theorem vl_ne (h : va_D A (w1 ++ w2)) {i j : Nat} {x y : Nat × va_E} (hi : w1[i]? = some x) (hj : w2[j]? = some y) : x.1 ≠ y.1 := fun e => by
  have h1 := h.1 _ _ x y (vl_l hi) (vl_r hj) e
  have h2 := (List.getElem?_eq_some_iff.mp hi).1
  omega
theorem vl_nA (hP : va_P D cl (w1 ++ w2) H) (h : va_D A (w1 ++ w2)) {j : Nat} {y : Nat × va_E} (hj : w2[j]? = some y) : ¬ va_A w1 H.size y.1 := by
  intro z
  rcases z with ⟨k, e, z⟩ | z
  · exact vl_ne h z hj rfl
  · have := (vl_Pr hP j y hj).lt
    omega
theorem vl_nB (hP : va_P D cl (w1 ++ w2) H) (h : va_D A (w1 ++ w2)) {j : Nat} {y : Nat × va_E} (hj : w1[j]? = some y) : ¬ va_A w2 H.size y.1 := by
  intro z
  rcases z with ⟨k, e, z⟩ | z
  · exact vl_ne h hj z rfl
  · have := (vl_Pl hP j y hj).lt
    omega
end XL
section XJ
variable {p : Program} {l : Launch} {e : Env} {R : Room} {s : State} {m : MethodId} {args : Array Value} {below : List Frame} {meth : Method} {c : Code} {H : Heap} {locs : List Loc} {cells slots mc ms : Nat} {Q : State → Prop}
variable {pc : Nat} {ls : Array Slot} {rest st0 : List Value} {a : Array Value} {A : Nat → Prop} {H0 : Heap} {D : va_G} {tys : List (ClassId × FieldType)} {w1 w2 : va_W}
/-- a call on the first world, the second stays -/
theorem x_law1 {S : Type} {post : Int32 → S → Prop} {wn : S → va_W} (hr : va_Run p l e R s m args below meth c H locs cells slots 0 0 (F0 m pc ls st0) rest (va_Qi post (fun u => PosW D tys (va_A w1 H.size) (wn u)) (va_A w1 H.size) a) (va_A w1 H.size)) (hP : va_P D vwCl (w1 ++ w2) H) (hD : va_D A (w1 ++ w2)) (hS : va_S A H0 H locs) (hA : ∀ q, H0.size ≤ q → A q)
    (kk : ∀ (r : Int32) (u : S) (H1 : Heap) (locs1 : List Loc), post r u → va_P D vwCl (wn u ++ w2) H1 → va_D A (wn u ++ w2) → va_S A H0 H1 locs1 → W p l e R s m args below meth c H1 locs1 cells slots Q (F0 m (pc + 3) ls (.int r :: rest))) : W p l e R s m args below meth c H locs cells slots Q (F0 m pc ls st0) := by
  have hF := x_free (vl_Dl hD) hS hA
  refine va_calli hr hS (fun q _ h => hF q h) hF (fun r u t H1 locs1 ht hvm hw hB hz hk hS1 => ?_)
  obtain ⟨hP1, hK1, hD1⟩ := hB
  rw [ht] at hP1
  refine kk r u H1 locs1 hw (va_P.app hP1 ((vl_Pr hP).kept (fun k q hq => hk q.1 (vl_Pr hP k q hq).lt (vl_nA hP hD hq)))) (va_D.app (hD1.weaken (fun k q _ h => hF q.1 h)) (vl_Dr hD) (fun i j x y hi hj e0 => vl_nA hP hD hj (e0 ▸ hD1.2 i x hi))) hS1
/-- a call on the second world, the first stays -/
theorem x_law2 {S : Type} {post : Int32 → S → Prop} {wn : S → va_W} (hr : va_Run p l e R s m args below meth c H locs cells slots 0 0 (F0 m pc ls st0) rest (va_Qi post (fun u => PosW D tys (va_A w2 H.size) (wn u)) (va_A w2 H.size) a) (va_A w2 H.size)) (hP : va_P D vwCl (w1 ++ w2) H) (hD : va_D A (w1 ++ w2)) (hS : va_S A H0 H locs) (hA : ∀ q, H0.size ≤ q → A q)
    (kk : ∀ (r : Int32) (u : S) (H1 : Heap) (locs1 : List Loc), post r u → va_P D vwCl (w1 ++ wn u) H1 → va_D A (w1 ++ wn u) → va_S A H0 H1 locs1 → W p l e R s m args below meth c H1 locs1 cells slots Q (F0 m (pc + 3) ls (.int r :: rest))) : W p l e R s m args below meth c H locs cells slots Q (F0 m pc ls st0) := by
  have hF := x_free (vl_Dr hD) hS hA
  refine va_calli hr hS (fun q _ h => hF q h) hF (fun r u t H1 locs1 ht hvm hw hB hz hk hS1 => ?_)
  obtain ⟨hP1, hK1, hD1⟩ := hB
  rw [ht] at hP1
  refine kk r u H1 locs1 hw (va_P.app ((vl_Pl hP).kept (fun k q hq => hk q.1 (vl_Pl hP k q hq).lt (vl_nB hP hD hq))) hP1) (va_D.app (vl_Dl hD) (hD1.weaken (fun k q _ h => hF q.1 h)) (fun i j x y hi hj e0 => vl_nB hP hD hi (e0 ▸ hD1.2 j y hj))) hS1
/-- a constructor's call on the second world, the first stays -/
theorem x_lawv {S : Type} {post : S → Prop} {wn : S → va_W} (hr : va_Run p l e R s m args below meth c H locs cells slots mc ms (F0 m pc ls st0) rest (va_Qv post (fun u => PosW D tys (va_A w2 H.size) (wn u)) (va_A w2 H.size) a) (va_A w2 H.size)) (hP : va_P D vwCl (w1 ++ w2) H) (hD : va_D A (w1 ++ w2)) (hS : va_S A H0 H locs) (hA : ∀ q, H0.size ≤ q → A q)
    (kk : ∀ (u : S) (H1 : Heap) (locs1 : List Loc), post u → va_P D vwCl (w1 ++ wn u) H1 → va_D A (w1 ++ wn u) → va_S A H0 H1 locs1 → W p l e R s m args below meth c H1 locs1 (cells + mc) (slots + ms) Q (F0 m (pc + 3) ls rest)) : W p l e R s m args below meth c H locs cells slots Q (F0 m pc ls st0) := by
  have hF := x_free (vl_Dr hD) hS hA
  refine va_callv hr hS (fun q _ h => hF q h) hF (fun u t H1 locs1 ht hvm hw hB hz hk hS1 => ?_)
  obtain ⟨hP1, hK1, hD1⟩ := hB
  rw [ht] at hP1
  refine kk u H1 locs1 hw (va_P.app ((vl_Pl hP).kept (fun k q hq => hk q.1 (vl_Pl hP k q hq).lt (vl_nB hP hD hq))) hP1) (va_D.app (vl_Dl hD) (hD1.weaken (fun k q _ h => hF q.1 h)) (fun i j x y hi hj e0 => vl_nB hP hD hi (e0 ▸ hD1.2 j y hj))) hS1
end XJ
theorem o_dec_2 (n : Nat) (q : Nat → pV) (fb : Nat) (a b c : Int32) : (o_dec n q fb a b c).2 = (n, q, fb) := by
  unfold o_dec
  split <;> rfl
theorem o_act_2 (n : Nat) (q : Nat → pV) (fb : Nat) (a b c : Int32) : (o_act n q fb a b c).2 = (n, q, fb) := by
  unfold o_act
  split <;> rfl
theorem o_ded_2 (n : Nat) (q : Nat → pV) (fb : Nat) (a : Int32) : (o_ded n q fb a).2 = (n, q, fb) := by
  unfold o_ded
  split
  · rfl
  · split <;> rfl
theorem o_hav_2 (n : Nat) (q : Nat → pV) (fb : Nat) (a : Int32) : (o_hav n q fb a).2 = (n, q, fb) := by
  unfold o_hav
  exact Eq.refl _
theorem o_use_2 (n : Nat) (q : Nat → pV) (fb : Nat) (a : Int32) : (o_use n q fb a).2 = (n, q, fb) := by
  unfold o_use
  split <;> rfl
theorem o_wit_2 (n : Nat) (q : Nat → pV) (fb : Nat) (a : Int32) : (o_wit n q fb a).2 = (n, q, fb) := by
  unfold o_wit
  split
  · rfl
  · split <;> rfl
theorem x_len5 {L i : Nat} (hL : L ≤ 320) (hi : i ≤ 2000) (h : ¬ nI L - nI 5 < nI i) : i + 5 ≤ L := by
  rcases Nat.lt_or_ge L 5 with z | z
  · refine absurd ?_ h
    have h2 : nI L - nI 5 < 0 := pk_sneg (by decide) z
    have h3 := nI_pos (n := i) (by omega)
    rw [Int32.lt_iff_toInt_lt] at h2 h3 ⊢
    omega
  · rw [pk_sub z, nI_ltI (by omega) (by omega)] at h
    omega
/-- the addresses of the cells that the constructors make -/
def adT (h0 q2 q3 q4 q5 q6 q7 q11 q12 q13 q14 : Nat) : Nat → Nat
  | 0 => h0
  | 2 => q2
  | 3 => q3
  | 4 => q4
  | 5 => q5
  | 6 => q6
  | 7 => q7
  | 11 => q11
  | 12 => q12
  | 13 => q13
  | _ => q14
def adM (h0 q1 q2 q3 : Nat) : Nat → Nat
  | 0 => h0
  | 1 => q1
  | 2 => q2
  | _ => q3
abbrev z_ra : Nat → Nat → Int32 := fun _ _ => 0
abbrev z_f : Nat → Int32 := fun _ => 0
abbrev z_R : pR := (z_ra, 0, 0, 0, z_f, z_f, z_f, z_f)
theorem p_IT_0 (q : Nat → pV) : p_IT 0 q 0 z_ra 0 0 0 z_f z_f z_f z_f := ⟨⟨by decide, by decide, fun i h => absurd h (Nat.not_lt_zero i)⟩, fun i h => absurd h (Nat.not_lt_zero i), Or.inl rfl⟩
theorem p_IM_0 (q : Nat → pV) : p_IM 0 q 0 z_ra := ⟨⟨by decide, by decide, fun i h => absurd h (Nat.not_lt_zero i)⟩, fun i h => absurd h (Nat.not_lt_zero i)⟩
end
section
set_option maxHeartbeats 4000000 in
set_option maxRecDepth 100000 in
/-- PolicyTableModel() -/
theorem m1_init (l : Launch) (dC : Nat → ClassId) (dI : Nat → Nat → Nat) (cI : ClassId) (h0 sz : Nat) : Met l yX1_init (ws_ yX1_init cX1_init 1 none) { frames := 1, cells := 3, slots := 36, locals := 12 } (va_Pc [.ref h0] (PreW (dC, dI) (tyM cI) ([(h0, .inr (1, [.int 0, .null, .null, .null, .int 0]))]) sz)) (va_Qv (fun (u : Nat → Nat) => u 0 = h0) (fun (u : Nat → Nat) => PosW (dC, dI) (tyM cI) (va_A ([(h0, .inr (1, [.int 0, .null, .null, .null, .int 0]))]) sz) (WM u cI 0 0 z_ra)) (va_A ([(h0, .inr (1, [.int 0, .null, .null, .null, .int 0]))]) sz)) 3 36 (va_A ([(h0, .inr (1, [.int 0, .null, .null, .null, .int 0]))]) sz) := by
  refine Met.ofW (cc := cX1_init) (maxL := 1) (ret := none) (by decide) rfl ?_
  intro p e s m args below meth c s₁ B hml hv
  obtain ⟨rfl, hsz, hP, hK, hD0⟩ := hv
  have hx := B.exec
  have hb := B.bytes
  have hr := B.returns
  have hts := atoms_spec (ws := (ws_ yX1_init cX1_init 1 none)) B.pre
  have hts : ∀ w ∈ lw_all, w.before _ s = true := fun w h => hts w (List.mem_cons_of_mem _ h)
  have hown : s.vm.findClass RX1 = some m.cls := findClass_of_methodNamed B.named
  have hlocks := B.notSynchronized
  have hin : meth.name = "<init>" := (name_of_methodNamed B.named B.method).1
  subst hsz
  have hD := hD0.self (sz := s.heap.size)
  generalize hAe : va_A ([(h0, .inr (1, [.int 0, .null, .null, .null, .int 0]))]) s.heap.size = A at hD ⊢
  have hA : ∀ q : Nat, s.heap.size ≤ q → A q := fun q h => by rw [← hAe]; exact Or.inr h
  have hS : va_S A s.heap s.heap [] := va_S.rf
  have hP : va_P (dC, dI) vwCl ([(h0, .inr (1, [.int 0, .null, .null, .null, .int 0]))]) s.heap := hP
  have hl := lv_entry ([.ref h0]) (n := 1) (Nat.le_of_ble_eq_true rfl)
  rw [lg_entry_eq]
  generalize (lg_sl ([.ref h0]) ++ List.replicate (1 - (lg_sl ([.ref h0])).length) Slot.unset).toArray = ls at hl ⊢
  have hl : lv_has ls 1 [(0, .ref h0)] := hl
  refine lv_aload_n hx hb dX1_init_0 rfl (lv_at hl 0 rfl) ?_
  refine W.objInit hx hb hown (hts _ q168) (hts _ q25) (hts _ q26) rfl (by rw [hml]; exact hl.1) rfl dX1_init_1 (Nat.le_of_ble_eq_true rfl) (Nat.le_of_ble_eq_true rfl) ?_
  refine W.eq (g2 := F0 m 4 ls []) rfl ?_
  refine lv_aload_n hx hb dX1_init_4 rfl (lv_at hl 0 rfl) ?_
  refine lv_bipush (v := (nI 12)) hx hb dX1_init_5 (by decide) ?_
  refine x_newa (atype := .int) (ty := .int) (a0 := (12, .inl z_f)) hx hb (hts _ q73) rfl hK hP hD hS hA 0 rfl (fun _ h => h) (fun _ => rfl) (by decide) (by decide) (by decide) (Nat.le_of_ble_eq_true rfl) (Nat.le_of_ble_eq_true rfl) dX1_init_7 (fun a1 H hP hD hS => ?_)
  refine W.widen (k := 1) (n := 12) (Nat.le_of_ble_eq_true rfl) (Nat.le_of_ble_eq_true rfl) ?_
  have hP : va_P (dC, dI) vwCl ([(h0, .inr (1, [.int 0, .null, .null, .null, .int 0])), (a1, .inl (cI, 12, .inl z_f))]) H := hP
  have hD : va_D A ([(h0, .inr (1, [.int 0, .null, .null, .null, .int 0])), (a1, .inl (cI, 12, .inl z_f))]) := hD
  refine x_finM (v := .ref a1) (ty := .array .int) hx hb hts hown hK hP hD hS 1 (by decide) q170 rfl rfl hin (by decide +kernel) rfl rfl (Nat.le_of_ble_eq_true rfl) dX1_init_9 (fun H locs hP hD hS => ?_)
  have hP : va_P (dC, dI) vwCl ([(h0, .inr (1, [.int 0, .ref a1, .null, .null, .int 0])), (a1, .inl (cI, 12, .inl z_f))]) H := hP
  have hD : va_D A ([(h0, .inr (1, [.int 0, .ref a1, .null, .null, .int 0])), (a1, .inl (cI, 12, .inl z_f))]) := hD
  refine lv_aload_n hx hb dX1_init_12 rfl (lv_at hl 0 rfl) ?_
  refine lv_bipush (v := (nI 12)) hx hb dX1_init_13 (by decide) ?_
  refine x_newa (atype := .int) (ty := .int) (a0 := (12, .inl z_f)) hx hb (hts _ q73) rfl hK hP hD hS hA 0 rfl (fun _ h => h) (fun _ => rfl) (by decide) (by decide) (by decide) (Nat.le_of_ble_eq_true rfl) (Nat.le_of_ble_eq_true rfl) dX1_init_15 (fun a2 H hP hD hS => ?_)
  refine W.widen (k := 2) (n := 24) (Nat.le_of_ble_eq_true rfl) (Nat.le_of_ble_eq_true rfl) ?_
  have hP : va_P (dC, dI) vwCl ([(h0, .inr (1, [.int 0, .ref a1, .null, .null, .int 0])), (a1, .inl (cI, 12, .inl z_f)), (a2, .inl (cI, 12, .inl z_f))]) H := hP
  have hD : va_D A ([(h0, .inr (1, [.int 0, .ref a1, .null, .null, .int 0])), (a1, .inl (cI, 12, .inl z_f)), (a2, .inl (cI, 12, .inl z_f))]) := hD
  refine x_finM (v := .ref a2) (ty := .array .int) hx hb hts hown hK hP hD hS 2 (by decide) q171 rfl rfl hin (by decide +kernel) rfl rfl (Nat.le_of_ble_eq_true rfl) dX1_init_17 (fun H locs hP hD hS => ?_)
  have hP : va_P (dC, dI) vwCl ([(h0, .inr (1, [.int 0, .ref a1, .ref a2, .null, .int 0])), (a1, .inl (cI, 12, .inl z_f)), (a2, .inl (cI, 12, .inl z_f))]) H := hP
  have hD : va_D A ([(h0, .inr (1, [.int 0, .ref a1, .ref a2, .null, .int 0])), (a1, .inl (cI, 12, .inl z_f)), (a2, .inl (cI, 12, .inl z_f))]) := hD
  refine lv_aload_n hx hb dX1_init_20 rfl (lv_at hl 0 rfl) ?_
  refine lv_bipush (v := (nI 12)) hx hb dX1_init_21 (by decide) ?_
  refine x_newa (atype := .int) (ty := .int) (a0 := (12, .inl z_f)) hx hb (hts _ q73) rfl hK hP hD hS hA 0 rfl (fun _ h => h) (fun _ => rfl) (by decide) (by decide) (by decide) (Nat.le_of_ble_eq_true rfl) (Nat.le_of_ble_eq_true rfl) dX1_init_23 (fun a3 H hP hD hS => ?_)
  refine W.widen (k := 3) (n := 36) (Nat.le_of_ble_eq_true rfl) (Nat.le_of_ble_eq_true rfl) ?_
  have hP : va_P (dC, dI) vwCl ([(h0, .inr (1, [.int 0, .ref a1, .ref a2, .null, .int 0])), (a1, .inl (cI, 12, .inl z_f)), (a2, .inl (cI, 12, .inl z_f)), (a3, .inl (cI, 12, .inl z_f))]) H := hP
  have hD : va_D A ([(h0, .inr (1, [.int 0, .ref a1, .ref a2, .null, .int 0])), (a1, .inl (cI, 12, .inl z_f)), (a2, .inl (cI, 12, .inl z_f)), (a3, .inl (cI, 12, .inl z_f))]) := hD
  refine x_finM (v := .ref a3) (ty := .array .int) hx hb hts hown hK hP hD hS 3 (by decide) q172 rfl rfl hin (by decide +kernel) rfl rfl (Nat.le_of_ble_eq_true rfl) dX1_init_25 (fun H locs hP hD hS => ?_)
  have hP : va_P (dC, dI) vwCl ([(h0, .inr (1, [.int 0, .ref a1, .ref a2, .ref a3, .int 0])), (a1, .inl (cI, 12, .inl z_f)), (a2, .inl (cI, 12, .inl z_f)), (a3, .inl (cI, 12, .inl z_f))]) H := hP
  have hD : va_D A ([(h0, .inr (1, [.int 0, .ref a1, .ref a2, .ref a3, .int 0])), (a1, .inl (cI, 12, .inl z_f)), (a2, .inl (cI, 12, .inl z_f)), (a3, .inl (cI, 12, .inl z_f))]) := hD
  exact W.vret hx hb hr (fun t ht hW => ⟨⟨adM h0 a1 a2 a3, rfl, rfl, by rw [ht]; exact hP, va_K.moved hW.alike hK, hD⟩, hS.F ht⟩) hS.2.2 dX1_init_28
set_option maxHeartbeats 4000000 in
set_option maxRecDepth 100000 in
/-- PolicyTable() -/
theorem m0_init (l : Launch) (dC : Nat → ClassId) (dI : Nat → Nat → Nat) (cI cB : ClassId) (h0 sz : Nat) : Met l yX0_init (ws_ yX0_init cX0_init 1 none) { frames := 1, cells := 10, slots := 5534, locals := 12 } (va_Pc [.ref h0] (PreW (dC, dI) (tyT cI cB) ([(h0, .inr (0, [.int 0, .int 0, .null, .null, .null, .null, .null, .null, .int 0, .int 0, .int 0, .null, .null, .null, .null]))]) sz)) (va_Qv (fun (u : Nat → Nat) => u 0 = h0) (fun (u : Nat → Nat) => PosW (dC, dI) (tyT cI cB) (va_A ([(h0, .inr (0, [.int 0, .int 0, .null, .null, .null, .null, .null, .null, .int 0, .int 0, .int 0, .null, .null, .null, .null]))]) sz) (WT u cI cB 0 0 z_ra 0 0 0 z_f z_f z_f z_f)) (va_A ([(h0, .inr (0, [.int 0, .int 0, .null, .null, .null, .null, .null, .null, .int 0, .int 0, .int 0, .null, .null, .null, .null]))]) sz)) 10 5534 (va_A ([(h0, .inr (0, [.int 0, .int 0, .null, .null, .null, .null, .null, .null, .int 0, .int 0, .int 0, .null, .null, .null, .null]))]) sz) := by
  refine Met.ofW (cc := cX0_init) (maxL := 1) (ret := none) (by decide) rfl ?_
  intro p e s m args below meth c s₁ B hml hv
  obtain ⟨rfl, hsz, hP, hK, hD0⟩ := hv
  have hx := B.exec
  have hb := B.bytes
  have hr := B.returns
  have hts := atoms_spec (ws := (ws_ yX0_init cX0_init 1 none)) B.pre
  have hts : ∀ w ∈ lw_all, w.before _ s = true := fun w h => hts w (List.mem_cons_of_mem _ h)
  have hown : s.vm.findClass RX0 = some m.cls := findClass_of_methodNamed B.named
  have hlocks := B.notSynchronized
  have hin : meth.name = "<init>" := (name_of_methodNamed B.named B.method).1
  subst hsz
  have hD := hD0.self (sz := s.heap.size)
  generalize hAe : va_A ([(h0, .inr (0, [.int 0, .int 0, .null, .null, .null, .null, .null, .null, .int 0, .int 0, .int 0, .null, .null, .null, .null]))]) s.heap.size = A at hD ⊢
  have hA : ∀ q : Nat, s.heap.size ≤ q → A q := fun q h => by rw [← hAe]; exact Or.inr h
  have hS : va_S A s.heap s.heap [] := va_S.rf
  have hP : va_P (dC, dI) vwCl ([(h0, .inr (0, [.int 0, .int 0, .null, .null, .null, .null, .null, .null, .int 0, .int 0, .int 0, .null, .null, .null, .null]))]) s.heap := hP
  have hl := lv_entry ([.ref h0]) (n := 1) (Nat.le_of_ble_eq_true rfl)
  rw [lg_entry_eq]
  generalize (lg_sl ([.ref h0]) ++ List.replicate (1 - (lg_sl ([.ref h0])).length) Slot.unset).toArray = ls at hl ⊢
  have hl : lv_has ls 1 [(0, .ref h0)] := hl
  refine lv_aload_n hx hb dX0_init_0 rfl (lv_at hl 0 rfl) ?_
  refine W.objInit hx hb hown (hts _ q24) (hts _ q25) (hts _ q26) rfl (by rw [hml]; exact hl.1) rfl dX0_init_1 (Nat.le_of_ble_eq_true rfl) (Nat.le_of_ble_eq_true rfl) ?_
  refine W.eq (g2 := F0 m 4 ls []) rfl ?_
  refine lv_aload_n hx hb dX0_init_4 rfl (lv_at hl 0 rfl) ?_
  refine lv_bipush (v := (nI 12)) hx hb dX0_init_5 (by decide) ?_
  refine x_newa (atype := .int) (ty := .int) (a0 := (12, .inl z_f)) hx hb (hts _ q73) rfl hK hP hD hS hA 0 rfl (fun _ h => h) (fun _ => rfl) (by decide) (by decide) (by decide) (Nat.le_of_ble_eq_true rfl) (Nat.le_of_ble_eq_true rfl) dX0_init_7 (fun a2 H hP hD hS => ?_)
  refine W.widen (k := 1) (n := 12) (Nat.le_of_ble_eq_true rfl) (Nat.le_of_ble_eq_true rfl) ?_
  have hP : va_P (dC, dI) vwCl ([(h0, .inr (0, [.int 0, .int 0, .null, .null, .null, .null, .null, .null, .int 0, .int 0, .int 0, .null, .null, .null, .null])), (a2, .inl (cI, 12, .inl z_f))]) H := hP
  have hD : va_D A ([(h0, .inr (0, [.int 0, .int 0, .null, .null, .null, .null, .null, .null, .int 0, .int 0, .int 0, .null, .null, .null, .null])), (a2, .inl (cI, 12, .inl z_f))]) := hD
  refine x_finT (v := .ref a2) (ty := .array .int) hx hb hts hown hK hP hD hS 2 (by decide) q29 rfl rfl hin (by decide +kernel) rfl rfl (Nat.le_of_ble_eq_true rfl) dX0_init_9 (fun H locs hP hD hS => ?_)
  have hP : va_P (dC, dI) vwCl ([(h0, .inr (0, [.int 0, .int 0, .ref a2, .null, .null, .null, .null, .null, .int 0, .int 0, .int 0, .null, .null, .null, .null])), (a2, .inl (cI, 12, .inl z_f))]) H := hP
  have hD : va_D A ([(h0, .inr (0, [.int 0, .int 0, .ref a2, .null, .null, .null, .null, .null, .int 0, .int 0, .int 0, .null, .null, .null, .null])), (a2, .inl (cI, 12, .inl z_f))]) := hD
  refine lv_aload_n hx hb dX0_init_12 rfl (lv_at hl 0 rfl) ?_
  refine lv_bipush (v := (nI 12)) hx hb dX0_init_13 (by decide) ?_
  refine x_newa (atype := .int) (ty := .int) (a0 := (12, .inl z_f)) hx hb (hts _ q73) rfl hK hP hD hS hA 0 rfl (fun _ h => h) (fun _ => rfl) (by decide) (by decide) (by decide) (Nat.le_of_ble_eq_true rfl) (Nat.le_of_ble_eq_true rfl) dX0_init_15 (fun a3 H hP hD hS => ?_)
  refine W.widen (k := 2) (n := 24) (Nat.le_of_ble_eq_true rfl) (Nat.le_of_ble_eq_true rfl) ?_
  have hP : va_P (dC, dI) vwCl ([(h0, .inr (0, [.int 0, .int 0, .ref a2, .null, .null, .null, .null, .null, .int 0, .int 0, .int 0, .null, .null, .null, .null])), (a2, .inl (cI, 12, .inl z_f)), (a3, .inl (cI, 12, .inl z_f))]) H := hP
  have hD : va_D A ([(h0, .inr (0, [.int 0, .int 0, .ref a2, .null, .null, .null, .null, .null, .int 0, .int 0, .int 0, .null, .null, .null, .null])), (a2, .inl (cI, 12, .inl z_f)), (a3, .inl (cI, 12, .inl z_f))]) := hD
  refine x_finT (v := .ref a3) (ty := .array .int) hx hb hts hown hK hP hD hS 3 (by decide) q30 rfl rfl hin (by decide +kernel) rfl rfl (Nat.le_of_ble_eq_true rfl) dX0_init_17 (fun H locs hP hD hS => ?_)
  have hP : va_P (dC, dI) vwCl ([(h0, .inr (0, [.int 0, .int 0, .ref a2, .ref a3, .null, .null, .null, .null, .int 0, .int 0, .int 0, .null, .null, .null, .null])), (a2, .inl (cI, 12, .inl z_f)), (a3, .inl (cI, 12, .inl z_f))]) H := hP
  have hD : va_D A ([(h0, .inr (0, [.int 0, .int 0, .ref a2, .ref a3, .null, .null, .null, .null, .int 0, .int 0, .int 0, .null, .null, .null, .null])), (a2, .inl (cI, 12, .inl z_f)), (a3, .inl (cI, 12, .inl z_f))]) := hD
  refine lv_aload_n hx hb dX0_init_20 rfl (lv_at hl 0 rfl) ?_
  refine lv_bipush (v := (nI 12)) hx hb dX0_init_21 (by decide) ?_
  refine x_newa (atype := .int) (ty := .int) (a0 := (12, .inl z_f)) hx hb (hts _ q73) rfl hK hP hD hS hA 0 rfl (fun _ h => h) (fun _ => rfl) (by decide) (by decide) (by decide) (Nat.le_of_ble_eq_true rfl) (Nat.le_of_ble_eq_true rfl) dX0_init_23 (fun a4 H hP hD hS => ?_)
  refine W.widen (k := 3) (n := 36) (Nat.le_of_ble_eq_true rfl) (Nat.le_of_ble_eq_true rfl) ?_
  have hP : va_P (dC, dI) vwCl ([(h0, .inr (0, [.int 0, .int 0, .ref a2, .ref a3, .null, .null, .null, .null, .int 0, .int 0, .int 0, .null, .null, .null, .null])), (a2, .inl (cI, 12, .inl z_f)), (a3, .inl (cI, 12, .inl z_f)), (a4, .inl (cI, 12, .inl z_f))]) H := hP
  have hD : va_D A ([(h0, .inr (0, [.int 0, .int 0, .ref a2, .ref a3, .null, .null, .null, .null, .int 0, .int 0, .int 0, .null, .null, .null, .null])), (a2, .inl (cI, 12, .inl z_f)), (a3, .inl (cI, 12, .inl z_f)), (a4, .inl (cI, 12, .inl z_f))]) := hD
  refine x_finT (v := .ref a4) (ty := .array .int) hx hb hts hown hK hP hD hS 4 (by decide) q31 rfl rfl hin (by decide +kernel) rfl rfl (Nat.le_of_ble_eq_true rfl) dX0_init_25 (fun H locs hP hD hS => ?_)
  have hP : va_P (dC, dI) vwCl ([(h0, .inr (0, [.int 0, .int 0, .ref a2, .ref a3, .ref a4, .null, .null, .null, .int 0, .int 0, .int 0, .null, .null, .null, .null])), (a2, .inl (cI, 12, .inl z_f)), (a3, .inl (cI, 12, .inl z_f)), (a4, .inl (cI, 12, .inl z_f))]) H := hP
  have hD : va_D A ([(h0, .inr (0, [.int 0, .int 0, .ref a2, .ref a3, .ref a4, .null, .null, .null, .int 0, .int 0, .int 0, .null, .null, .null, .null])), (a2, .inl (cI, 12, .inl z_f)), (a3, .inl (cI, 12, .inl z_f)), (a4, .inl (cI, 12, .inl z_f))]) := hD
  refine lv_aload_n hx hb dX0_init_28 rfl (lv_at hl 0 rfl) ?_
  refine lv_bipush (v := (nI 12)) hx hb dX0_init_29 (by decide) ?_
  refine x_newa (atype := .int) (ty := .int) (a0 := (12, .inl z_f)) hx hb (hts _ q73) rfl hK hP hD hS hA 0 rfl (fun _ h => h) (fun _ => rfl) (by decide) (by decide) (by decide) (Nat.le_of_ble_eq_true rfl) (Nat.le_of_ble_eq_true rfl) dX0_init_31 (fun a5 H hP hD hS => ?_)
  refine W.widen (k := 4) (n := 48) (Nat.le_of_ble_eq_true rfl) (Nat.le_of_ble_eq_true rfl) ?_
  have hP : va_P (dC, dI) vwCl ([(h0, .inr (0, [.int 0, .int 0, .ref a2, .ref a3, .ref a4, .null, .null, .null, .int 0, .int 0, .int 0, .null, .null, .null, .null])), (a2, .inl (cI, 12, .inl z_f)), (a3, .inl (cI, 12, .inl z_f)), (a4, .inl (cI, 12, .inl z_f)), (a5, .inl (cI, 12, .inl z_f))]) H := hP
  have hD : va_D A ([(h0, .inr (0, [.int 0, .int 0, .ref a2, .ref a3, .ref a4, .null, .null, .null, .int 0, .int 0, .int 0, .null, .null, .null, .null])), (a2, .inl (cI, 12, .inl z_f)), (a3, .inl (cI, 12, .inl z_f)), (a4, .inl (cI, 12, .inl z_f)), (a5, .inl (cI, 12, .inl z_f))]) := hD
  refine x_finT (v := .ref a5) (ty := .array .int) hx hb hts hown hK hP hD hS 5 (by decide) q32 rfl rfl hin (by decide +kernel) rfl rfl (Nat.le_of_ble_eq_true rfl) dX0_init_33 (fun H locs hP hD hS => ?_)
  have hP : va_P (dC, dI) vwCl ([(h0, .inr (0, [.int 0, .int 0, .ref a2, .ref a3, .ref a4, .ref a5, .null, .null, .int 0, .int 0, .int 0, .null, .null, .null, .null])), (a2, .inl (cI, 12, .inl z_f)), (a3, .inl (cI, 12, .inl z_f)), (a4, .inl (cI, 12, .inl z_f)), (a5, .inl (cI, 12, .inl z_f))]) H := hP
  have hD : va_D A ([(h0, .inr (0, [.int 0, .int 0, .ref a2, .ref a3, .ref a4, .ref a5, .null, .null, .int 0, .int 0, .int 0, .null, .null, .null, .null])), (a2, .inl (cI, 12, .inl z_f)), (a3, .inl (cI, 12, .inl z_f)), (a4, .inl (cI, 12, .inl z_f)), (a5, .inl (cI, 12, .inl z_f))]) := hD
  refine lv_aload_n hx hb dX0_init_36 rfl (lv_at hl 0 rfl) ?_
  refine lv_bipush (v := (nI 12)) hx hb dX0_init_37 (by decide) ?_
  refine x_newa (atype := .int) (ty := .int) (a0 := (12, .inl z_f)) hx hb (hts _ q73) rfl hK hP hD hS hA 0 rfl (fun _ h => h) (fun _ => rfl) (by decide) (by decide) (by decide) (Nat.le_of_ble_eq_true rfl) (Nat.le_of_ble_eq_true rfl) dX0_init_39 (fun a6 H hP hD hS => ?_)
  refine W.widen (k := 5) (n := 60) (Nat.le_of_ble_eq_true rfl) (Nat.le_of_ble_eq_true rfl) ?_
  have hP : va_P (dC, dI) vwCl ([(h0, .inr (0, [.int 0, .int 0, .ref a2, .ref a3, .ref a4, .ref a5, .null, .null, .int 0, .int 0, .int 0, .null, .null, .null, .null])), (a2, .inl (cI, 12, .inl z_f)), (a3, .inl (cI, 12, .inl z_f)), (a4, .inl (cI, 12, .inl z_f)), (a5, .inl (cI, 12, .inl z_f)), (a6, .inl (cI, 12, .inl z_f))]) H := hP
  have hD : va_D A ([(h0, .inr (0, [.int 0, .int 0, .ref a2, .ref a3, .ref a4, .ref a5, .null, .null, .int 0, .int 0, .int 0, .null, .null, .null, .null])), (a2, .inl (cI, 12, .inl z_f)), (a3, .inl (cI, 12, .inl z_f)), (a4, .inl (cI, 12, .inl z_f)), (a5, .inl (cI, 12, .inl z_f)), (a6, .inl (cI, 12, .inl z_f))]) := hD
  refine x_finT (v := .ref a6) (ty := .array .int) hx hb hts hown hK hP hD hS 6 (by decide) q33 rfl rfl hin (by decide +kernel) rfl rfl (Nat.le_of_ble_eq_true rfl) dX0_init_41 (fun H locs hP hD hS => ?_)
  have hP : va_P (dC, dI) vwCl ([(h0, .inr (0, [.int 0, .int 0, .ref a2, .ref a3, .ref a4, .ref a5, .ref a6, .null, .int 0, .int 0, .int 0, .null, .null, .null, .null])), (a2, .inl (cI, 12, .inl z_f)), (a3, .inl (cI, 12, .inl z_f)), (a4, .inl (cI, 12, .inl z_f)), (a5, .inl (cI, 12, .inl z_f)), (a6, .inl (cI, 12, .inl z_f))]) H := hP
  have hD : va_D A ([(h0, .inr (0, [.int 0, .int 0, .ref a2, .ref a3, .ref a4, .ref a5, .ref a6, .null, .int 0, .int 0, .int 0, .null, .null, .null, .null])), (a2, .inl (cI, 12, .inl z_f)), (a3, .inl (cI, 12, .inl z_f)), (a4, .inl (cI, 12, .inl z_f)), (a5, .inl (cI, 12, .inl z_f)), (a6, .inl (cI, 12, .inl z_f))]) := hD
  refine lv_aload_n hx hb dX0_init_44 rfl (lv_at hl 0 rfl) ?_
  refine lv_bipush (v := (nI 12)) hx hb dX0_init_45 (by decide) ?_
  refine x_newa (atype := .int) (ty := .int) (a0 := (12, .inl z_f)) hx hb (hts _ q73) rfl hK hP hD hS hA 0 rfl (fun _ h => h) (fun _ => rfl) (by decide) (by decide) (by decide) (Nat.le_of_ble_eq_true rfl) (Nat.le_of_ble_eq_true rfl) dX0_init_47 (fun a7 H hP hD hS => ?_)
  refine W.widen (k := 6) (n := 72) (Nat.le_of_ble_eq_true rfl) (Nat.le_of_ble_eq_true rfl) ?_
  have hP : va_P (dC, dI) vwCl ([(h0, .inr (0, [.int 0, .int 0, .ref a2, .ref a3, .ref a4, .ref a5, .ref a6, .null, .int 0, .int 0, .int 0, .null, .null, .null, .null])), (a2, .inl (cI, 12, .inl z_f)), (a3, .inl (cI, 12, .inl z_f)), (a4, .inl (cI, 12, .inl z_f)), (a5, .inl (cI, 12, .inl z_f)), (a6, .inl (cI, 12, .inl z_f)), (a7, .inl (cI, 12, .inl z_f))]) H := hP
  have hD : va_D A ([(h0, .inr (0, [.int 0, .int 0, .ref a2, .ref a3, .ref a4, .ref a5, .ref a6, .null, .int 0, .int 0, .int 0, .null, .null, .null, .null])), (a2, .inl (cI, 12, .inl z_f)), (a3, .inl (cI, 12, .inl z_f)), (a4, .inl (cI, 12, .inl z_f)), (a5, .inl (cI, 12, .inl z_f)), (a6, .inl (cI, 12, .inl z_f)), (a7, .inl (cI, 12, .inl z_f))]) := hD
  refine x_finT (v := .ref a7) (ty := .array .int) hx hb hts hown hK hP hD hS 7 (by decide) q34 rfl rfl hin (by decide +kernel) rfl rfl (Nat.le_of_ble_eq_true rfl) dX0_init_49 (fun H locs hP hD hS => ?_)
  have hP : va_P (dC, dI) vwCl ([(h0, .inr (0, [.int 0, .int 0, .ref a2, .ref a3, .ref a4, .ref a5, .ref a6, .ref a7, .int 0, .int 0, .int 0, .null, .null, .null, .null])), (a2, .inl (cI, 12, .inl z_f)), (a3, .inl (cI, 12, .inl z_f)), (a4, .inl (cI, 12, .inl z_f)), (a5, .inl (cI, 12, .inl z_f)), (a6, .inl (cI, 12, .inl z_f)), (a7, .inl (cI, 12, .inl z_f))]) H := hP
  have hD : va_D A ([(h0, .inr (0, [.int 0, .int 0, .ref a2, .ref a3, .ref a4, .ref a5, .ref a6, .ref a7, .int 0, .int 0, .int 0, .null, .null, .null, .null])), (a2, .inl (cI, 12, .inl z_f)), (a3, .inl (cI, 12, .inl z_f)), (a4, .inl (cI, 12, .inl z_f)), (a5, .inl (cI, 12, .inl z_f)), (a6, .inl (cI, 12, .inl z_f)), (a7, .inl (cI, 12, .inl z_f))]) := hD
  refine lv_aload_n hx hb dX0_init_52 rfl (lv_at hl 0 rfl) ?_
  refine lv_bipush (v := (nI 27)) hx hb dX0_init_53 (by decide) ?_
  refine x_newa (atype := .int) (ty := .int) (a0 := (27, .inl z_f)) hx hb (hts _ q73) rfl hK hP hD hS hA 0 rfl (fun _ h => h) (fun _ => rfl) (by decide) (by decide) (by decide) (Nat.le_of_ble_eq_true rfl) (Nat.le_of_ble_eq_true rfl) dX0_init_55 (fun a11 H hP hD hS => ?_)
  refine W.widen (k := 7) (n := 99) (Nat.le_of_ble_eq_true rfl) (Nat.le_of_ble_eq_true rfl) ?_
  have hP : va_P (dC, dI) vwCl ([(h0, .inr (0, [.int 0, .int 0, .ref a2, .ref a3, .ref a4, .ref a5, .ref a6, .ref a7, .int 0, .int 0, .int 0, .null, .null, .null, .null])), (a2, .inl (cI, 12, .inl z_f)), (a3, .inl (cI, 12, .inl z_f)), (a4, .inl (cI, 12, .inl z_f)), (a5, .inl (cI, 12, .inl z_f)), (a6, .inl (cI, 12, .inl z_f)), (a7, .inl (cI, 12, .inl z_f)), (a11, .inl (cI, 27, .inl z_f))]) H := hP
  have hD : va_D A ([(h0, .inr (0, [.int 0, .int 0, .ref a2, .ref a3, .ref a4, .ref a5, .ref a6, .ref a7, .int 0, .int 0, .int 0, .null, .null, .null, .null])), (a2, .inl (cI, 12, .inl z_f)), (a3, .inl (cI, 12, .inl z_f)), (a4, .inl (cI, 12, .inl z_f)), (a5, .inl (cI, 12, .inl z_f)), (a6, .inl (cI, 12, .inl z_f)), (a7, .inl (cI, 12, .inl z_f)), (a11, .inl (cI, 27, .inl z_f))]) := hD
  refine x_finT (v := .ref a11) (ty := .array .int) hx hb hts hown hK hP hD hS 11 (by decide) q38 rfl rfl hin (by decide +kernel) rfl rfl (Nat.le_of_ble_eq_true rfl) dX0_init_57 (fun H locs hP hD hS => ?_)
  have hP : va_P (dC, dI) vwCl ([(h0, .inr (0, [.int 0, .int 0, .ref a2, .ref a3, .ref a4, .ref a5, .ref a6, .ref a7, .int 0, .int 0, .int 0, .ref a11, .null, .null, .null])), (a2, .inl (cI, 12, .inl z_f)), (a3, .inl (cI, 12, .inl z_f)), (a4, .inl (cI, 12, .inl z_f)), (a5, .inl (cI, 12, .inl z_f)), (a6, .inl (cI, 12, .inl z_f)), (a7, .inl (cI, 12, .inl z_f)), (a11, .inl (cI, 27, .inl z_f))]) H := hP
  have hD : va_D A ([(h0, .inr (0, [.int 0, .int 0, .ref a2, .ref a3, .ref a4, .ref a5, .ref a6, .ref a7, .int 0, .int 0, .int 0, .ref a11, .null, .null, .null])), (a2, .inl (cI, 12, .inl z_f)), (a3, .inl (cI, 12, .inl z_f)), (a4, .inl (cI, 12, .inl z_f)), (a5, .inl (cI, 12, .inl z_f)), (a6, .inl (cI, 12, .inl z_f)), (a7, .inl (cI, 12, .inl z_f)), (a11, .inl (cI, 27, .inl z_f))]) := hD
  refine lv_aload_n hx hb dX0_init_60 rfl (lv_at hl 0 rfl) ?_
  refine lv_bipush (v := (nI 27)) hx hb dX0_init_61 (by decide) ?_
  refine x_newa (atype := .int) (ty := .int) (a0 := (27, .inl z_f)) hx hb (hts _ q73) rfl hK hP hD hS hA 0 rfl (fun _ h => h) (fun _ => rfl) (by decide) (by decide) (by decide) (Nat.le_of_ble_eq_true rfl) (Nat.le_of_ble_eq_true rfl) dX0_init_63 (fun a12 H hP hD hS => ?_)
  refine W.widen (k := 8) (n := 126) (Nat.le_of_ble_eq_true rfl) (Nat.le_of_ble_eq_true rfl) ?_
  have hP : va_P (dC, dI) vwCl ([(h0, .inr (0, [.int 0, .int 0, .ref a2, .ref a3, .ref a4, .ref a5, .ref a6, .ref a7, .int 0, .int 0, .int 0, .ref a11, .null, .null, .null])), (a2, .inl (cI, 12, .inl z_f)), (a3, .inl (cI, 12, .inl z_f)), (a4, .inl (cI, 12, .inl z_f)), (a5, .inl (cI, 12, .inl z_f)), (a6, .inl (cI, 12, .inl z_f)), (a7, .inl (cI, 12, .inl z_f)), (a11, .inl (cI, 27, .inl z_f)), (a12, .inl (cI, 27, .inl z_f))]) H := hP
  have hD : va_D A ([(h0, .inr (0, [.int 0, .int 0, .ref a2, .ref a3, .ref a4, .ref a5, .ref a6, .ref a7, .int 0, .int 0, .int 0, .ref a11, .null, .null, .null])), (a2, .inl (cI, 12, .inl z_f)), (a3, .inl (cI, 12, .inl z_f)), (a4, .inl (cI, 12, .inl z_f)), (a5, .inl (cI, 12, .inl z_f)), (a6, .inl (cI, 12, .inl z_f)), (a7, .inl (cI, 12, .inl z_f)), (a11, .inl (cI, 27, .inl z_f)), (a12, .inl (cI, 27, .inl z_f))]) := hD
  refine x_finT (v := .ref a12) (ty := .array .int) hx hb hts hown hK hP hD hS 12 (by decide) q39 rfl rfl hin (by decide +kernel) rfl rfl (Nat.le_of_ble_eq_true rfl) dX0_init_65 (fun H locs hP hD hS => ?_)
  have hP : va_P (dC, dI) vwCl ([(h0, .inr (0, [.int 0, .int 0, .ref a2, .ref a3, .ref a4, .ref a5, .ref a6, .ref a7, .int 0, .int 0, .int 0, .ref a11, .ref a12, .null, .null])), (a2, .inl (cI, 12, .inl z_f)), (a3, .inl (cI, 12, .inl z_f)), (a4, .inl (cI, 12, .inl z_f)), (a5, .inl (cI, 12, .inl z_f)), (a6, .inl (cI, 12, .inl z_f)), (a7, .inl (cI, 12, .inl z_f)), (a11, .inl (cI, 27, .inl z_f)), (a12, .inl (cI, 27, .inl z_f))]) H := hP
  have hD : va_D A ([(h0, .inr (0, [.int 0, .int 0, .ref a2, .ref a3, .ref a4, .ref a5, .ref a6, .ref a7, .int 0, .int 0, .int 0, .ref a11, .ref a12, .null, .null])), (a2, .inl (cI, 12, .inl z_f)), (a3, .inl (cI, 12, .inl z_f)), (a4, .inl (cI, 12, .inl z_f)), (a5, .inl (cI, 12, .inl z_f)), (a6, .inl (cI, 12, .inl z_f)), (a7, .inl (cI, 12, .inl z_f)), (a11, .inl (cI, 27, .inl z_f)), (a12, .inl (cI, 27, .inl z_f))]) := hD
  refine lv_aload_n hx hb dX0_init_68 rfl (lv_at hl 0 rfl) ?_
  refine lv_sipush (v := (nI 2704)) hx hb dX0_init_69 (by decide) ?_
  refine x_newa (atype := .byte) (ty := .byte) (a0 := (2704, .inl z_f)) hx hb (hts _ q74) rfl hK hP hD hS hA 1 rfl (fun _ h => h) (fun _ => rfl) (by decide) (by decide) (by decide) (Nat.le_of_ble_eq_true rfl) (Nat.le_of_ble_eq_true rfl) dX0_init_72 (fun a13 H hP hD hS => ?_)
  refine W.widen (k := 9) (n := 2830) (Nat.le_of_ble_eq_true rfl) (Nat.le_of_ble_eq_true rfl) ?_
  have hP : va_P (dC, dI) vwCl ([(h0, .inr (0, [.int 0, .int 0, .ref a2, .ref a3, .ref a4, .ref a5, .ref a6, .ref a7, .int 0, .int 0, .int 0, .ref a11, .ref a12, .null, .null])), (a2, .inl (cI, 12, .inl z_f)), (a3, .inl (cI, 12, .inl z_f)), (a4, .inl (cI, 12, .inl z_f)), (a5, .inl (cI, 12, .inl z_f)), (a6, .inl (cI, 12, .inl z_f)), (a7, .inl (cI, 12, .inl z_f)), (a11, .inl (cI, 27, .inl z_f)), (a12, .inl (cI, 27, .inl z_f)), (a13, .inl (cB, 2704, .inl z_f))]) H := hP
  have hD : va_D A ([(h0, .inr (0, [.int 0, .int 0, .ref a2, .ref a3, .ref a4, .ref a5, .ref a6, .ref a7, .int 0, .int 0, .int 0, .ref a11, .ref a12, .null, .null])), (a2, .inl (cI, 12, .inl z_f)), (a3, .inl (cI, 12, .inl z_f)), (a4, .inl (cI, 12, .inl z_f)), (a5, .inl (cI, 12, .inl z_f)), (a6, .inl (cI, 12, .inl z_f)), (a7, .inl (cI, 12, .inl z_f)), (a11, .inl (cI, 27, .inl z_f)), (a12, .inl (cI, 27, .inl z_f)), (a13, .inl (cB, 2704, .inl z_f))]) := hD
  refine x_finT (v := .ref a13) (ty := .array .byte) hx hb hts hown hK hP hD hS 13 (by decide) q40 rfl rfl hin (by decide +kernel) rfl rfl (Nat.le_of_ble_eq_true rfl) dX0_init_74 (fun H locs hP hD hS => ?_)
  have hP : va_P (dC, dI) vwCl ([(h0, .inr (0, [.int 0, .int 0, .ref a2, .ref a3, .ref a4, .ref a5, .ref a6, .ref a7, .int 0, .int 0, .int 0, .ref a11, .ref a12, .ref a13, .null])), (a2, .inl (cI, 12, .inl z_f)), (a3, .inl (cI, 12, .inl z_f)), (a4, .inl (cI, 12, .inl z_f)), (a5, .inl (cI, 12, .inl z_f)), (a6, .inl (cI, 12, .inl z_f)), (a7, .inl (cI, 12, .inl z_f)), (a11, .inl (cI, 27, .inl z_f)), (a12, .inl (cI, 27, .inl z_f)), (a13, .inl (cB, 2704, .inl z_f))]) H := hP
  have hD : va_D A ([(h0, .inr (0, [.int 0, .int 0, .ref a2, .ref a3, .ref a4, .ref a5, .ref a6, .ref a7, .int 0, .int 0, .int 0, .ref a11, .ref a12, .ref a13, .null])), (a2, .inl (cI, 12, .inl z_f)), (a3, .inl (cI, 12, .inl z_f)), (a4, .inl (cI, 12, .inl z_f)), (a5, .inl (cI, 12, .inl z_f)), (a6, .inl (cI, 12, .inl z_f)), (a7, .inl (cI, 12, .inl z_f)), (a11, .inl (cI, 27, .inl z_f)), (a12, .inl (cI, 27, .inl z_f)), (a13, .inl (cB, 2704, .inl z_f))]) := hD
  refine lv_aload_n hx hb dX0_init_77 rfl (lv_at hl 0 rfl) ?_
  refine lv_sipush (v := (nI 2704)) hx hb dX0_init_78 (by decide) ?_
  refine x_newa (atype := .byte) (ty := .byte) (a0 := (2704, .inl z_f)) hx hb (hts _ q74) rfl hK hP hD hS hA 1 rfl (fun _ h => h) (fun _ => rfl) (by decide) (by decide) (by decide) (Nat.le_of_ble_eq_true rfl) (Nat.le_of_ble_eq_true rfl) dX0_init_81 (fun a14 H hP hD hS => ?_)
  refine W.widen (k := 10) (n := 5534) (Nat.le_of_ble_eq_true rfl) (Nat.le_of_ble_eq_true rfl) ?_
  have hP : va_P (dC, dI) vwCl ([(h0, .inr (0, [.int 0, .int 0, .ref a2, .ref a3, .ref a4, .ref a5, .ref a6, .ref a7, .int 0, .int 0, .int 0, .ref a11, .ref a12, .ref a13, .null])), (a2, .inl (cI, 12, .inl z_f)), (a3, .inl (cI, 12, .inl z_f)), (a4, .inl (cI, 12, .inl z_f)), (a5, .inl (cI, 12, .inl z_f)), (a6, .inl (cI, 12, .inl z_f)), (a7, .inl (cI, 12, .inl z_f)), (a11, .inl (cI, 27, .inl z_f)), (a12, .inl (cI, 27, .inl z_f)), (a13, .inl (cB, 2704, .inl z_f)), (a14, .inl (cB, 2704, .inl z_f))]) H := hP
  have hD : va_D A ([(h0, .inr (0, [.int 0, .int 0, .ref a2, .ref a3, .ref a4, .ref a5, .ref a6, .ref a7, .int 0, .int 0, .int 0, .ref a11, .ref a12, .ref a13, .null])), (a2, .inl (cI, 12, .inl z_f)), (a3, .inl (cI, 12, .inl z_f)), (a4, .inl (cI, 12, .inl z_f)), (a5, .inl (cI, 12, .inl z_f)), (a6, .inl (cI, 12, .inl z_f)), (a7, .inl (cI, 12, .inl z_f)), (a11, .inl (cI, 27, .inl z_f)), (a12, .inl (cI, 27, .inl z_f)), (a13, .inl (cB, 2704, .inl z_f)), (a14, .inl (cB, 2704, .inl z_f))]) := hD
  refine x_finT (v := .ref a14) (ty := .array .byte) hx hb hts hown hK hP hD hS 14 (by decide) q41 rfl rfl hin (by decide +kernel) rfl rfl (Nat.le_of_ble_eq_true rfl) dX0_init_83 (fun H locs hP hD hS => ?_)
  have hP : va_P (dC, dI) vwCl ([(h0, .inr (0, [.int 0, .int 0, .ref a2, .ref a3, .ref a4, .ref a5, .ref a6, .ref a7, .int 0, .int 0, .int 0, .ref a11, .ref a12, .ref a13, .ref a14])), (a2, .inl (cI, 12, .inl z_f)), (a3, .inl (cI, 12, .inl z_f)), (a4, .inl (cI, 12, .inl z_f)), (a5, .inl (cI, 12, .inl z_f)), (a6, .inl (cI, 12, .inl z_f)), (a7, .inl (cI, 12, .inl z_f)), (a11, .inl (cI, 27, .inl z_f)), (a12, .inl (cI, 27, .inl z_f)), (a13, .inl (cB, 2704, .inl z_f)), (a14, .inl (cB, 2704, .inl z_f))]) H := hP
  have hD : va_D A ([(h0, .inr (0, [.int 0, .int 0, .ref a2, .ref a3, .ref a4, .ref a5, .ref a6, .ref a7, .int 0, .int 0, .int 0, .ref a11, .ref a12, .ref a13, .ref a14])), (a2, .inl (cI, 12, .inl z_f)), (a3, .inl (cI, 12, .inl z_f)), (a4, .inl (cI, 12, .inl z_f)), (a5, .inl (cI, 12, .inl z_f)), (a6, .inl (cI, 12, .inl z_f)), (a7, .inl (cI, 12, .inl z_f)), (a11, .inl (cI, 27, .inl z_f)), (a12, .inl (cI, 27, .inl z_f)), (a13, .inl (cB, 2704, .inl z_f)), (a14, .inl (cB, 2704, .inl z_f))]) := hD
  exact W.vret hx hb hr (fun t ht hW => ⟨⟨adT h0 a2 a3 a4 a5 a6 a7 a11 a12 a13 a14, rfl, rfl, by rw [ht]; exact hP, va_K.moved hW.alike hK, hD⟩, hS.F ht⟩) hS.2.2 dX0_init_86
end
section
-- ===== end of PART A; then your names; then what follows =====
/-! THE CLAIM OUT OF ONE WALK OF THE LAW'S BODY. Your part is whole_start (and what it stands on); all else here is the same for every law, but numbers. -/
def R_law : String := "PolicyTableLaw"
def lw_P (b : Addr) (xs : List Int32) (args : Array Value) (s : State) : Prop := args = #[.ref b] ∧ s.IntsAt b xs ∧ xs.length ≤ 320 ∧ (Jvm.Cond.and given_1 narrow_1).before args s = true
def lw_Q (_ : Array Value) (s : State) (o : Outcome) (t : State) : Prop := o = .returned (some (.int 1)) ∧ Framed s o t [] 600000 7290000
def lw_Z (below : List Frame) (a : Array Value) (s : State) : State → Prop := fun t => ∃ o, t.status = .running ∧ Ended t below o ∧ lw_Q a s o t
/-- the law's own end, with 1 on the stack, nothing written that was there before, its room as the claim has it -/
theorem lw_ret {p : Program} {l : Launch} {e : Env} {s : State} {m : MethodId} {below : List Frame} {meth : Method} {c : Code} {b : Nat} (hx : p.tables.exec = Jvm.exec) (hb : c.code = code) (hr : meth.sig.returnType = ret) (hlocks : meth.locks = false) {pc : Nat} {H : Heap} {ls : Array Slot} (hdg : decode code pc = .ok (.ireturn, 1)) : W p l e room_1 s m #[Value.ref b] below meth c H [] 600000 7290000 (lw_Z below #[Value.ref b] s) (F0 m pc ls [.int 1]) := by
  intro T hT X
  obtain ⟨fs, hret, hrun, hended, hW, hframe⟩ := X.leave (v := some (.int 1)) (hlocks := hlocks) (fun h => by rw [hr] at h; cases h)
  have hmeth' : T.vm.method? m = some meth := X.method'
  refine ⟨T.setFrames fs, ?_, .returned (some (.int 1)), hrun, hended, rfl, ⟨_, rfl⟩, hW, hframe⟩
  jvm_step X.here [X.here.top, hx, hb, hdg, hmeth', hr, ret, narrow_b1]
  (try refine ⟨rfl, ?_⟩); (try refine ⟨rfl, ?_⟩)
  first | (intro acts; rw [hret _ acts rfl rfl rfl]) | rw [hret _ _ rfl rfl rfl]
  exact Steps.refl _
/-- what holds at the law's entry: the machine, the code, the tables' words (any of lw_tbl by 'hts w (by decide +kernel)'), the script of L ints xs at the cell b, what the Statement gives of the start (any of its parts by flat_of_before) -/
def lw_At (p : Program) (s : State) (m : MethodId) (meth : Method) (c : Code) (b L : Nat) (xs : Nat → Int32) : Prop :=
  p.tables.exec = Jvm.exec ∧ c.code = code ∧ meth.sig.returnType = ret ∧ c.maxLocals = 4 ∧ s.vm.findClass R_law = some m.cls ∧ (∀ w ∈ lw_tbl, w.before #[Value.ref b] s = true) ∧ va_X b L xs s s.heap ∧ b < s.heap.size ∧ meth.locks = false ∧ (Jvm.Cond.and given_1 narrow_1).before #[Value.ref b] s = true
end
section
set_option maxHeartbeats 4000000 in
set_option maxRecDepth 100000 in
/-- the law's case 0: insert -/
theorem lc_insert {p : Program} {l : Launch} {e : Env} {s : State} {m : MethodId} {below : List Frame} {meth : Method} {c : Code} {dC : Nat → ClassId} {dI : Nat → Nat → Nat} {b L : Nat} {xs : Nat → Int32} {cI cB : ClassId} (hL : L ≤ 320) (C0 : lw_At p s m meth c b L xs) (hK : va_K (dC, dI) vwCl (tyT cI cB) s) (ad bd : Nat → Nat) (i : Nat) (hi : i + 5 ≤ L) (kont : ∀ (n fb : Nat) (q : Nat → pV) (u : pR) (rb : Nat → Nat → Int32) (H : Heap) (locs : List Loc) (ls : Array Slot), p_ITr n q fb u → p_IM n q fb rb → va_P (dC, dI) vwCl (WTr ad cI cB (nI n) (nI fb) u ++ WM bd cI (nI n) (nI fb) rb) H → va_D (fun q : Nat => s.heap.size ≤ q) (WTr ad cI cB (nI n) (nI fb) u ++ WM bd cI (nI n) (nI fb) rb) → va_S (fun q : Nat => s.heap.size ≤ q) s.heap H locs → lv_has ls 4 [(0, .ref b), (1, .ref (ad 0)), (2, .ref (bd 0)), (3, .int (nI i))] → W p l e room_1 s m #[Value.ref b] below meth c H locs 600000 7290000 (lw_Z below #[Value.ref b] s) (F0 m 398 ls [])) : ∀ (n fb : Nat) (q : Nat → pV) (u : pR) (rb : Nat → Nat → Int32) (H : Heap) (locs : List Loc) (ls : Array Slot), p_ITr n q fb u → p_IM n q fb rb → va_P (dC, dI) vwCl (WTr ad cI cB (nI n) (nI fb) u ++ WM bd cI (nI n) (nI fb) rb) H → va_D (fun q : Nat => s.heap.size ≤ q) (WTr ad cI cB (nI n) (nI fb) u ++ WM bd cI (nI n) (nI fb) rb) → va_S (fun q : Nat => s.heap.size ≤ q) s.heap H locs → lv_has ls 4 [(0, .ref b), (1, .ref (ad 0)), (2, .ref (bd 0)), (3, .int (nI i))] → W p l e room_1 s m #[Value.ref b] below meth c H locs 600000 7290000 (lw_Z below #[Value.ref b] s) (F0 m 88 ls []) := by
  obtain ⟨hx, hb, hr, hml, hown, hts0, hX, hbl, hlocks, hgv⟩ := C0
  have hts : ∀ w ∈ lw_all, w.before #[Value.ref b] s = true := fun w h => hts0 w (lw_all_tbl h)
  have hA : ∀ q : Nat, s.heap.size ≤ q → (fun q : Nat => s.heap.size ≤ q) q := fun _ h => h
  have hbA : ¬ (fun q : Nat => s.heap.size ≤ q) b := Nat.not_le.mpr hbl
  intro n fb q u rb H locs ls hI hJ hP hD hS hl
  obtain ⟨ra, pt, co, rc, cf, rf, fi, se⟩ := u
  have hI : p_IT n q fb ra pt co rc cf rf fi se := hI
  refine lv_aload_n hx hb dL_law_88 rfl (lv_at hl 1 rfl) ?_
  refine lv_aload_n hx hb dL_law_89 rfl (lv_at hl 0 rfl) ?_
  refine lv_iload_n hx hb dL_law_90 rfl (lv_at hl 3 rfl) ?_
  refine lv_iconst (v := (nI 1)) hx hb dL_law_91 (by decide) ?_
  refine x_add hx hb dL_law_92 ?_
  refine x_sld hx hb hX hbl hbA hS (show i + 1 < L by omega) (by omega) dL_law_93 ?_
  refine lv_aload_n hx hb dL_law_94 rfl (lv_at hl 0 rfl) ?_
  refine lv_iload_n hx hb dL_law_95 rfl (lv_at hl 3 rfl) ?_
  refine lv_iconst (v := (nI 2)) hx hb dL_law_96 (by decide) ?_
  refine x_add hx hb dL_law_97 ?_
  refine x_sld hx hb hX hbl hbA hS (show i + 2 < L by omega) (by omega) dL_law_98 ?_
  refine lv_aload_n hx hb dL_law_99 rfl (lv_at hl 0 rfl) ?_
  refine lv_iload_n hx hb dL_law_100 rfl (lv_at hl 3 rfl) ?_
  refine lv_iconst (v := (nI 3)) hx hb dL_law_101 (by decide) ?_
  refine x_add hx hb dL_law_102 ?_
  refine x_sld hx hb hX hbl hbA hS (show i + 3 < L by omega) (by omega) dL_law_103 ?_
  refine lv_aload_n hx hb dL_law_104 rfl (lv_at hl 0 rfl) ?_
  refine lv_iload_n hx hb dL_law_105 rfl (lv_at hl 3 rfl) ?_
  refine lv_iconst (v := (nI 4)) hx hb dL_law_106 (by decide) ?_
  refine x_add hx hb dL_law_107 ?_
  refine x_sld hx hb hX hbl hbA hS (show i + 4 < L by omega) (by omega) dL_law_108 ?_
  refine x_law1 (va_runV (As := [.int (xs (i + 1)), .int (xs (i + 2)), .int (xs (i + 3)), .int (xs (i + 4))]) (rest := []) ⟨hx, hb, hml, hown, hts⟩ (m0_insert l dC dI ad cI cB H.size n fb q ra pt co rc cf rf fi se (xs (i + 1)) (xs (i + 2)) (xs (i + 3)) (xs (i + 4)) hI) (cwV 4 hts (lw_V q75 q76 q77 q17 q78) rfl rfl rfl (by decide +kernel) ⟨Nat.le_of_ble_eq_true rfl, Nat.le_of_ble_eq_true rfl⟩) (x_preV (ci := 0) (q0 := 0) hK (vl_Pl hP) (vl_Dl hD) rfl rfl) rfl rfl hl.1 rfl (lv_room (Nat.le_of_ble_eq_true rfl)) dL_law_109 ⟨Nat.le_refl _, Nat.le_refl _⟩) hP hD hS hA (fun r1 v H locs hv hP hD hS => ?_)
  refine lv_aload_n hx hb dL_law_112 rfl (lv_at hl 2 rfl) ?_
  refine lv_aload_n hx hb dL_law_113 rfl (lv_at hl 0 rfl) ?_
  refine lv_iload_n hx hb dL_law_114 rfl (lv_at hl 3 rfl) ?_
  refine lv_iconst (v := (nI 1)) hx hb dL_law_115 (by decide) ?_
  refine x_add hx hb dL_law_116 ?_
  refine x_sld hx hb hX hbl hbA hS (show i + 1 < L by omega) (by omega) dL_law_117 ?_
  refine lv_aload_n hx hb dL_law_118 rfl (lv_at hl 0 rfl) ?_
  refine lv_iload_n hx hb dL_law_119 rfl (lv_at hl 3 rfl) ?_
  refine lv_iconst (v := (nI 2)) hx hb dL_law_120 (by decide) ?_
  refine x_add hx hb dL_law_121 ?_
  refine x_sld hx hb hX hbl hbA hS (show i + 2 < L by omega) (by omega) dL_law_122 ?_
  refine lv_aload_n hx hb dL_law_123 rfl (lv_at hl 0 rfl) ?_
  refine lv_iload_n hx hb dL_law_124 rfl (lv_at hl 3 rfl) ?_
  refine lv_iconst (v := (nI 3)) hx hb dL_law_125 (by decide) ?_
  refine x_add hx hb dL_law_126 ?_
  refine x_sld hx hb hX hbl hbA hS (show i + 3 < L by omega) (by omega) dL_law_127 ?_
  refine lv_aload_n hx hb dL_law_128 rfl (lv_at hl 0 rfl) ?_
  refine lv_iload_n hx hb dL_law_129 rfl (lv_at hl 3 rfl) ?_
  refine lv_iconst (v := (nI 4)) hx hb dL_law_130 (by decide) ?_
  refine x_add hx hb dL_law_131 ?_
  refine x_sld hx hb hX hbl hbA hS (show i + 4 < L by omega) (by omega) dL_law_132 ?_
  refine x_law2 (va_runV (As := [.int (xs (i + 1)), .int (xs (i + 2)), .int (xs (i + 3)), .int (xs (i + 4))]) (rest := [.int r1]) ⟨hx, hb, hml, hown, hts⟩ (m1_insert l dC dI bd cI H.size n fb q rb (xs (i + 1)) (xs (i + 2)) (xs (i + 3)) (xs (i + 4)) hJ) (cwV 4 hts (lw_V q185 q186 q187 q18 q188) rfl rfl rfl (by decide +kernel) ⟨Nat.le_of_ble_eq_true rfl, Nat.le_of_ble_eq_true rfl⟩) (x_preV (ci := 1) (q0 := 0) (hK.sub (tys' := tyM cI) [0] rfl) (vl_Pr hP) (vl_Dr hD) rfl rfl) rfl rfl hl.1 rfl (lv_room (Nat.le_of_ble_eq_true rfl)) dL_law_133 ⟨Nat.le_refl _, Nat.le_refl _⟩) hP hD hS hA (fun r2 w H locs hw hP hD hS => ?_)
  obtain ⟨v1, v2⟩ := v
  obtain ⟨w1, w2⟩ := w
  obtain ⟨e1, e2⟩ := Prod.mk.inj (hv.1.trans hw.1.symm)
  have e2 : v1 = w1 := e2
  subst e2
  refine lv_icmp_eq (tgt := 398) hx hb dL_law_136 (by decide) (fun _ => ?_) (fun c9 => absurd e1 c9)
  exact kont v1.1 v1.2.2 v1.2.1 v2 w2 _ _ _ hv.2 hw.2 hP hD hS (lv_sub hl [0, 1, 2, 3] rfl)
set_option maxHeartbeats 4000000 in
set_option maxRecDepth 100000 in
/-- the law's case 1: remove -/
theorem lc_remove {p : Program} {l : Launch} {e : Env} {s : State} {m : MethodId} {below : List Frame} {meth : Method} {c : Code} {dC : Nat → ClassId} {dI : Nat → Nat → Nat} {b L : Nat} {xs : Nat → Int32} {cI cB : ClassId} (hL : L ≤ 320) (C0 : lw_At p s m meth c b L xs) (hK : va_K (dC, dI) vwCl (tyT cI cB) s) (ad bd : Nat → Nat) (i : Nat) (hi : i + 5 ≤ L) (kont : ∀ (n fb : Nat) (q : Nat → pV) (u : pR) (rb : Nat → Nat → Int32) (H : Heap) (locs : List Loc) (ls : Array Slot), p_ITr n q fb u → p_IM n q fb rb → va_P (dC, dI) vwCl (WTr ad cI cB (nI n) (nI fb) u ++ WM bd cI (nI n) (nI fb) rb) H → va_D (fun q : Nat => s.heap.size ≤ q) (WTr ad cI cB (nI n) (nI fb) u ++ WM bd cI (nI n) (nI fb) rb) → va_S (fun q : Nat => s.heap.size ≤ q) s.heap H locs → lv_has ls 4 [(0, .ref b), (1, .ref (ad 0)), (2, .ref (bd 0)), (3, .int (nI i))] → W p l e room_1 s m #[Value.ref b] below meth c H locs 600000 7290000 (lw_Z below #[Value.ref b] s) (F0 m 398 ls [])) : ∀ (n fb : Nat) (q : Nat → pV) (u : pR) (rb : Nat → Nat → Int32) (H : Heap) (locs : List Loc) (ls : Array Slot), p_ITr n q fb u → p_IM n q fb rb → va_P (dC, dI) vwCl (WTr ad cI cB (nI n) (nI fb) u ++ WM bd cI (nI n) (nI fb) rb) H → va_D (fun q : Nat => s.heap.size ≤ q) (WTr ad cI cB (nI n) (nI fb) u ++ WM bd cI (nI n) (nI fb) rb) → va_S (fun q : Nat => s.heap.size ≤ q) s.heap H locs → lv_has ls 4 [(0, .ref b), (1, .ref (ad 0)), (2, .ref (bd 0)), (3, .int (nI i))] → W p l e room_1 s m #[Value.ref b] below meth c H locs 600000 7290000 (lw_Z below #[Value.ref b] s) (F0 m 141 ls []) := by
  obtain ⟨hx, hb, hr, hml, hown, hts0, hX, hbl, hlocks, hgv⟩ := C0
  have hts : ∀ w ∈ lw_all, w.before #[Value.ref b] s = true := fun w h => hts0 w (lw_all_tbl h)
  have hA : ∀ q : Nat, s.heap.size ≤ q → (fun q : Nat => s.heap.size ≤ q) q := fun _ h => h
  have hbA : ¬ (fun q : Nat => s.heap.size ≤ q) b := Nat.not_le.mpr hbl
  intro n fb q u rb H locs ls hI hJ hP hD hS hl
  obtain ⟨ra, pt, co, rc, cf, rf, fi, se⟩ := u
  have hI : p_IT n q fb ra pt co rc cf rf fi se := hI
  refine lv_aload_n hx hb dL_law_141 rfl (lv_at hl 1 rfl) ?_
  refine lv_aload_n hx hb dL_law_142 rfl (lv_at hl 0 rfl) ?_
  refine lv_iload_n hx hb dL_law_143 rfl (lv_at hl 3 rfl) ?_
  refine lv_iconst (v := (nI 1)) hx hb dL_law_144 (by decide) ?_
  refine x_add hx hb dL_law_145 ?_
  refine x_sld hx hb hX hbl hbA hS (show i + 1 < L by omega) (by omega) dL_law_146 ?_
  refine x_law1 (va_runV (As := [.int (xs (i + 1))]) (rest := []) ⟨hx, hb, hml, hown, hts⟩ (m0_remove l dC dI ad cI cB H.size n fb q ra pt co rc cf rf fi se (xs (i + 1)) hI) (cwV 1 hts (lw_V q83 q84 q85 q17 q86) rfl rfl rfl (by decide +kernel) ⟨Nat.le_of_ble_eq_true rfl, Nat.le_of_ble_eq_true rfl⟩) (x_preV (ci := 0) (q0 := 0) hK (vl_Pl hP) (vl_Dl hD) rfl rfl) rfl rfl hl.1 rfl (lv_room (Nat.le_of_ble_eq_true rfl)) dL_law_147 ⟨Nat.le_refl _, Nat.le_refl _⟩) hP hD hS hA (fun r1 v H locs hv hP hD hS => ?_)
  refine lv_aload_n hx hb dL_law_150 rfl (lv_at hl 2 rfl) ?_
  refine lv_aload_n hx hb dL_law_151 rfl (lv_at hl 0 rfl) ?_
  refine lv_iload_n hx hb dL_law_152 rfl (lv_at hl 3 rfl) ?_
  refine lv_iconst (v := (nI 1)) hx hb dL_law_153 (by decide) ?_
  refine x_add hx hb dL_law_154 ?_
  refine x_sld hx hb hX hbl hbA hS (show i + 1 < L by omega) (by omega) dL_law_155 ?_
  refine x_law2 (va_runV (As := [.int (xs (i + 1))]) (rest := [.int r1]) ⟨hx, hb, hml, hown, hts⟩ (m1_remove l dC dI bd cI H.size n fb q rb (xs (i + 1)) hJ) (cwV 1 hts (lw_V q197 q198 q199 q18 q200) rfl rfl rfl (by decide +kernel) ⟨Nat.le_of_ble_eq_true rfl, Nat.le_of_ble_eq_true rfl⟩) (x_preV (ci := 1) (q0 := 0) (hK.sub (tys' := tyM cI) [0] rfl) (vl_Pr hP) (vl_Dr hD) rfl rfl) rfl rfl hl.1 rfl (lv_room (Nat.le_of_ble_eq_true rfl)) dL_law_156 ⟨Nat.le_refl _, Nat.le_refl _⟩) hP hD hS hA (fun r2 w H locs hw hP hD hS => ?_)
  obtain ⟨v1, v2⟩ := v
  obtain ⟨w1, w2⟩ := w
  obtain ⟨e1, e2⟩ := Prod.mk.inj (hv.1.trans hw.1.symm)
  have e2 : v1 = w1 := e2
  subst e2
  refine lv_icmp_eq (tgt := 398) hx hb dL_law_159 (by decide) (fun _ => ?_) (fun c9 => absurd e1 c9)
  exact kont v1.1 v1.2.2 v1.2.1 v2 w2 _ _ _ hv.2 hw.2 hP hD hS (lv_sub hl [0, 1, 2, 3] rfl)
set_option maxHeartbeats 4000000 in
set_option maxRecDepth 100000 in
/-- the law's case 2: shift -/
theorem lc_shift {p : Program} {l : Launch} {e : Env} {s : State} {m : MethodId} {below : List Frame} {meth : Method} {c : Code} {dC : Nat → ClassId} {dI : Nat → Nat → Nat} {b L : Nat} {xs : Nat → Int32} {cI cB : ClassId} (hL : L ≤ 320) (C0 : lw_At p s m meth c b L xs) (hK : va_K (dC, dI) vwCl (tyT cI cB) s) (ad bd : Nat → Nat) (i : Nat) (hi : i + 5 ≤ L) (kont : ∀ (n fb : Nat) (q : Nat → pV) (u : pR) (rb : Nat → Nat → Int32) (H : Heap) (locs : List Loc) (ls : Array Slot), p_ITr n q fb u → p_IM n q fb rb → va_P (dC, dI) vwCl (WTr ad cI cB (nI n) (nI fb) u ++ WM bd cI (nI n) (nI fb) rb) H → va_D (fun q : Nat => s.heap.size ≤ q) (WTr ad cI cB (nI n) (nI fb) u ++ WM bd cI (nI n) (nI fb) rb) → va_S (fun q : Nat => s.heap.size ≤ q) s.heap H locs → lv_has ls 4 [(0, .ref b), (1, .ref (ad 0)), (2, .ref (bd 0)), (3, .int (nI i))] → W p l e room_1 s m #[Value.ref b] below meth c H locs 600000 7290000 (lw_Z below #[Value.ref b] s) (F0 m 398 ls [])) : ∀ (n fb : Nat) (q : Nat → pV) (u : pR) (rb : Nat → Nat → Int32) (H : Heap) (locs : List Loc) (ls : Array Slot), p_ITr n q fb u → p_IM n q fb rb → va_P (dC, dI) vwCl (WTr ad cI cB (nI n) (nI fb) u ++ WM bd cI (nI n) (nI fb) rb) H → va_D (fun q : Nat => s.heap.size ≤ q) (WTr ad cI cB (nI n) (nI fb) u ++ WM bd cI (nI n) (nI fb) rb) → va_S (fun q : Nat => s.heap.size ≤ q) s.heap H locs → lv_has ls 4 [(0, .ref b), (1, .ref (ad 0)), (2, .ref (bd 0)), (3, .int (nI i))] → W p l e room_1 s m #[Value.ref b] below meth c H locs 600000 7290000 (lw_Z below #[Value.ref b] s) (F0 m 164 ls []) := by
  obtain ⟨hx, hb, hr, hml, hown, hts0, hX, hbl, hlocks, hgv⟩ := C0
  have hts : ∀ w ∈ lw_all, w.before #[Value.ref b] s = true := fun w h => hts0 w (lw_all_tbl h)
  have hA : ∀ q : Nat, s.heap.size ≤ q → (fun q : Nat => s.heap.size ≤ q) q := fun _ h => h
  have hbA : ¬ (fun q : Nat => s.heap.size ≤ q) b := Nat.not_le.mpr hbl
  intro n fb q u rb H locs ls hI hJ hP hD hS hl
  obtain ⟨ra, pt, co, rc, cf, rf, fi, se⟩ := u
  have hI : p_IT n q fb ra pt co rc cf rf fi se := hI
  refine lv_aload_n hx hb dL_law_164 rfl (lv_at hl 1 rfl) ?_
  refine lv_aload_n hx hb dL_law_165 rfl (lv_at hl 0 rfl) ?_
  refine lv_iload_n hx hb dL_law_166 rfl (lv_at hl 3 rfl) ?_
  refine lv_iconst (v := (nI 1)) hx hb dL_law_167 (by decide) ?_
  refine x_add hx hb dL_law_168 ?_
  refine x_sld hx hb hX hbl hbA hS (show i + 1 < L by omega) (by omega) dL_law_169 ?_
  refine lv_aload_n hx hb dL_law_170 rfl (lv_at hl 0 rfl) ?_
  refine lv_iload_n hx hb dL_law_171 rfl (lv_at hl 3 rfl) ?_
  refine lv_iconst (v := (nI 2)) hx hb dL_law_172 (by decide) ?_
  refine x_add hx hb dL_law_173 ?_
  refine x_sld hx hb hX hbl hbA hS (show i + 2 < L by omega) (by omega) dL_law_174 ?_
  refine x_law1 (va_runV (As := [.int (xs (i + 1)), .int (xs (i + 2))]) (rest := []) ⟨hx, hb, hml, hown, hts⟩ (m0_shift l dC dI ad cI cB H.size n fb q ra pt co rc cf rf fi se (xs (i + 1)) (xs (i + 2)) hI) (cwV 2 hts (lw_V q91 q92 q93 q17 q94) rfl rfl rfl (by decide +kernel) ⟨Nat.le_of_ble_eq_true rfl, Nat.le_of_ble_eq_true rfl⟩) (x_preV (ci := 0) (q0 := 0) hK (vl_Pl hP) (vl_Dl hD) rfl rfl) rfl rfl hl.1 rfl (lv_room (Nat.le_of_ble_eq_true rfl)) dL_law_175 ⟨Nat.le_refl _, Nat.le_refl _⟩) hP hD hS hA (fun r1 v H locs hv hP hD hS => ?_)
  refine lv_aload_n hx hb dL_law_178 rfl (lv_at hl 2 rfl) ?_
  refine lv_aload_n hx hb dL_law_179 rfl (lv_at hl 0 rfl) ?_
  refine lv_iload_n hx hb dL_law_180 rfl (lv_at hl 3 rfl) ?_
  refine lv_iconst (v := (nI 1)) hx hb dL_law_181 (by decide) ?_
  refine x_add hx hb dL_law_182 ?_
  refine x_sld hx hb hX hbl hbA hS (show i + 1 < L by omega) (by omega) dL_law_183 ?_
  refine lv_aload_n hx hb dL_law_184 rfl (lv_at hl 0 rfl) ?_
  refine lv_iload_n hx hb dL_law_185 rfl (lv_at hl 3 rfl) ?_
  refine lv_iconst (v := (nI 2)) hx hb dL_law_186 (by decide) ?_
  refine x_add hx hb dL_law_187 ?_
  refine x_sld hx hb hX hbl hbA hS (show i + 2 < L by omega) (by omega) dL_law_188 ?_
  refine x_law2 (va_runV (As := [.int (xs (i + 1)), .int (xs (i + 2))]) (rest := [.int r1]) ⟨hx, hb, hml, hown, hts⟩ (m1_shift l dC dI bd cI H.size n fb q rb (xs (i + 1)) (xs (i + 2)) hJ) (cwV 2 hts (lw_V q205 q206 q207 q18 q208) rfl rfl rfl (by decide +kernel) ⟨Nat.le_of_ble_eq_true rfl, Nat.le_of_ble_eq_true rfl⟩) (x_preV (ci := 1) (q0 := 0) (hK.sub (tys' := tyM cI) [0] rfl) (vl_Pr hP) (vl_Dr hD) rfl rfl) rfl rfl hl.1 rfl (lv_room (Nat.le_of_ble_eq_true rfl)) dL_law_189 ⟨Nat.le_refl _, Nat.le_refl _⟩) hP hD hS hA (fun r2 w H locs hw hP hD hS => ?_)
  obtain ⟨v1, v2⟩ := v
  obtain ⟨w1, w2⟩ := w
  obtain ⟨e1, e2⟩ := Prod.mk.inj (hv.1.trans hw.1.symm)
  have e2 : v1 = w1 := e2
  subst e2
  refine lv_icmp_eq (tgt := 398) hx hb dL_law_192 (by decide) (fun _ => ?_) (fun c9 => absurd e1 c9)
  exact kont v1.1 v1.2.2 v1.2.1 v2 w2 _ _ _ hv.2 hw.2 hP hD hS (lv_sub hl [0, 1, 2, 3] rfl)
set_option maxHeartbeats 4000000 in
set_option maxRecDepth 100000 in
/-- the law's case 3: otherwise -/
theorem lc_otherwise {p : Program} {l : Launch} {e : Env} {s : State} {m : MethodId} {below : List Frame} {meth : Method} {c : Code} {dC : Nat → ClassId} {dI : Nat → Nat → Nat} {b L : Nat} {xs : Nat → Int32} {cI cB : ClassId} (hL : L ≤ 320) (C0 : lw_At p s m meth c b L xs) (hK : va_K (dC, dI) vwCl (tyT cI cB) s) (ad bd : Nat → Nat) (i : Nat) (hi : i + 5 ≤ L) (kont : ∀ (n fb : Nat) (q : Nat → pV) (u : pR) (rb : Nat → Nat → Int32) (H : Heap) (locs : List Loc) (ls : Array Slot), p_ITr n q fb u → p_IM n q fb rb → va_P (dC, dI) vwCl (WTr ad cI cB (nI n) (nI fb) u ++ WM bd cI (nI n) (nI fb) rb) H → va_D (fun q : Nat => s.heap.size ≤ q) (WTr ad cI cB (nI n) (nI fb) u ++ WM bd cI (nI n) (nI fb) rb) → va_S (fun q : Nat => s.heap.size ≤ q) s.heap H locs → lv_has ls 4 [(0, .ref b), (1, .ref (ad 0)), (2, .ref (bd 0)), (3, .int (nI i))] → W p l e room_1 s m #[Value.ref b] below meth c H locs 600000 7290000 (lw_Z below #[Value.ref b] s) (F0 m 398 ls [])) : ∀ (n fb : Nat) (q : Nat → pV) (u : pR) (rb : Nat → Nat → Int32) (H : Heap) (locs : List Loc) (ls : Array Slot), p_ITr n q fb u → p_IM n q fb rb → va_P (dC, dI) vwCl (WTr ad cI cB (nI n) (nI fb) u ++ WM bd cI (nI n) (nI fb) rb) H → va_D (fun q : Nat => s.heap.size ≤ q) (WTr ad cI cB (nI n) (nI fb) u ++ WM bd cI (nI n) (nI fb) rb) → va_S (fun q : Nat => s.heap.size ≤ q) s.heap H locs → lv_has ls 4 [(0, .ref b), (1, .ref (ad 0)), (2, .ref (bd 0)), (3, .int (nI i))] → W p l e room_1 s m #[Value.ref b] below meth c H locs 600000 7290000 (lw_Z below #[Value.ref b] s) (F0 m 197 ls []) := by
  obtain ⟨hx, hb, hr, hml, hown, hts0, hX, hbl, hlocks, hgv⟩ := C0
  have hts : ∀ w ∈ lw_all, w.before #[Value.ref b] s = true := fun w h => hts0 w (lw_all_tbl h)
  have hA : ∀ q : Nat, s.heap.size ≤ q → (fun q : Nat => s.heap.size ≤ q) q := fun _ h => h
  have hbA : ¬ (fun q : Nat => s.heap.size ≤ q) b := Nat.not_le.mpr hbl
  intro n fb q u rb H locs ls hI hJ hP hD hS hl
  obtain ⟨ra, pt, co, rc, cf, rf, fi, se⟩ := u
  have hI : p_IT n q fb ra pt co rc cf rf fi se := hI
  refine lv_aload_n hx hb dL_law_197 rfl (lv_at hl 1 rfl) ?_
  refine lv_aload_n hx hb dL_law_198 rfl (lv_at hl 0 rfl) ?_
  refine lv_iload_n hx hb dL_law_199 rfl (lv_at hl 3 rfl) ?_
  refine lv_iconst (v := (nI 1)) hx hb dL_law_200 (by decide) ?_
  refine x_add hx hb dL_law_201 ?_
  refine x_sld hx hb hX hbl hbA hS (show i + 1 < L by omega) (by omega) dL_law_202 ?_
  refine x_law1 (va_runV (As := [.int (xs (i + 1))]) (rest := []) ⟨hx, hb, hml, hown, hts⟩ (m0_otherwise l dC dI ad cI cB H.size n fb q ra pt co rc cf rf fi se (xs (i + 1)) hI) (cwV 1 hts (lw_V q99 q100 q101 q17 q102) rfl rfl rfl (by decide +kernel) ⟨Nat.le_of_ble_eq_true rfl, Nat.le_of_ble_eq_true rfl⟩) (x_preV (ci := 0) (q0 := 0) hK (vl_Pl hP) (vl_Dl hD) rfl rfl) rfl rfl hl.1 rfl (lv_room (Nat.le_of_ble_eq_true rfl)) dL_law_203 ⟨Nat.le_refl _, Nat.le_refl _⟩) hP hD hS hA (fun r1 v H locs hv hP hD hS => ?_)
  refine lv_aload_n hx hb dL_law_206 rfl (lv_at hl 2 rfl) ?_
  refine lv_aload_n hx hb dL_law_207 rfl (lv_at hl 0 rfl) ?_
  refine lv_iload_n hx hb dL_law_208 rfl (lv_at hl 3 rfl) ?_
  refine lv_iconst (v := (nI 1)) hx hb dL_law_209 (by decide) ?_
  refine x_add hx hb dL_law_210 ?_
  refine x_sld hx hb hX hbl hbA hS (show i + 1 < L by omega) (by omega) dL_law_211 ?_
  refine x_law2 (va_runV (As := [.int (xs (i + 1))]) (rest := [.int r1]) ⟨hx, hb, hml, hown, hts⟩ (m1_otherwise l dC dI bd cI H.size n fb q rb (xs (i + 1)) hJ) (cwV 1 hts (lw_V q211 q212 q213 q18 q214) rfl rfl rfl (by decide +kernel) ⟨Nat.le_of_ble_eq_true rfl, Nat.le_of_ble_eq_true rfl⟩) (x_preV (ci := 1) (q0 := 0) (hK.sub (tys' := tyM cI) [0] rfl) (vl_Pr hP) (vl_Dr hD) rfl rfl) rfl rfl hl.1 rfl (lv_room (Nat.le_of_ble_eq_true rfl)) dL_law_212 ⟨Nat.le_refl _, Nat.le_refl _⟩) hP hD hS hA (fun r2 w H locs hw hP hD hS => ?_)
  obtain ⟨v1, v2⟩ := v
  obtain ⟨w1, w2⟩ := w
  obtain ⟨e1, e2⟩ := Prod.mk.inj (hv.1.trans hw.1.symm)
  have e2 : v1 = w1 := e2
  subst e2
  refine lv_icmp_eq (tgt := 398) hx hb dL_law_215 (by decide) (fun _ => ?_) (fun c9 => absurd e1 c9)
  exact kont v1.1 v1.2.2 v1.2.1 v2 w2 _ _ _ hv.2 hw.2 hP hD hS (lv_sub hl [0, 1, 2, 3] rfl)
end
section
set_option maxHeartbeats 4000000 in
set_option maxRecDepth 100000 in
/-- the law's case 4: decide -/
theorem lc_decide {p : Program} {l : Launch} {e : Env} {s : State} {m : MethodId} {below : List Frame} {meth : Method} {c : Code} {dC : Nat → ClassId} {dI : Nat → Nat → Nat} {b L : Nat} {xs : Nat → Int32} {cI cB : ClassId} (hL : L ≤ 320) (C0 : lw_At p s m meth c b L xs) (hK : va_K (dC, dI) vwCl (tyT cI cB) s) (ad bd : Nat → Nat) (i : Nat) (hi : i + 5 ≤ L) (kont : ∀ (n fb : Nat) (q : Nat → pV) (u : pR) (rb : Nat → Nat → Int32) (H : Heap) (locs : List Loc) (ls : Array Slot), p_ITr n q fb u → p_IM n q fb rb → va_P (dC, dI) vwCl (WTr ad cI cB (nI n) (nI fb) u ++ WM bd cI (nI n) (nI fb) rb) H → va_D (fun q : Nat => s.heap.size ≤ q) (WTr ad cI cB (nI n) (nI fb) u ++ WM bd cI (nI n) (nI fb) rb) → va_S (fun q : Nat => s.heap.size ≤ q) s.heap H locs → lv_has ls 4 [(0, .ref b), (1, .ref (ad 0)), (2, .ref (bd 0)), (3, .int (nI i))] → W p l e room_1 s m #[Value.ref b] below meth c H locs 600000 7290000 (lw_Z below #[Value.ref b] s) (F0 m 398 ls [])) : ∀ (n fb : Nat) (q : Nat → pV) (u : pR) (rb : Nat → Nat → Int32) (H : Heap) (locs : List Loc) (ls : Array Slot), p_ITr n q fb u → p_IM n q fb rb → va_P (dC, dI) vwCl (WTr ad cI cB (nI n) (nI fb) u ++ WM bd cI (nI n) (nI fb) rb) H → va_D (fun q : Nat => s.heap.size ≤ q) (WTr ad cI cB (nI n) (nI fb) u ++ WM bd cI (nI n) (nI fb) rb) → va_S (fun q : Nat => s.heap.size ≤ q) s.heap H locs → lv_has ls 4 [(0, .ref b), (1, .ref (ad 0)), (2, .ref (bd 0)), (3, .int (nI i))] → W p l e room_1 s m #[Value.ref b] below meth c H locs 600000 7290000 (lw_Z below #[Value.ref b] s) (F0 m 220 ls []) := by
  obtain ⟨hx, hb, hr, hml, hown, hts0, hX, hbl, hlocks, hgv⟩ := C0
  have hts : ∀ w ∈ lw_all, w.before #[Value.ref b] s = true := fun w h => hts0 w (lw_all_tbl h)
  have hA : ∀ q : Nat, s.heap.size ≤ q → (fun q : Nat => s.heap.size ≤ q) q := fun _ h => h
  have hbA : ¬ (fun q : Nat => s.heap.size ≤ q) b := Nat.not_le.mpr hbl
  intro n fb q u rb H locs ls hI hJ hP hD hS hl
  obtain ⟨ra, pt, co, rc, cf, rf, fi, se⟩ := u
  have hI : p_IT n q fb ra pt co rc cf rf fi se := hI
  refine lv_aload_n hx hb dL_law_220 rfl (lv_at hl 1 rfl) ?_
  refine lv_aload_n hx hb dL_law_221 rfl (lv_at hl 0 rfl) ?_
  refine lv_iload_n hx hb dL_law_222 rfl (lv_at hl 3 rfl) ?_
  refine lv_iconst (v := (nI 1)) hx hb dL_law_223 (by decide) ?_
  refine x_add hx hb dL_law_224 ?_
  refine x_sld hx hb hX hbl hbA hS (show i + 1 < L by omega) (by omega) dL_law_225 ?_
  refine lv_aload_n hx hb dL_law_226 rfl (lv_at hl 0 rfl) ?_
  refine lv_iload_n hx hb dL_law_227 rfl (lv_at hl 3 rfl) ?_
  refine lv_iconst (v := (nI 2)) hx hb dL_law_228 (by decide) ?_
  refine x_add hx hb dL_law_229 ?_
  refine x_sld hx hb hX hbl hbA hS (show i + 2 < L by omega) (by omega) dL_law_230 ?_
  refine lv_aload_n hx hb dL_law_231 rfl (lv_at hl 0 rfl) ?_
  refine lv_iload_n hx hb dL_law_232 rfl (lv_at hl 3 rfl) ?_
  refine lv_iconst (v := (nI 3)) hx hb dL_law_233 (by decide) ?_
  refine x_add hx hb dL_law_234 ?_
  refine x_sld hx hb hX hbl hbA hS (show i + 3 < L by omega) (by omega) dL_law_235 ?_
  refine x_law1 (va_runV (As := [.int (xs (i + 1)), .int (xs (i + 2)), .int (xs (i + 3))]) (rest := []) ⟨hx, hb, hml, hown, hts⟩ (m0_decide l dC dI ad cI cB H.size n fb q ra pt co rc cf rf fi se (xs (i + 1)) (xs (i + 2)) (xs (i + 3)) hI) (cwV 3 hts (lw_V q103 q104 q105 q17 q106) rfl rfl rfl (by decide +kernel) ⟨Nat.le_of_ble_eq_true rfl, Nat.le_of_ble_eq_true rfl⟩) (x_preV (ci := 0) (q0 := 0) hK (vl_Pl hP) (vl_Dl hD) rfl rfl) rfl rfl hl.1 rfl (lv_room (Nat.le_of_ble_eq_true rfl)) dL_law_236 ⟨Nat.le_refl _, Nat.le_refl _⟩) hP hD hS hA (fun r1 v H locs hv hP hD hS => ?_)
  refine lv_aload_n hx hb dL_law_239 rfl (lv_at hl 2 rfl) ?_
  refine lv_aload_n hx hb dL_law_240 rfl (lv_at hl 0 rfl) ?_
  refine lv_iload_n hx hb dL_law_241 rfl (lv_at hl 3 rfl) ?_
  refine lv_iconst (v := (nI 1)) hx hb dL_law_242 (by decide) ?_
  refine x_add hx hb dL_law_243 ?_
  refine x_sld hx hb hX hbl hbA hS (show i + 1 < L by omega) (by omega) dL_law_244 ?_
  refine lv_aload_n hx hb dL_law_245 rfl (lv_at hl 0 rfl) ?_
  refine lv_iload_n hx hb dL_law_246 rfl (lv_at hl 3 rfl) ?_
  refine lv_iconst (v := (nI 2)) hx hb dL_law_247 (by decide) ?_
  refine x_add hx hb dL_law_248 ?_
  refine x_sld hx hb hX hbl hbA hS (show i + 2 < L by omega) (by omega) dL_law_249 ?_
  refine lv_aload_n hx hb dL_law_250 rfl (lv_at hl 0 rfl) ?_
  refine lv_iload_n hx hb dL_law_251 rfl (lv_at hl 3 rfl) ?_
  refine lv_iconst (v := (nI 3)) hx hb dL_law_252 (by decide) ?_
  refine x_add hx hb dL_law_253 ?_
  refine x_sld hx hb hX hbl hbA hS (show i + 3 < L by omega) (by omega) dL_law_254 ?_
  refine vp_callSi (W.runV (As := [.int (xs (i + 1)), .int (xs (i + 2)), .int (xs (i + 3))]) (rest := [.int r1]) ⟨hx, hb, hml, hown, hts⟩ (m1_decide l dC dI bd cI n fb q rb (xs (i + 1)) (xs (i + 2)) (xs (i + 3)) hJ) (cwV 3 hts (lw_V q215 q216 q217 q18 q218) rfl rfl rfl (by decide +kernel) ⟨Nat.le_of_ble_eq_true rfl, Nat.le_of_ble_eq_true rfl⟩) (x_preVR (ci := 1) (q0 := 0) (hK.sub (tys' := tyM cI) [0] rfl) (vl_Pr hP) rfl rfl) rfl rfl hl.1 rfl (lv_room (Nat.le_of_ble_eq_true rfl)) dL_law_255 ⟨Nat.le_refl _, Nat.le_refl _⟩) (fun r2 hw => ?_)
  obtain ⟨v1, v2⟩ := v
  have e1 : r1 = r2 := (congrArg Prod.fst hv.1).trans hw.symm
  have e2 : v1 = (n, q, fb) := (congrArg Prod.snd hv.1).trans (o_dec_2 n q fb _ _ _)
  subst e2
  refine lv_icmp_eq (tgt := 398) hx hb dL_law_258 (by decide) (fun _ => ?_) (fun c9 => absurd e1 c9)
  exact kont n fb q v2 rb _ _ _ hv.2 hJ hP hD hS (lv_sub hl [0, 1, 2, 3] rfl)
set_option maxHeartbeats 4000000 in
set_option maxRecDepth 100000 in
/-- the law's case 5: action -/
theorem lc_action {p : Program} {l : Launch} {e : Env} {s : State} {m : MethodId} {below : List Frame} {meth : Method} {c : Code} {dC : Nat → ClassId} {dI : Nat → Nat → Nat} {b L : Nat} {xs : Nat → Int32} {cI cB : ClassId} (hL : L ≤ 320) (C0 : lw_At p s m meth c b L xs) (hK : va_K (dC, dI) vwCl (tyT cI cB) s) (ad bd : Nat → Nat) (i : Nat) (hi : i + 5 ≤ L) (kont : ∀ (n fb : Nat) (q : Nat → pV) (u : pR) (rb : Nat → Nat → Int32) (H : Heap) (locs : List Loc) (ls : Array Slot), p_ITr n q fb u → p_IM n q fb rb → va_P (dC, dI) vwCl (WTr ad cI cB (nI n) (nI fb) u ++ WM bd cI (nI n) (nI fb) rb) H → va_D (fun q : Nat => s.heap.size ≤ q) (WTr ad cI cB (nI n) (nI fb) u ++ WM bd cI (nI n) (nI fb) rb) → va_S (fun q : Nat => s.heap.size ≤ q) s.heap H locs → lv_has ls 4 [(0, .ref b), (1, .ref (ad 0)), (2, .ref (bd 0)), (3, .int (nI i))] → W p l e room_1 s m #[Value.ref b] below meth c H locs 600000 7290000 (lw_Z below #[Value.ref b] s) (F0 m 398 ls [])) : ∀ (n fb : Nat) (q : Nat → pV) (u : pR) (rb : Nat → Nat → Int32) (H : Heap) (locs : List Loc) (ls : Array Slot), p_ITr n q fb u → p_IM n q fb rb → va_P (dC, dI) vwCl (WTr ad cI cB (nI n) (nI fb) u ++ WM bd cI (nI n) (nI fb) rb) H → va_D (fun q : Nat => s.heap.size ≤ q) (WTr ad cI cB (nI n) (nI fb) u ++ WM bd cI (nI n) (nI fb) rb) → va_S (fun q : Nat => s.heap.size ≤ q) s.heap H locs → lv_has ls 4 [(0, .ref b), (1, .ref (ad 0)), (2, .ref (bd 0)), (3, .int (nI i))] → W p l e room_1 s m #[Value.ref b] below meth c H locs 600000 7290000 (lw_Z below #[Value.ref b] s) (F0 m 263 ls []) := by
  obtain ⟨hx, hb, hr, hml, hown, hts0, hX, hbl, hlocks, hgv⟩ := C0
  have hts : ∀ w ∈ lw_all, w.before #[Value.ref b] s = true := fun w h => hts0 w (lw_all_tbl h)
  have hA : ∀ q : Nat, s.heap.size ≤ q → (fun q : Nat => s.heap.size ≤ q) q := fun _ h => h
  have hbA : ¬ (fun q : Nat => s.heap.size ≤ q) b := Nat.not_le.mpr hbl
  intro n fb q u rb H locs ls hI hJ hP hD hS hl
  obtain ⟨ra, pt, co, rc, cf, rf, fi, se⟩ := u
  have hI : p_IT n q fb ra pt co rc cf rf fi se := hI
  refine lv_aload_n hx hb dL_law_263 rfl (lv_at hl 1 rfl) ?_
  refine lv_aload_n hx hb dL_law_264 rfl (lv_at hl 0 rfl) ?_
  refine lv_iload_n hx hb dL_law_265 rfl (lv_at hl 3 rfl) ?_
  refine lv_iconst (v := (nI 1)) hx hb dL_law_266 (by decide) ?_
  refine x_add hx hb dL_law_267 ?_
  refine x_sld hx hb hX hbl hbA hS (show i + 1 < L by omega) (by omega) dL_law_268 ?_
  refine lv_aload_n hx hb dL_law_269 rfl (lv_at hl 0 rfl) ?_
  refine lv_iload_n hx hb dL_law_270 rfl (lv_at hl 3 rfl) ?_
  refine lv_iconst (v := (nI 2)) hx hb dL_law_271 (by decide) ?_
  refine x_add hx hb dL_law_272 ?_
  refine x_sld hx hb hX hbl hbA hS (show i + 2 < L by omega) (by omega) dL_law_273 ?_
  refine lv_aload_n hx hb dL_law_274 rfl (lv_at hl 0 rfl) ?_
  refine lv_iload_n hx hb dL_law_275 rfl (lv_at hl 3 rfl) ?_
  refine lv_iconst (v := (nI 3)) hx hb dL_law_276 (by decide) ?_
  refine x_add hx hb dL_law_277 ?_
  refine x_sld hx hb hX hbl hbA hS (show i + 3 < L by omega) (by omega) dL_law_278 ?_
  refine x_law1 (va_runV (As := [.int (xs (i + 1)), .int (xs (i + 2)), .int (xs (i + 3))]) (rest := []) ⟨hx, hb, hml, hown, hts⟩ (m0_action l dC dI ad cI cB H.size n fb q ra pt co rc cf rf fi se (xs (i + 1)) (xs (i + 2)) (xs (i + 3)) hI) (cwV 3 hts (lw_V q133 q134 q135 q17 q136) rfl rfl rfl (by decide +kernel) ⟨Nat.le_of_ble_eq_true rfl, Nat.le_of_ble_eq_true rfl⟩) (x_preV (ci := 0) (q0 := 0) hK (vl_Pl hP) (vl_Dl hD) rfl rfl) rfl rfl hl.1 rfl (lv_room (Nat.le_of_ble_eq_true rfl)) dL_law_279 ⟨Nat.le_refl _, Nat.le_refl _⟩) hP hD hS hA (fun r1 v H locs hv hP hD hS => ?_)
  refine lv_aload_n hx hb dL_law_282 rfl (lv_at hl 2 rfl) ?_
  refine lv_aload_n hx hb dL_law_283 rfl (lv_at hl 0 rfl) ?_
  refine lv_iload_n hx hb dL_law_284 rfl (lv_at hl 3 rfl) ?_
  refine lv_iconst (v := (nI 1)) hx hb dL_law_285 (by decide) ?_
  refine x_add hx hb dL_law_286 ?_
  refine x_sld hx hb hX hbl hbA hS (show i + 1 < L by omega) (by omega) dL_law_287 ?_
  refine lv_aload_n hx hb dL_law_288 rfl (lv_at hl 0 rfl) ?_
  refine lv_iload_n hx hb dL_law_289 rfl (lv_at hl 3 rfl) ?_
  refine lv_iconst (v := (nI 2)) hx hb dL_law_290 (by decide) ?_
  refine x_add hx hb dL_law_291 ?_
  refine x_sld hx hb hX hbl hbA hS (show i + 2 < L by omega) (by omega) dL_law_292 ?_
  refine lv_aload_n hx hb dL_law_293 rfl (lv_at hl 0 rfl) ?_
  refine lv_iload_n hx hb dL_law_294 rfl (lv_at hl 3 rfl) ?_
  refine lv_iconst (v := (nI 3)) hx hb dL_law_295 (by decide) ?_
  refine x_add hx hb dL_law_296 ?_
  refine x_sld hx hb hX hbl hbA hS (show i + 3 < L by omega) (by omega) dL_law_297 ?_
  refine vp_callSi (W.runV (As := [.int (xs (i + 1)), .int (xs (i + 2)), .int (xs (i + 3))]) (rest := [.int r1]) ⟨hx, hb, hml, hown, hts⟩ (m1_action l dC dI bd cI n fb q rb (xs (i + 1)) (xs (i + 2)) (xs (i + 3)) hJ) (cwV 3 hts (lw_V q230 q231 q232 q18 q233) rfl rfl rfl (by decide +kernel) ⟨Nat.le_of_ble_eq_true rfl, Nat.le_of_ble_eq_true rfl⟩) (x_preVR (ci := 1) (q0 := 0) (hK.sub (tys' := tyM cI) [0] rfl) (vl_Pr hP) rfl rfl) rfl rfl hl.1 rfl (lv_room (Nat.le_of_ble_eq_true rfl)) dL_law_298 ⟨Nat.le_refl _, Nat.le_refl _⟩) (fun r2 hw => ?_)
  obtain ⟨v1, v2⟩ := v
  have e1 : r1 = r2 := (congrArg Prod.fst hv.1).trans hw.symm
  have e2 : v1 = (n, q, fb) := (congrArg Prod.snd hv.1).trans (o_act_2 n q fb _ _ _)
  subst e2
  refine lv_icmp_eq (tgt := 398) hx hb dL_law_301 (by decide) (fun _ => ?_) (fun c9 => absurd e1 c9)
  exact kont n fb q v2 rb _ _ _ hv.2 hJ hP hD hS (lv_sub hl [0, 1, 2, 3] rfl)
set_option maxHeartbeats 4000000 in
set_option maxRecDepth 100000 in
/-- the law's case 6: decided -/
theorem lc_decided {p : Program} {l : Launch} {e : Env} {s : State} {m : MethodId} {below : List Frame} {meth : Method} {c : Code} {dC : Nat → ClassId} {dI : Nat → Nat → Nat} {b L : Nat} {xs : Nat → Int32} {cI cB : ClassId} (hL : L ≤ 320) (C0 : lw_At p s m meth c b L xs) (hK : va_K (dC, dI) vwCl (tyT cI cB) s) (ad bd : Nat → Nat) (i : Nat) (hi : i + 5 ≤ L) (kont : ∀ (n fb : Nat) (q : Nat → pV) (u : pR) (rb : Nat → Nat → Int32) (H : Heap) (locs : List Loc) (ls : Array Slot), p_ITr n q fb u → p_IM n q fb rb → va_P (dC, dI) vwCl (WTr ad cI cB (nI n) (nI fb) u ++ WM bd cI (nI n) (nI fb) rb) H → va_D (fun q : Nat => s.heap.size ≤ q) (WTr ad cI cB (nI n) (nI fb) u ++ WM bd cI (nI n) (nI fb) rb) → va_S (fun q : Nat => s.heap.size ≤ q) s.heap H locs → lv_has ls 4 [(0, .ref b), (1, .ref (ad 0)), (2, .ref (bd 0)), (3, .int (nI i))] → W p l e room_1 s m #[Value.ref b] below meth c H locs 600000 7290000 (lw_Z below #[Value.ref b] s) (F0 m 398 ls [])) : ∀ (n fb : Nat) (q : Nat → pV) (u : pR) (rb : Nat → Nat → Int32) (H : Heap) (locs : List Loc) (ls : Array Slot), p_ITr n q fb u → p_IM n q fb rb → va_P (dC, dI) vwCl (WTr ad cI cB (nI n) (nI fb) u ++ WM bd cI (nI n) (nI fb) rb) H → va_D (fun q : Nat => s.heap.size ≤ q) (WTr ad cI cB (nI n) (nI fb) u ++ WM bd cI (nI n) (nI fb) rb) → va_S (fun q : Nat => s.heap.size ≤ q) s.heap H locs → lv_has ls 4 [(0, .ref b), (1, .ref (ad 0)), (2, .ref (bd 0)), (3, .int (nI i))] → W p l e room_1 s m #[Value.ref b] below meth c H locs 600000 7290000 (lw_Z below #[Value.ref b] s) (F0 m 306 ls []) := by
  obtain ⟨hx, hb, hr, hml, hown, hts0, hX, hbl, hlocks, hgv⟩ := C0
  have hts : ∀ w ∈ lw_all, w.before #[Value.ref b] s = true := fun w h => hts0 w (lw_all_tbl h)
  have hA : ∀ q : Nat, s.heap.size ≤ q → (fun q : Nat => s.heap.size ≤ q) q := fun _ h => h
  have hbA : ¬ (fun q : Nat => s.heap.size ≤ q) b := Nat.not_le.mpr hbl
  intro n fb q u rb H locs ls hI hJ hP hD hS hl
  obtain ⟨ra, pt, co, rc, cf, rf, fi, se⟩ := u
  have hI : p_IT n q fb ra pt co rc cf rf fi se := hI
  refine lv_aload_n hx hb dL_law_306 rfl (lv_at hl 1 rfl) ?_
  refine lv_aload_n hx hb dL_law_307 rfl (lv_at hl 0 rfl) ?_
  refine lv_iload_n hx hb dL_law_308 rfl (lv_at hl 3 rfl) ?_
  refine lv_iconst (v := (nI 1)) hx hb dL_law_309 (by decide) ?_
  refine x_add hx hb dL_law_310 ?_
  refine x_sld hx hb hX hbl hbA hS (show i + 1 < L by omega) (by omega) dL_law_311 ?_
  refine x_law1 (va_runV (As := [.int (xs (i + 1))]) (rest := []) ⟨hx, hb, hml, hown, hts⟩ (m0_decided l dC dI ad cI cB H.size n fb q ra pt co rc cf rf fi se (xs (i + 1)) hI) (cwV 1 hts (lw_V q138 q139 q140 q17 q141) rfl rfl rfl (by decide +kernel) ⟨Nat.le_of_ble_eq_true rfl, Nat.le_of_ble_eq_true rfl⟩) (x_preV (ci := 0) (q0 := 0) hK (vl_Pl hP) (vl_Dl hD) rfl rfl) rfl rfl hl.1 rfl (lv_room (Nat.le_of_ble_eq_true rfl)) dL_law_312 ⟨Nat.le_refl _, Nat.le_refl _⟩) hP hD hS hA (fun r1 v H locs hv hP hD hS => ?_)
  refine lv_aload_n hx hb dL_law_315 rfl (lv_at hl 2 rfl) ?_
  refine lv_aload_n hx hb dL_law_316 rfl (lv_at hl 0 rfl) ?_
  refine lv_iload_n hx hb dL_law_317 rfl (lv_at hl 3 rfl) ?_
  refine lv_iconst (v := (nI 1)) hx hb dL_law_318 (by decide) ?_
  refine x_add hx hb dL_law_319 ?_
  refine x_sld hx hb hX hbl hbA hS (show i + 1 < L by omega) (by omega) dL_law_320 ?_
  refine vp_callSi (W.runV (As := [.int (xs (i + 1))]) (rest := [.int r1]) ⟨hx, hb, hml, hown, hts⟩ (m1_decided l dC dI bd cI n fb q rb (xs (i + 1)) hJ) (cwV 1 hts (lw_V q239 q240 q241 q18 q242) rfl rfl rfl (by decide +kernel) ⟨Nat.le_of_ble_eq_true rfl, Nat.le_of_ble_eq_true rfl⟩) (x_preVR (ci := 1) (q0 := 0) (hK.sub (tys' := tyM cI) [0] rfl) (vl_Pr hP) rfl rfl) rfl rfl hl.1 rfl (lv_room (Nat.le_of_ble_eq_true rfl)) dL_law_321 ⟨Nat.le_refl _, Nat.le_refl _⟩) (fun r2 hw => ?_)
  obtain ⟨v1, v2⟩ := v
  have e1 : r1 = r2 := (congrArg Prod.fst hv.1).trans hw.symm
  have e2 : v1 = (n, q, fb) := (congrArg Prod.snd hv.1).trans (o_ded_2 n q fb _)
  subst e2
  refine lv_icmp_eq (tgt := 398) hx hb dL_law_324 (by decide) (fun _ => ?_) (fun c9 => absurd e1 c9)
  exact kont n fb q v2 rb _ _ _ hv.2 hJ hP hD hS (lv_sub hl [0, 1, 2, 3] rfl)
set_option maxHeartbeats 4000000 in
set_option maxRecDepth 100000 in
/-- the law's case 7: having -/
theorem lc_having {p : Program} {l : Launch} {e : Env} {s : State} {m : MethodId} {below : List Frame} {meth : Method} {c : Code} {dC : Nat → ClassId} {dI : Nat → Nat → Nat} {b L : Nat} {xs : Nat → Int32} {cI cB : ClassId} (hL : L ≤ 320) (C0 : lw_At p s m meth c b L xs) (hK : va_K (dC, dI) vwCl (tyT cI cB) s) (ad bd : Nat → Nat) (i : Nat) (hi : i + 5 ≤ L) (kont : ∀ (n fb : Nat) (q : Nat → pV) (u : pR) (rb : Nat → Nat → Int32) (H : Heap) (locs : List Loc) (ls : Array Slot), p_ITr n q fb u → p_IM n q fb rb → va_P (dC, dI) vwCl (WTr ad cI cB (nI n) (nI fb) u ++ WM bd cI (nI n) (nI fb) rb) H → va_D (fun q : Nat => s.heap.size ≤ q) (WTr ad cI cB (nI n) (nI fb) u ++ WM bd cI (nI n) (nI fb) rb) → va_S (fun q : Nat => s.heap.size ≤ q) s.heap H locs → lv_has ls 4 [(0, .ref b), (1, .ref (ad 0)), (2, .ref (bd 0)), (3, .int (nI i))] → W p l e room_1 s m #[Value.ref b] below meth c H locs 600000 7290000 (lw_Z below #[Value.ref b] s) (F0 m 398 ls [])) : ∀ (n fb : Nat) (q : Nat → pV) (u : pR) (rb : Nat → Nat → Int32) (H : Heap) (locs : List Loc) (ls : Array Slot), p_ITr n q fb u → p_IM n q fb rb → va_P (dC, dI) vwCl (WTr ad cI cB (nI n) (nI fb) u ++ WM bd cI (nI n) (nI fb) rb) H → va_D (fun q : Nat => s.heap.size ≤ q) (WTr ad cI cB (nI n) (nI fb) u ++ WM bd cI (nI n) (nI fb) rb) → va_S (fun q : Nat => s.heap.size ≤ q) s.heap H locs → lv_has ls 4 [(0, .ref b), (1, .ref (ad 0)), (2, .ref (bd 0)), (3, .int (nI i))] → W p l e room_1 s m #[Value.ref b] below meth c H locs 600000 7290000 (lw_Z below #[Value.ref b] s) (F0 m 329 ls []) := by
  obtain ⟨hx, hb, hr, hml, hown, hts0, hX, hbl, hlocks, hgv⟩ := C0
  have hts : ∀ w ∈ lw_all, w.before #[Value.ref b] s = true := fun w h => hts0 w (lw_all_tbl h)
  have hA : ∀ q : Nat, s.heap.size ≤ q → (fun q : Nat => s.heap.size ≤ q) q := fun _ h => h
  have hbA : ¬ (fun q : Nat => s.heap.size ≤ q) b := Nat.not_le.mpr hbl
  intro n fb q u rb H locs ls hI hJ hP hD hS hl
  obtain ⟨ra, pt, co, rc, cf, rf, fi, se⟩ := u
  have hI : p_IT n q fb ra pt co rc cf rf fi se := hI
  refine lv_aload_n hx hb dL_law_329 rfl (lv_at hl 1 rfl) ?_
  refine lv_aload_n hx hb dL_law_330 rfl (lv_at hl 0 rfl) ?_
  refine lv_iload_n hx hb dL_law_331 rfl (lv_at hl 3 rfl) ?_
  refine lv_iconst (v := (nI 1)) hx hb dL_law_332 (by decide) ?_
  refine x_add hx hb dL_law_333 ?_
  refine x_sld hx hb hX hbl hbA hS (show i + 1 < L by omega) (by omega) dL_law_334 ?_
  refine x_law1 (va_runV (As := [.int (xs (i + 1))]) (rest := []) ⟨hx, hb, hml, hown, hts⟩ (m0_having l dC dI ad cI cB H.size n fb q ra pt co rc cf rf fi se (xs (i + 1)) hI) (cwV 1 hts (lw_V q150 q151 q152 q17 q153) rfl rfl rfl (by decide +kernel) ⟨Nat.le_of_ble_eq_true rfl, Nat.le_of_ble_eq_true rfl⟩) (x_preV (ci := 0) (q0 := 0) hK (vl_Pl hP) (vl_Dl hD) rfl rfl) rfl rfl hl.1 rfl (lv_room (Nat.le_of_ble_eq_true rfl)) dL_law_335 ⟨Nat.le_refl _, Nat.le_refl _⟩) hP hD hS hA (fun r1 v H locs hv hP hD hS => ?_)
  refine lv_aload_n hx hb dL_law_338 rfl (lv_at hl 2 rfl) ?_
  refine lv_aload_n hx hb dL_law_339 rfl (lv_at hl 0 rfl) ?_
  refine lv_iload_n hx hb dL_law_340 rfl (lv_at hl 3 rfl) ?_
  refine lv_iconst (v := (nI 1)) hx hb dL_law_341 (by decide) ?_
  refine x_add hx hb dL_law_342 ?_
  refine x_sld hx hb hX hbl hbA hS (show i + 1 < L by omega) (by omega) dL_law_343 ?_
  refine vp_callSi (W.runV (As := [.int (xs (i + 1))]) (rest := [.int r1]) ⟨hx, hb, hml, hown, hts⟩ (m1_having l dC dI bd cI n fb q rb (xs (i + 1)) hJ) (cwV 1 hts (lw_V q243 q244 q245 q18 q246) rfl rfl rfl (by decide +kernel) ⟨Nat.le_of_ble_eq_true rfl, Nat.le_of_ble_eq_true rfl⟩) (x_preVR (ci := 1) (q0 := 0) (hK.sub (tys' := tyM cI) [0] rfl) (vl_Pr hP) rfl rfl) rfl rfl hl.1 rfl (lv_room (Nat.le_of_ble_eq_true rfl)) dL_law_344 ⟨Nat.le_refl _, Nat.le_refl _⟩) (fun r2 hw => ?_)
  obtain ⟨v1, v2⟩ := v
  have e1 : r1 = r2 := (congrArg Prod.fst hv.1).trans hw.symm
  have e2 : v1 = (n, q, fb) := (congrArg Prod.snd hv.1).trans (o_hav_2 n q fb _)
  subst e2
  refine lv_icmp_eq (tgt := 398) hx hb dL_law_347 (by decide) (fun _ => ?_) (fun c9 => absurd e1 c9)
  exact kont n fb q v2 rb _ _ _ hv.2 hJ hP hD hS (lv_sub hl [0, 1, 2, 3] rfl)
set_option maxHeartbeats 4000000 in
set_option maxRecDepth 100000 in
/-- the law's case 8: use -/
theorem lc_use {p : Program} {l : Launch} {e : Env} {s : State} {m : MethodId} {below : List Frame} {meth : Method} {c : Code} {dC : Nat → ClassId} {dI : Nat → Nat → Nat} {b L : Nat} {xs : Nat → Int32} {cI cB : ClassId} (hL : L ≤ 320) (C0 : lw_At p s m meth c b L xs) (hK : va_K (dC, dI) vwCl (tyT cI cB) s) (ad bd : Nat → Nat) (i : Nat) (hi : i + 5 ≤ L) (kont : ∀ (n fb : Nat) (q : Nat → pV) (u : pR) (rb : Nat → Nat → Int32) (H : Heap) (locs : List Loc) (ls : Array Slot), p_ITr n q fb u → p_IM n q fb rb → va_P (dC, dI) vwCl (WTr ad cI cB (nI n) (nI fb) u ++ WM bd cI (nI n) (nI fb) rb) H → va_D (fun q : Nat => s.heap.size ≤ q) (WTr ad cI cB (nI n) (nI fb) u ++ WM bd cI (nI n) (nI fb) rb) → va_S (fun q : Nat => s.heap.size ≤ q) s.heap H locs → lv_has ls 4 [(0, .ref b), (1, .ref (ad 0)), (2, .ref (bd 0)), (3, .int (nI i))] → W p l e room_1 s m #[Value.ref b] below meth c H locs 600000 7290000 (lw_Z below #[Value.ref b] s) (F0 m 398 ls [])) : ∀ (n fb : Nat) (q : Nat → pV) (u : pR) (rb : Nat → Nat → Int32) (H : Heap) (locs : List Loc) (ls : Array Slot), p_ITr n q fb u → p_IM n q fb rb → va_P (dC, dI) vwCl (WTr ad cI cB (nI n) (nI fb) u ++ WM bd cI (nI n) (nI fb) rb) H → va_D (fun q : Nat => s.heap.size ≤ q) (WTr ad cI cB (nI n) (nI fb) u ++ WM bd cI (nI n) (nI fb) rb) → va_S (fun q : Nat => s.heap.size ≤ q) s.heap H locs → lv_has ls 4 [(0, .ref b), (1, .ref (ad 0)), (2, .ref (bd 0)), (3, .int (nI i))] → W p l e room_1 s m #[Value.ref b] below meth c H locs 600000 7290000 (lw_Z below #[Value.ref b] s) (F0 m 352 ls []) := by
  obtain ⟨hx, hb, hr, hml, hown, hts0, hX, hbl, hlocks, hgv⟩ := C0
  have hts : ∀ w ∈ lw_all, w.before #[Value.ref b] s = true := fun w h => hts0 w (lw_all_tbl h)
  have hA : ∀ q : Nat, s.heap.size ≤ q → (fun q : Nat => s.heap.size ≤ q) q := fun _ h => h
  have hbA : ¬ (fun q : Nat => s.heap.size ≤ q) b := Nat.not_le.mpr hbl
  intro n fb q u rb H locs ls hI hJ hP hD hS hl
  obtain ⟨ra, pt, co, rc, cf, rf, fi, se⟩ := u
  have hI : p_IT n q fb ra pt co rc cf rf fi se := hI
  refine lv_aload_n hx hb dL_law_352 rfl (lv_at hl 1 rfl) ?_
  refine lv_aload_n hx hb dL_law_353 rfl (lv_at hl 0 rfl) ?_
  refine lv_iload_n hx hb dL_law_354 rfl (lv_at hl 3 rfl) ?_
  refine lv_iconst (v := (nI 1)) hx hb dL_law_355 (by decide) ?_
  refine x_add hx hb dL_law_356 ?_
  refine x_sld hx hb hX hbl hbA hS (show i + 1 < L by omega) (by omega) dL_law_357 ?_
  refine x_law1 (va_runV (As := [.int (xs (i + 1))]) (rest := []) ⟨hx, hb, hml, hown, hts⟩ (m0_use l dC dI ad cI cB H.size n fb q ra pt co rc cf rf fi se (xs (i + 1)) hI) (cwV 1 hts (lw_V q155 q156 q157 q17 q158) rfl rfl rfl (by decide +kernel) ⟨Nat.le_of_ble_eq_true rfl, Nat.le_of_ble_eq_true rfl⟩) (x_preV (ci := 0) (q0 := 0) hK (vl_Pl hP) (vl_Dl hD) rfl rfl) rfl rfl hl.1 rfl (lv_room (Nat.le_of_ble_eq_true rfl)) dL_law_358 ⟨Nat.le_refl _, Nat.le_refl _⟩) hP hD hS hA (fun r1 v H locs hv hP hD hS => ?_)
  refine lv_aload_n hx hb dL_law_361 rfl (lv_at hl 2 rfl) ?_
  refine lv_aload_n hx hb dL_law_362 rfl (lv_at hl 0 rfl) ?_
  refine lv_iload_n hx hb dL_law_363 rfl (lv_at hl 3 rfl) ?_
  refine lv_iconst (v := (nI 1)) hx hb dL_law_364 (by decide) ?_
  refine x_add hx hb dL_law_365 ?_
  refine x_sld hx hb hX hbl hbA hS (show i + 1 < L by omega) (by omega) dL_law_366 ?_
  refine vp_callSi (W.runV (As := [.int (xs (i + 1))]) (rest := [.int r1]) ⟨hx, hb, hml, hown, hts⟩ (m1_use l dC dI bd cI n fb q rb (xs (i + 1)) hJ) (cwV 1 hts (lw_V q247 q248 q249 q18 q250) rfl rfl rfl (by decide +kernel) ⟨Nat.le_of_ble_eq_true rfl, Nat.le_of_ble_eq_true rfl⟩) (x_preVR (ci := 1) (q0 := 0) (hK.sub (tys' := tyM cI) [0] rfl) (vl_Pr hP) rfl rfl) rfl rfl hl.1 rfl (lv_room (Nat.le_of_ble_eq_true rfl)) dL_law_367 ⟨Nat.le_refl _, Nat.le_refl _⟩) (fun r2 hw => ?_)
  obtain ⟨v1, v2⟩ := v
  have e1 : r1 = r2 := (congrArg Prod.fst hv.1).trans hw.symm
  have e2 : v1 = (n, q, fb) := (congrArg Prod.snd hv.1).trans (o_use_2 n q fb _)
  subst e2
  refine lv_icmp_eq (tgt := 398) hx hb dL_law_370 (by decide) (fun _ => ?_) (fun c9 => absurd e1 c9)
  exact kont n fb q v2 rb _ _ _ hv.2 hJ hP hD hS (lv_sub hl [0, 1, 2, 3] rfl)
set_option maxHeartbeats 4000000 in
set_option maxRecDepth 100000 in
/-- the law's case 9: witness -/
theorem lc_witness {p : Program} {l : Launch} {e : Env} {s : State} {m : MethodId} {below : List Frame} {meth : Method} {c : Code} {dC : Nat → ClassId} {dI : Nat → Nat → Nat} {b L : Nat} {xs : Nat → Int32} {cI cB : ClassId} (hL : L ≤ 320) (C0 : lw_At p s m meth c b L xs) (hK : va_K (dC, dI) vwCl (tyT cI cB) s) (ad bd : Nat → Nat) (i : Nat) (hi : i + 5 ≤ L) (kont : ∀ (n fb : Nat) (q : Nat → pV) (u : pR) (rb : Nat → Nat → Int32) (H : Heap) (locs : List Loc) (ls : Array Slot), p_ITr n q fb u → p_IM n q fb rb → va_P (dC, dI) vwCl (WTr ad cI cB (nI n) (nI fb) u ++ WM bd cI (nI n) (nI fb) rb) H → va_D (fun q : Nat => s.heap.size ≤ q) (WTr ad cI cB (nI n) (nI fb) u ++ WM bd cI (nI n) (nI fb) rb) → va_S (fun q : Nat => s.heap.size ≤ q) s.heap H locs → lv_has ls 4 [(0, .ref b), (1, .ref (ad 0)), (2, .ref (bd 0)), (3, .int (nI i))] → W p l e room_1 s m #[Value.ref b] below meth c H locs 600000 7290000 (lw_Z below #[Value.ref b] s) (F0 m 398 ls [])) : ∀ (n fb : Nat) (q : Nat → pV) (u : pR) (rb : Nat → Nat → Int32) (H : Heap) (locs : List Loc) (ls : Array Slot), p_ITr n q fb u → p_IM n q fb rb → va_P (dC, dI) vwCl (WTr ad cI cB (nI n) (nI fb) u ++ WM bd cI (nI n) (nI fb) rb) H → va_D (fun q : Nat => s.heap.size ≤ q) (WTr ad cI cB (nI n) (nI fb) u ++ WM bd cI (nI n) (nI fb) rb) → va_S (fun q : Nat => s.heap.size ≤ q) s.heap H locs → lv_has ls 4 [(0, .ref b), (1, .ref (ad 0)), (2, .ref (bd 0)), (3, .int (nI i))] → W p l e room_1 s m #[Value.ref b] below meth c H locs 600000 7290000 (lw_Z below #[Value.ref b] s) (F0 m 375 ls []) := by
  obtain ⟨hx, hb, hr, hml, hown, hts0, hX, hbl, hlocks, hgv⟩ := C0
  have hts : ∀ w ∈ lw_all, w.before #[Value.ref b] s = true := fun w h => hts0 w (lw_all_tbl h)
  have hA : ∀ q : Nat, s.heap.size ≤ q → (fun q : Nat => s.heap.size ≤ q) q := fun _ h => h
  have hbA : ¬ (fun q : Nat => s.heap.size ≤ q) b := Nat.not_le.mpr hbl
  intro n fb q u rb H locs ls hI hJ hP hD hS hl
  obtain ⟨ra, pt, co, rc, cf, rf, fi, se⟩ := u
  have hI : p_IT n q fb ra pt co rc cf rf fi se := hI
  refine lv_aload_n hx hb dL_law_375 rfl (lv_at hl 1 rfl) ?_
  refine lv_aload_n hx hb dL_law_376 rfl (lv_at hl 0 rfl) ?_
  refine lv_iload_n hx hb dL_law_377 rfl (lv_at hl 3 rfl) ?_
  refine lv_iconst (v := (nI 1)) hx hb dL_law_378 (by decide) ?_
  refine x_add hx hb dL_law_379 ?_
  refine x_sld hx hb hX hbl hbA hS (show i + 1 < L by omega) (by omega) dL_law_380 ?_
  refine x_law1 (va_runV (As := [.int (xs (i + 1))]) (rest := []) ⟨hx, hb, hml, hown, hts⟩ (m0_witness l dC dI ad cI cB H.size n fb q ra pt co rc cf rf fi se (xs (i + 1)) hI) (cwV 1 hts (lw_V q159 q160 q161 q17 q162) rfl rfl rfl (by decide +kernel) ⟨Nat.le_of_ble_eq_true rfl, Nat.le_of_ble_eq_true rfl⟩) (x_preV (ci := 0) (q0 := 0) hK (vl_Pl hP) (vl_Dl hD) rfl rfl) rfl rfl hl.1 rfl (lv_room (Nat.le_of_ble_eq_true rfl)) dL_law_381 ⟨Nat.le_refl _, Nat.le_refl _⟩) hP hD hS hA (fun r1 v H locs hv hP hD hS => ?_)
  refine lv_aload_n hx hb dL_law_384 rfl (lv_at hl 2 rfl) ?_
  refine lv_aload_n hx hb dL_law_385 rfl (lv_at hl 0 rfl) ?_
  refine lv_iload_n hx hb dL_law_386 rfl (lv_at hl 3 rfl) ?_
  refine lv_iconst (v := (nI 1)) hx hb dL_law_387 (by decide) ?_
  refine x_add hx hb dL_law_388 ?_
  refine x_sld hx hb hX hbl hbA hS (show i + 1 < L by omega) (by omega) dL_law_389 ?_
  refine vp_callSi (W.runV (As := [.int (xs (i + 1))]) (rest := [.int r1]) ⟨hx, hb, hml, hown, hts⟩ (m1_witness l dC dI bd cI n fb q rb (xs (i + 1)) hJ) (cwV 1 hts (lw_V q251 q252 q253 q18 q254) rfl rfl rfl (by decide +kernel) ⟨Nat.le_of_ble_eq_true rfl, Nat.le_of_ble_eq_true rfl⟩) (x_preVR (ci := 1) (q0 := 0) (hK.sub (tys' := tyM cI) [0] rfl) (vl_Pr hP) rfl rfl) rfl rfl hl.1 rfl (lv_room (Nat.le_of_ble_eq_true rfl)) dL_law_390 ⟨Nat.le_refl _, Nat.le_refl _⟩) (fun r2 hw => ?_)
  obtain ⟨v1, v2⟩ := v
  have e1 : r1 = r2 := (congrArg Prod.fst hv.1).trans hw.symm
  have e2 : v1 = (n, q, fb) := (congrArg Prod.snd hv.1).trans (o_wit_2 n q fb _)
  subst e2
  refine lv_icmp_eq (tgt := 398) hx hb dL_law_393 (by decide) (fun _ => ?_) (fun c9 => absurd e1 c9)
  exact kont n fb q v2 rb _ _ _ hv.2 hJ hP hD hS (lv_sub hl [0, 1, 2, 3] rfl)
end
section
set_option maxHeartbeats 4000000 in
set_option maxRecDepth 100000 in
/-- the law's loop, from its head: class and reference hold the same rules -/
theorem law_loop {p : Program} {l : Launch} {e : Env} {s : State} {m : MethodId} {below : List Frame} {meth : Method} {c : Code} {dC : Nat → ClassId} {dI : Nat → Nat → Nat} {b L : Nat} {xs : Nat → Int32} {cI cB : ClassId} (hL : L ≤ 320) (C0 : lw_At p s m meth c b L xs) (hK : va_K (dC, dI) vwCl (tyT cI cB) s) (ad bd : Nat → Nat) : ∀ (f i : Nat), i ≤ L → L < i + f → ∀ (n fb : Nat) (q : Nat → pV) (u : pR) (rb : Nat → Nat → Int32) (H : Heap) (locs : List Loc) (ls : Array Slot), p_ITr n q fb u → p_IM n q fb rb → va_P (dC, dI) vwCl (WTr ad cI cB (nI n) (nI fb) u ++ WM bd cI (nI n) (nI fb) rb) H → va_D (fun q : Nat => s.heap.size ≤ q) (WTr ad cI cB (nI n) (nI fb) u ++ WM bd cI (nI n) (nI fb) rb) → va_S (fun q : Nat => s.heap.size ≤ q) s.heap H locs → lv_has ls 4 [(0, .ref b), (1, .ref (ad 0)), (2, .ref (bd 0)), (3, .int (nI i))] → W p l e room_1 s m #[Value.ref b] below meth c H locs 600000 7290000 (lw_Z below #[Value.ref b] s) (F0 m 18 ls []) := by
  have C1 := C0
  obtain ⟨hx, hb, hr, hml, hown, hts0, hX, hbl, hlocks, hgv⟩ := C0
  have hts : ∀ w ∈ lw_all, w.before #[Value.ref b] s = true := fun w h => hts0 w (lw_all_tbl h)
  have hA : ∀ q : Nat, s.heap.size ≤ q → (fun q : Nat => s.heap.size ≤ q) q := fun _ h => h
  have hbA : ¬ (fun q : Nat => s.heap.size ≤ q) b := Nat.not_le.mpr hbl
  intro f
  induction f with
  | zero => intros; omega
  | succ f ih =>
    intro i hi hf n fb q u rb H locs ls hI hJ hP hD hS hl
    refine lv_iload_n hx hb dL_law_18 rfl (lv_at hl 3 rfl) ?_
    refine lv_aload_n hx hb dL_law_19 rfl (lv_at hl 0 rfl) ?_
    refine va_slen hx hb hX hbl hbA hS dL_law_20 ?_
    refine lv_iconst (v := (nI 5)) hx hb dL_law_21 (by decide) ?_
    refine lv_isub hx hb dL_law_22 ?_
    refine lv_icmp_gt (tgt := 404) hx hb dL_law_23 (by decide) (fun c1 => ?_) (fun c1 => ?_)
    · refine lv_iconst (v := (nI 1)) hx hb dL_law_404 (by decide) ?_
      refine va_forget (fun q hq => hS.2.2 q hq) ?_
      exact lw_ret hx hb hr hlocks dL_law_405
    · have hi5 := x_len5 hL (by omega) c1
      have kont : ∀ (n fb : Nat) (q : Nat → pV) (u : pR) (rb : Nat → Nat → Int32) (H : Heap) (locs : List Loc) (ls : Array Slot), p_ITr n q fb u → p_IM n q fb rb → va_P (dC, dI) vwCl (WTr ad cI cB (nI n) (nI fb) u ++ WM bd cI (nI n) (nI fb) rb) H → va_D (fun q : Nat => s.heap.size ≤ q) (WTr ad cI cB (nI n) (nI fb) u ++ WM bd cI (nI n) (nI fb) rb) → va_S (fun q : Nat => s.heap.size ≤ q) s.heap H locs → lv_has ls 4 [(0, .ref b), (1, .ref (ad 0)), (2, .ref (bd 0)), (3, .int (nI i))] → W p l e room_1 s m #[Value.ref b] below meth c H locs 600000 7290000 (lw_Z below #[Value.ref b] s) (F0 m 398 ls []) := by
        intro n fb q u rb H locs ls hI hJ hP hD hS hl
        refine lv_iinc (v := (nI (i + 5))) (lv' := [(3, .int (nI (i + 5))), (0, .ref b), (1, .ref (ad 0)), (2, .ref (bd 0))]) hx hb dL_law_398 hl (k := 3) rfl (x_inc5 _) (by decide) rfl (fun ls hl => ?_)
        refine lv_goto (tgt := 18) hx hb dL_law_401 (by decide) ?_
        exact ih (i + 5) (by omega) (by omega) n fb q u rb _ _ _ hI hJ hP hD hS (lv_sub hl [1, 2, 3, 0] rfl)
      refine lv_aload_n hx hb dL_law_26 rfl (lv_at hl 0 rfl) ?_
      refine lv_iload_n hx hb dL_law_27 rfl (lv_at hl 3 rfl) ?_
      refine x_sld hx hb hX hbl hbA hS (show i < L by omega) (by omega) dL_law_28 ?_
      refine lv_bipush (v := (nI 15)) hx hb dL_law_29 (by decide) ?_
      refine lv_iand hx hb dL_law_31 (x_top (pk_and (xs i) 4 (by decide)) ?_)
      have hy : (xs i).toBitVec.toNat % 2 ^ 4 < 16 := Nat.mod_lt _ (by decide)
      generalize (xs i).toBitVec.toNat % 2 ^ 4 = y at hy ⊢
      rcases (show y = 0 ∨ y = 1 ∨ y = 2 ∨ y = 3 ∨ y = 4 ∨ y = 5 ∨ y = 6 ∨ y = 7 ∨ y = 8 ∨ y = 9 ∨ 10 ≤ y by omega) with rfl | rfl | rfl | rfl | rfl | rfl | rfl | rfl | rfl | rfl | hy2
      · refine lv_tableIn (off := 56) (tgt := 88) hx hb dL_law_32 (by decide) (by decide) (by decide) (by decide) ?_
        exact lc_insert hL C1 hK ad bd i hi5 kont n fb q u rb _ _ _ hI hJ hP hD hS hl
      · refine lv_tableIn (off := 109) (tgt := 141) hx hb dL_law_32 (by decide) (by decide) (by decide) (by decide) ?_
        exact lc_remove hL C1 hK ad bd i hi5 kont n fb q u rb _ _ _ hI hJ hP hD hS hl
      · refine lv_tableIn (off := 132) (tgt := 164) hx hb dL_law_32 (by decide) (by decide) (by decide) (by decide) ?_
        exact lc_shift hL C1 hK ad bd i hi5 kont n fb q u rb _ _ _ hI hJ hP hD hS hl
      · refine lv_tableIn (off := 165) (tgt := 197) hx hb dL_law_32 (by decide) (by decide) (by decide) (by decide) ?_
        exact lc_otherwise hL C1 hK ad bd i hi5 kont n fb q u rb _ _ _ hI hJ hP hD hS hl
      · refine lv_tableIn (off := 188) (tgt := 220) hx hb dL_law_32 (by decide) (by decide) (by decide) (by decide) ?_
        exact lc_decide hL C1 hK ad bd i hi5 kont n fb q u rb _ _ _ hI hJ hP hD hS hl
      · refine lv_tableIn (off := 231) (tgt := 263) hx hb dL_law_32 (by decide) (by decide) (by decide) (by decide) ?_
        exact lc_action hL C1 hK ad bd i hi5 kont n fb q u rb _ _ _ hI hJ hP hD hS hl
      · refine lv_tableIn (off := 274) (tgt := 306) hx hb dL_law_32 (by decide) (by decide) (by decide) (by decide) ?_
        exact lc_decided hL C1 hK ad bd i hi5 kont n fb q u rb _ _ _ hI hJ hP hD hS hl
      · refine lv_tableIn (off := 297) (tgt := 329) hx hb dL_law_32 (by decide) (by decide) (by decide) (by decide) ?_
        exact lc_having hL C1 hK ad bd i hi5 kont n fb q u rb _ _ _ hI hJ hP hD hS hl
      · refine lv_tableIn (off := 320) (tgt := 352) hx hb dL_law_32 (by decide) (by decide) (by decide) (by decide) ?_
        exact lc_use hL C1 hK ad bd i hi5 kont n fb q u rb _ _ _ hI hJ hP hD hS hl
      · refine lv_tableIn (off := 343) (tgt := 375) hx hb dL_law_32 (by decide) (by decide) (by decide) (by decide) ?_
        exact lc_witness hL C1 hK ad bd i hi5 kont n fb q u rb _ _ _ hI hJ hP hD hS hl
      · refine lv_tableOut (tgt := 398) hx hb dL_law_32 (Or.inr (by rw [nI_toInt (by omega)]; omega)) (by decide) ?_
        exact kont n fb q u rb _ _ _ hI hJ hP hD hS hl
end
section
set_option maxHeartbeats 4000000 in
set_option maxRecDepth 100000 in
/-- the law, from its entry -/
theorem whole_start {p : Program} {e : Env} {s : State} {m : MethodId} {below : List Frame} {meth : Method} {c : Code} (l : Launch) {b L : Nat} {xs : Nat → Int32} (hL : L ≤ 320) (C0 : lw_At p s m meth c b L xs) : W p l e room_1 s m #[Value.ref b] below meth c s.heap [] 0 0 (lw_Z below #[Value.ref b] s) (entryFrame m ([Value.ref b] : List Value).toArray 4) := by
  have C1 := C0
  obtain ⟨hx, hb, hr, hml, hown, hts0, hX, hbl, hlocks, hgv⟩ := C0
  have hts : ∀ w ∈ lw_all, w.before #[Value.ref b] s = true := fun w h => hts0 w (lw_all_tbl h)
  have hA : ∀ q : Nat, s.heap.size ≤ q → (fun q : Nat => s.heap.size ≤ q) q := fun _ h => h
  have hbA : ¬ (fun q : Nat => s.heap.size ≤ q) b := Nat.not_le.mpr hbl
  obtain ⟨c0, iS0, hKn0⟩ := u_known (C := RX0) (T := TX0) (N := 15) (n := 15) hts in_X0 (hts _ q20)
  obtain ⟨c1, iS1, hKn1⟩ := u_known (C := RX1) (T := TX1) (N := 5) (n := 5) hts in_X1 (hts _ q164)
  obtain ⟨dC, dI, hKc⟩ : ∃ (dC : Nat → ClassId) (dI : Nat → Nat → Nat), ∀ (k : Nat) (q : vw_C), vwCl[k]? = some q → u_Kn s q.1 q.2.1 q.2.2 (dC k) (dI k) := by
    refine ⟨fun k => if k = 0 then c0 else c1, fun k => if k = 0 then iS0 else iS1, ?_⟩
    intro k q hq
    match k, hq with
    | 0, hq => cases hq; exact hKn0
    | 1, hq => cases hq; exact hKn1
    | k + 2, hq => simp [vwCl] at hq
  obtain ⟨cI, kI, compI, hI1, hI2, hI3⟩ := Cond.arrayClass_spec (hts _ q73)
  obtain ⟨cB, kB, compB, hB1, hB2, hB3⟩ := Cond.arrayClass_spec (hts _ q74)
  have hK : va_K (dC, dI) vwCl (tyT cI cB) s := by
    refine ⟨hKc, fun k q hq => ?_⟩
    match k, hq with
    | 0, hq => cases hq; exact ⟨fun n z => ⟨fun k h => (by cases h), kI, hI2, compI, hI3⟩, hI1⟩
    | 1, hq => cases hq; exact ⟨fun n z => ⟨fun k h => (by cases h), kB, hB2, compB, hB3⟩, hB1⟩
    | k + 2, hq => simp [tyT] at hq
  have hS : va_S (fun q : Nat => s.heap.size ≤ q) s.heap s.heap [] := va_S.rf
  have hP : va_P (dC, dI) vwCl [] s.heap := fun k q h => by simp at h
  have hD : va_D (fun q : Nat => s.heap.size ≤ q) [] := ⟨fun i j p q h => by simp at h, fun k q h => by simp at h⟩
  have hl := lv_entry ([.ref b]) (n := 4) (Nat.le_of_ble_eq_true rfl)
  rw [lg_entry_eq]
  generalize (lg_sl ([.ref b]) ++ List.replicate (4 - (lg_sl ([.ref b])).length) Slot.unset).toArray = ls at hl ⊢
  have hl : lv_has ls 4 [(0, .ref b)] := hl
  refine va_new (ci := 0) (fs := [.int 0, .int 0, .null, .null, .null, .null, .null, .null, .int 0, .int 0, .int 0, .null, .null, .null, .null]) (C := RX0) (T := TX0) (N := 15) hx hb hts in_X0 tyX0 tyX0_ok hown (hts _ q19) (hts _ q20) (hts _ q17) hK hP hD hS hA rfl (fun j hj => by rcases (show j = 0 ∨ j = 1 ∨ j = 2 ∨ j = 3 ∨ j = 4 ∨ j = 5 ∨ j = 6 ∨ j = 7 ∨ j = 8 ∨ j = 9 ∨ j = 10 ∨ j = 11 ∨ j = 12 ∨ j = 13 ∨ j = 14 by omega) with rfl | rfl | rfl | rfl | rfl | rfl | rfl | rfl | rfl | rfl | rfl | rfl | rfl | rfl | rfl <;> rfl) (Nat.le_of_ble_eq_true rfl) (Nat.le_of_ble_eq_true rfl) dL_law_0 (fun h0 H hP hD hS => ?_)
  refine W.widen (k := 1) (n := 15) (Nat.le_of_ble_eq_true rfl) (Nat.le_of_ble_eq_true rfl) ?_
  have hP : va_P (dC, dI) vwCl ([] ++ [(h0, .inr (0, [.int 0, .int 0, .null, .null, .null, .null, .null, .null, .int 0, .int 0, .int 0, .null, .null, .null, .null]))]) H := hP
  have hD : va_D (fun q : Nat => s.heap.size ≤ q) ([] ++ [(h0, .inr (0, [.int 0, .int 0, .null, .null, .null, .null, .null, .null, .int 0, .int 0, .int 0, .null, .null, .null, .null]))]) := hD
  refine lv_dup hx hb dL_law_3 rfl ?_
  refine x_lawv (va_runI (As := []) (rest := [.ref h0]) ⟨hx, hb, hml, hown, hts⟩ (m0_init l dC dI cI cB h0 H.size) (cwI 0 hts (lw_meth q23) rfl rfl rfl (hts _ q17) (hts _ q21) (hts _ q22) rfl (by decide +kernel) ⟨Nat.le_of_ble_eq_true rfl, Nat.le_of_ble_eq_true rfl⟩) (x_preI hK (vl_Pr hP) (vl_Dr hD)) rfl rfl hl.1 rfl (lv_room (Nat.le_of_ble_eq_true rfl)) dL_law_4 ⟨Nat.le_of_ble_eq_true rfl, Nat.le_of_ble_eq_true rfl⟩) hP hD hS hA (fun ad H locs had hPn hDn hS => ?_)
  refine W.widen (k := 11) (n := 5549) (Nat.le_of_ble_eq_true rfl) (Nat.le_of_ble_eq_true rfl) ?_
  subst had
  have hP := hPn
  have hD := hDn
  have hP : va_P (dC, dI) vwCl (WT ad cI cB 0 0 z_ra 0 0 0 z_f z_f z_f z_f) H := hP
  have hD : va_D (fun q : Nat => s.heap.size ≤ q) (WT ad cI cB 0 0 z_ra 0 0 0 z_f z_f z_f z_f) := hD
  refine lv_astore_n (lv' := [(1, .ref (ad 0)), (0, .ref b)]) hx hb dL_law_7 rfl hl (by decide) rfl (fun ls hl => ?_)
  refine va_new (ci := 1) (fs := [.int 0, .null, .null, .null, .int 0]) (C := RX1) (T := TX1) (N := 5) hx hb hts in_X1 tyX1 tyX1_ok hown (hts _ q163) (hts _ q164) (hts _ q18) hK hP hD hS hA rfl (fun j hj => by rcases (show j = 0 ∨ j = 1 ∨ j = 2 ∨ j = 3 ∨ j = 4 by omega) with rfl | rfl | rfl | rfl | rfl <;> rfl) (Nat.le_of_ble_eq_true rfl) (Nat.le_of_ble_eq_true rfl) dL_law_8 (fun h1 H hP hD hS => ?_)
  refine W.widen (k := 12) (n := 5554) (Nat.le_of_ble_eq_true rfl) (Nat.le_of_ble_eq_true rfl) ?_
  have hP : va_P (dC, dI) vwCl (WT ad cI cB 0 0 z_ra 0 0 0 z_f z_f z_f z_f ++ [(h1, .inr (1, [.int 0, .null, .null, .null, .int 0]))]) H := hP
  have hD : va_D (fun q : Nat => s.heap.size ≤ q) (WT ad cI cB 0 0 z_ra 0 0 0 z_f z_f z_f z_f ++ [(h1, .inr (1, [.int 0, .null, .null, .null, .int 0]))]) := hD
  refine lv_dup hx hb dL_law_11 rfl ?_
  refine x_lawv (va_runI (As := []) (rest := [.ref h1]) ⟨hx, hb, hml, hown, hts⟩ (m1_init l dC dI cI h1 H.size) (cwI 0 hts (lw_meth q167) rfl rfl rfl (hts _ q18) (hts _ q165) (hts _ q166) rfl (by decide +kernel) ⟨Nat.le_of_ble_eq_true rfl, Nat.le_of_ble_eq_true rfl⟩) (x_preI (hK.sub (tys' := tyM cI) [0] rfl) (vl_Pr hP) (vl_Dr hD)) rfl rfl hl.1 rfl (lv_room (Nat.le_of_ble_eq_true rfl)) dL_law_12 ⟨Nat.le_of_ble_eq_true rfl, Nat.le_of_ble_eq_true rfl⟩) hP hD hS hA (fun bd H locs hbd hPn hDn hS => ?_)
  refine W.widen (k := 600000) (n := 7290000) (Nat.le_of_ble_eq_true rfl) (Nat.le_of_ble_eq_true rfl) ?_
  subst hbd
  have hP := hPn
  have hD := hDn
  refine lv_astore_n (lv' := [(2, .ref (bd 0)), (1, .ref (ad 0)), (0, .ref b)]) hx hb dL_law_15 rfl hl (by decide) rfl (fun ls hl => ?_)
  refine lv_iconst (v := (nI 0)) hx hb dL_law_16 (by decide) ?_
  refine lv_istore_n (lv' := [(3, .int (nI 0)), (2, .ref (bd 0)), (1, .ref (ad 0)), (0, .ref b)]) hx hb dL_law_17 rfl hl (by decide) rfl (fun ls hl => ?_)
  exact law_loop hL C1 hK ad bd (L + 1) 0 (Nat.zero_le L) (by omega) 0 0 (fun _ => (0, 0, 0)) z_R z_ra _ _ _ (p_IT_0 _) (p_IM_0 _) hP hD hS (lv_sub hl [3, 2, 1, 0] rfl)
end
section
-- ===== YOUR PART ENDS =====
set_option maxHeartbeats 4000000 in
theorem lw_walk (l : Launch) (b : Addr) (xs : List Int32) : MetFree l x (headSpec (Jvm.Cond.code x code maxLocals ret :: tables_1) room_1) (lw_P b xs) (fun _ _ _ _ _ => True) lw_Q := by
  refine MetFree.of_bodyS (code := code) (maxLocals := maxLocals) (ret := ret) (by decide) ?_ ?_
  · intro args s m h hn
    obtain ⟨meth, c, h1, h2, h3, h4, h5, h6, -, -⟩ := Cond.code_spec hn (atoms_spec (ws := Jvm.Cond.code x code maxLocals ret :: tables_1) h _ List.mem_cons_self)
    exact ⟨meth, c, h1, h2, h3, h4, h5, h6⟩
  · intro p e s m args below meth c s₁ B hml0 hP _
    obtain ⟨rfl, hx, hbd, hgv⟩ := hP
    obtain ⟨scr, harrAt, hlist, hof, hsmall⟩ := hx
    obtain ⟨hcb, hkn, -, -⟩ := State.arrayAt?_spec harrAt
    have hown : s.vm.findClass R_law = some m.cls := findClass_of_methodNamed B.named
    have hts0 : ∀ c ∈ (Jvm.Cond.code x code maxLocals ret :: tables_1), c.before #[Value.ref b] s = true := atoms_spec (ws := Jvm.Cond.code x code maxLocals ret :: tables_1) B.pre
    have hts : ∀ w ∈ lw_tbl, w.before #[Value.ref b] s = true := k2_hts_sels lw_privs (fun w hw => hts0 w (List.mem_cons_of_mem _ hw)) lw_privs_ok
    have hml : c.maxLocals = 4 := B.maxLocals_eq (hts0 _ List.mem_cons_self)
    have X₀ : Stand p l e room_1 s m #[Value.ref b] below meth c s₁ [] 0 0 := Stand.of_body B
    have hh0 : s₁.heap = s.heap := by rw [B.state]; rfl
    have hsz : scr.slots.size = xs.length := by rw [← Array.length_toList, hlist, List.length_map]
    have hval : ∀ j : Nat, j < xs.length → scr.slots[j]? = some (.int (xs.getD j 0)) := fun j hj => by
      rw [← Array.getElem?_toList, hlist]
      simp [hj]
    have hbl : b < s.heap.size := (Array.getElem?_eq_some_iff.mp hcb).1
    have hX : va_X b xs.length (fun j => xs.getD j 0) s s.heap := ⟨scr, hcb, hof, hkn, hsz, hval⟩
    have K : W p l e room_1 s m #[Value.ref b] below meth c s₁.heap [] 0 0 (lw_Z below #[Value.ref b] s) (entryFrame m ([Value.ref b] : List Value).toArray 4) := by
      rw [hh0]
      exact whole_start l hbd ⟨B.exec, B.bytes, B.returns, hml, hown, hts, hX, hbl, B.notSynchronized, hgv⟩
    obtain ⟨t, a1, o, b1, b2, b3⟩ := K s₁ rfl X₀
    exact ⟨t, o, a1, b1, b2, b3⟩
theorem lw_pre_spec {args : Array Value} {s : State} (h : (Jvm.Cond.and given_1 narrow_1).before args s = true) (hr : rest_1_c.before args s = true) : ∃ (b : Addr) (xs : List Int32), lw_P b xs args s := by
  have hs := flat_of_before _ h
  have hq := flat_of_before _ hr
  have hc : (Cond.count 1).before args s = true := hs _ (by decide +kernel)
  have harr : (Cond.arrayOf (.arg 0) .int).before args s = true := hs _ (by decide +kernel)
  have hle : (Cond.le (.length (.arg 0)) (.int 320)).before args s = true := hs _ (by decide +kernel)
  have hlen : (Cond.isInt (.length (.arg 0))).before args s = true := hq _ (by decide +kernel)
  have hall : (Cond.all (.arg 0) (.isInt (.elem (.arg 0) (.index 0)))).before args s = true := hq _ (by decide +kernel)
  obtain ⟨b, xs, hb, hx⟩ := State.ints_of_pre rfl harr hlen hall
  have hsm : xs.length < 2 ^ 31 := hx.choose_spec.2.2.2
  have hev : (Term.length (.arg 0)).eval args s none [] s = some (.int xs.length.toInt32) := hx.length_eval hb
  have hv := Cond.le_ints hev (show (Term.int 320).eval args s none [] s = some (.int 320) from rfl)
  have hd : xs.length.toInt32 ≤ 320 := by
    simpa [Cond.before, Cond.holds, hv] using hle
  have hN : xs.length ≤ 320 := (Int32.ofNat_le_ofNat hsm (by decide)).mp (show Int32.ofNat xs.length ≤ Int32.ofNat 320 from hd)
  exact ⟨b, xs, Cond.one_arg hc (show args[0]? = some (.ref b) from hb), hx, hN, h⟩
theorem lw_comes (l : Launch) : Comes l x (Jvm.Cond.code x code maxLocals ret :: tables_1) room_1 (fun tb e args s => Calls_1 tb e args s ∧ rest_1 tb e args s ∧ Pre_1 tb e args s)
    (fun _ _ args s o t => lw_Q args s o t) := by
  intro p e ha hc hk s m args below hf hfit hheap happ hpre
  obtain ⟨b, xs, hP⟩ := lw_pre_spec hpre.2.2 hpre.2.1
  obtain ⟨k, o, h1, h2, h3, hQ⟩ := lw_walk l b xs p e ha hc hk s m args below hf ((Spec.applies_iff_loose hf).mp happ).1 hP trivial
  exact ⟨k, o, h1, h2, h3, hQ⟩
theorem lw_frame {s t : State} {o : Outcome} {args : Array Value} (h : Framed s o t [] 600000 7290000) :
    Framed s o t (fieldLocs frame_1_writes args s ++ arrayLocs frame_1_arrays args s ++ staticLocs frame_1_statics s) 600000 7290000 := h
theorem lw_limb (L : Cond) (hL : ∀ (args : Array Value) (s t : State), L.after args s (.returned (some (.int 1))) t = true) :
    ArmFor flags0 classFile x code maxLocals ret World_1 tables_1 room_1 Calls_1 rest_1 Pre_1
      (fun tb e a s o t => postC L tb e a s o t ∧ Framed s o t (fieldLocs frame_1_writes a s ++ arrayLocs frame_1_arrays a s ++ staticLocs frame_1_statics s) 600000 7290000) := by
  intro l _ _ _ p e ha hc hk s m args below hf hfit hheap happ hpre
  obtain ⟨k, o, h1, h2, h3, rfl, hF⟩ := lw_comes l p e ha hc hk s m args below hf hfit hheap happ hpre
  exact ⟨k, _, h1, h2, h3, hL args s _, lw_frame hF⟩
theorem i_vc : Claimed_1_1 ∧ Claimed_1_2 := ⟨lw_limb limb_1_1 (fun args s t => by simp [limb_1_1, Cond.after, Cond.holds, Cond.value]), lw_limb limb_1_2 (fun args s t => Cond.after_iff.mpr (by
  first | (rw [show limb_1_2 = Cond.eq .result (.int 1) from rfl, Cond.eq_ints (x := 1) (y := 1) rfl rfl]; simp; done) | (simp [limb_1_2, Cond.value, Term.eval]; done)))⟩
end
