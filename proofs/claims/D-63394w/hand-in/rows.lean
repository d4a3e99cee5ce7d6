section
-- ===== PART A: goes FIRST, ahead of the names: the tables' words, and 'selects' of the private methods out of them =====
/-- a private method of a class that the tables say can be made, by its rows of tables_1 -/
def lw_okq (q : MethodName × Nat) : Prop := (q.1.cls ≠ "java/lang/invoke/MethodHandle" ∧ q.1.cls ≠ "java/lang/invoke/VarHandle") ∧ Cond.instantiable q.1.cls q.2 ∈ tables_1 ∧ Cond.privateMethod q.1 ∈ tables_1 ∧ Cond.instanceMethod q.1 ∈ tables_1
set_option maxRecDepth 100000
theorem lw_t1 {w : Cond} (h : w ∈ tables_1_1) : w ∈ tables_1 := List.mem_append_left _ h
theorem lw_t2 {w : Cond} (h : w ∈ tables_1_2) : w ∈ tables_1 := List.mem_append_right _ h
theorem lw_p0 : lw_okq (⟨"PrettyStream", "addPiece", "(II)I"⟩, 17) := ⟨⟨by decide +kernel, by decide +kernel⟩, lw_t1 (List.mem_of_getElem? (i := 4) rfl), lw_t1 (List.mem_of_getElem? (i := 74) rfl), lw_t1 (List.mem_of_getElem? (i := 75) rfl)⟩
theorem lw_p1 : lw_okq (⟨"PrettyStream", "prepare", "()V"⟩, 17) := ⟨⟨by decide +kernel, by decide +kernel⟩, lw_t1 (List.mem_of_getElem? (i := 4) rfl), lw_t1 (List.mem_of_getElem? (i := 95) rfl), lw_t1 (List.mem_of_getElem? (i := 96) rfl)⟩
theorem lw_p2 : lw_okq (⟨"PrettyStream", "measure", "()V"⟩, 17) := ⟨⟨by decide +kernel, by decide +kernel⟩, lw_t1 (List.mem_of_getElem? (i := 4) rfl), lw_t1 (List.mem_of_getElem? (i := 99) rfl), lw_t1 (List.mem_of_getElem? (i := 100) rfl)⟩
theorem lw_p3 : lw_okq (⟨"PrettyStream", "settle", "(II)V"⟩, 17) := ⟨⟨by decide +kernel, by decide +kernel⟩, lw_t1 (List.mem_of_getElem? (i := 4) rfl), lw_t1 (List.mem_of_getElem? (i := 103) rfl), lw_t1 (List.mem_of_getElem? (i := 104) rfl)⟩
theorem lw_p4 : lw_okq (⟨"PrettyStream", "layOut", "(I)V"⟩, 17) := ⟨⟨by decide +kernel, by decide +kernel⟩, lw_t1 (List.mem_of_getElem? (i := 4) rfl), lw_t1 (List.mem_of_getElem? (i := 107) rfl), lw_t1 (List.mem_of_getElem? (i := 108) rfl)⟩
theorem lw_p5 : lw_okq (⟨"PrettyStreamModel", "add", "(II)I"⟩, 12) := ⟨⟨by decide +kernel, by decide +kernel⟩, lw_t1 (List.mem_of_getElem? (i := 134) rfl), lw_t1 (List.mem_of_getElem? (i := 185) rfl), lw_t1 (List.mem_of_getElem? (i := 186) rfl)⟩
theorem lw_p6 : lw_okq (⟨"PrettyStreamModel", "waiting", "()I"⟩, 12) := ⟨⟨by decide +kernel, by decide +kernel⟩, lw_t1 (List.mem_of_getElem? (i := 134) rfl), lw_t1 (List.mem_of_getElem? (i := 197) rfl), lw_t1 (List.mem_of_getElem? (i := 198) rfl)⟩
theorem lw_p7 : lw_okq (⟨"PrettyStreamModel", "missing", "(I)Z"⟩, 12) := ⟨⟨by decide +kernel, by decide +kernel⟩, lw_t1 (List.mem_of_getElem? (i := 134) rfl), lw_t1 (List.mem_of_getElem? (i := 210) rfl), lw_t1 (List.mem_of_getElem? (i := 211) rfl)⟩
theorem lw_p8 : lw_okq (⟨"PrettyStreamModel", "lay", "(I)V"⟩, 12) := ⟨⟨by decide +kernel, by decide +kernel⟩, lw_t1 (List.mem_of_getElem? (i := 134) rfl), lw_t1 (List.mem_of_getElem? (i := 214) rfl), lw_t1 (List.mem_of_getElem? (i := 215) rfl)⟩
theorem lw_p9 : lw_okq (⟨"PrettyStreamModel", "enter", "(III)V"⟩, 12) := ⟨⟨by decide +kernel, by decide +kernel⟩, lw_t1 (List.mem_of_getElem? (i := 134) rfl), lw_t1 (List.mem_of_getElem? (i := 218) rfl), lw_t1 (List.mem_of_getElem? (i := 219) rfl)⟩
theorem lw_p10 : lw_okq (⟨"PrettyStreamModel", "reach", "(I)I"⟩, 12) := ⟨⟨by decide +kernel, by decide +kernel⟩, lw_t1 (List.mem_of_getElem? (i := 134) rfl), lw_t1 (List.mem_of_getElem? (i := 222) rfl), lw_t1 (List.mem_of_getElem? (i := 223) rfl)⟩
def lw_privs_1 : List (MethodName × Nat) := [(⟨"PrettyStream", "addPiece", "(II)I"⟩, 17), (⟨"PrettyStream", "prepare", "()V"⟩, 17), (⟨"PrettyStream", "measure", "()V"⟩, 17), (⟨"PrettyStream", "settle", "(II)V"⟩, 17), (⟨"PrettyStream", "layOut", "(I)V"⟩, 17), (⟨"PrettyStreamModel", "add", "(II)I"⟩, 12), (⟨"PrettyStreamModel", "waiting", "()I"⟩, 12), (⟨"PrettyStreamModel", "missing", "(I)Z"⟩, 12), (⟨"PrettyStreamModel", "lay", "(I)V"⟩, 12), (⟨"PrettyStreamModel", "enter", "(III)V"⟩, 12), (⟨"PrettyStreamModel", "reach", "(I)I"⟩, 12)]
theorem lw_r1 : ∀ q ∈ lw_privs_1, lw_okq q := List.forall_mem_cons.mpr ⟨lw_p0, List.forall_mem_cons.mpr ⟨lw_p1, List.forall_mem_cons.mpr ⟨lw_p2, List.forall_mem_cons.mpr ⟨lw_p3, List.forall_mem_cons.mpr ⟨lw_p4, List.forall_mem_cons.mpr ⟨lw_p5, List.forall_mem_cons.mpr ⟨lw_p6, List.forall_mem_cons.mpr ⟨lw_p7, List.forall_mem_cons.mpr ⟨lw_p8, List.forall_mem_cons.mpr ⟨lw_p9, List.forall_mem_cons.mpr ⟨lw_p10, fun _ h => absurd h List.not_mem_nil⟩⟩⟩⟩⟩⟩⟩⟩⟩⟩⟩
def lw_privs : List (MethodName × Nat) := lw_privs_1
def lw_tbl : List Cond := k2_sels lw_privs ++ tables_1
theorem lw_privs_ok : ∀ q ∈ lw_privs, lw_okq q := lw_r1
-- ===== ONE list of words for every method: the tables' words that hold all through a run =====
def lw_all : List Cond := lw_tbl.filter goodWord
/-- a word of the tables by its place: claim/WORDS.tsv -/
theorem lw_w {w : Cond} (i : Nat) (h : lw_tbl[i]? = some w) (g : goodWord w = true) : w ∈ lw_all := List.mem_filter.mpr ⟨List.mem_of_getElem? h, g⟩
theorem lw_all_tbl {w : Cond} (h : w ∈ lw_all) : w ∈ lw_tbl := (List.mem_filter.mp h).1
theorem lw_self : GoodIn lw_all lw_all := fun w h => ⟨h, good_of_word (List.mem_filter.mp h).2⟩
/-- a class's field words, by their places -/
theorem lw_in (ws : List Cond) (ps : List Nat) (hp : ws = ps.filterMap (fun i => lw_tbl[i]?)) (hg : ws.all goodWord = true) : ∀ w ∈ ws, w ∈ lw_all := by
  intro w h
  have h1 := List.all_eq_true.mp hg w h
  rw [hp] at h
  obtain ⟨i, -, hi⟩ := List.mem_filterMap.mp h
  exact lw_w i hi h1
/-- the words of a contract for the method y with code b, L locals, answer r -/
abbrev ws_ (y : MethodName) (b : ByteArray) (L : Nat) (r : Option FieldType) : List Cond := Cond.code y b L r :: lw_all
theorem lw_meth {y : MethodName} {b : ByteArray} {L : Nat} {r : Option FieldType} (h : Cond.code y b L r ∈ lw_all) : GoodIn lw_all (ws_ y b L r) := by
  intro w hw
  rcases List.mem_cons.mp hw with e | e
  · rw [e]
    exact lw_self _ h
  · exact lw_self _ e
theorem lw_app {a c : List Cond} (ha : ∀ w ∈ a, w ∈ lw_all) (hc : GoodIn lw_all c) : GoodIn lw_all (a ++ c) := by
  intro w hw
  rcases List.mem_append.mp hw with e | e
  · exact lw_self w (ha w e)
  · exact hc w e
/-- what a call through an object asks: cwV n hts (lw_V ..) -/
theorem lw_V {own : String} {idx : Nat} {C : String} {y : MethodName} {b : ByteArray} {L : Nat} {r : Option FieldType} (h1 : Cond.methodLink own idx y ∈ lw_all) (h2 : Cond.instanceMethod y ∈ lw_all) (h3 : Cond.selects C y y ∈ lw_all) (h4 : Cond.initialized C ∈ lw_all) (h5 : Cond.code y b L r ∈ lw_all) : GoodIn lw_all (wsV own idx C y (ws_ y b L r)) := by
  refine lw_app ?_ (lw_meth h5)
  intro w hw
  simp only [List.mem_cons, List.not_mem_nil, or_false] at hw
  rcases hw with e | e | e | e
  · rw [e]; exact h1
  · rw [e]; exact h2
  · rw [e]; exact h3
  · rw [e]; exact h4
/-- what a static call asks: va_cwS n hts (lw_S ..) -/
theorem lw_S {own : String} {idx : Nat} {y : MethodName} {b : ByteArray} {L : Nat} {r : Option FieldType} (h1 : Cond.methodLink own idx y ∈ lw_all) (h2 : Cond.static y ∈ lw_all) (h3 : Cond.initialized y.cls ∈ lw_all) (h4 : Cond.code y b L r ∈ lw_all) : GoodIn lw_all (va_wsS own idx y (ws_ y b L r)) := by
  refine lw_app ?_ (lw_meth h4)
  intro w hw
  simp only [List.mem_cons, List.not_mem_nil, or_false] at hw
  rcases hw with e | e | e
  · rw [e]; exact h1
  · rw [e]; exact h2
  · rw [e]; exact h3
/-- the words of a contract for a method WITH HANDLERS (hh: its table) -/
abbrev wsW_ (y : MethodName) (b : ByteArray) (L : Nat) (r : Option FieldType) (hh : List (Nat × Nat × Nat × Nat)) : List Cond := Cond.codeWith y b L r hh :: lw_all
theorem lw_methW {y : MethodName} {b : ByteArray} {L : Nat} {r : Option FieldType} {hh : List (Nat × Nat × Nat × Nat)} (h : Cond.codeWith y b L r hh ∈ lw_all) : GoodIn lw_all (wsW_ y b L r hh) := by
  intro w hw
  rcases List.mem_cons.mp hw with e | e
  · rw [e]
    exact lw_self _ h
  · exact lw_self _ e
/-- any list of words by their places (lw_in), good -/
theorem lw_good {ws : List Cond} (h : ∀ w ∈ ws, w ∈ lw_all) : GoodIn lw_all ws := fun w hw => lw_self w (h w hw)
/-- what a call of a method with handlers asks: vx_cwVW n hts (lw_VW ..), vx_cwSW n hts (lw_SW ..) -/
theorem lw_VW {own : String} {idx : Nat} {C : String} {y : MethodName} {b : ByteArray} {L : Nat} {r : Option FieldType} {hh : List (Nat × Nat × Nat × Nat)} (h1 : Cond.methodLink own idx y ∈ lw_all) (h2 : Cond.instanceMethod y ∈ lw_all) (h3 : Cond.selects C y y ∈ lw_all) (h4 : Cond.initialized C ∈ lw_all) (h5 : Cond.codeWith y b L r hh ∈ lw_all) : GoodIn lw_all (wsV own idx C y (wsW_ y b L r hh)) := by
  refine lw_app ?_ (lw_methW h5)
  intro w hw
  simp only [List.mem_cons, List.not_mem_nil, or_false] at hw
  rcases hw with e | e | e | e
  · rw [e]; exact h1
  · rw [e]; exact h2
  · rw [e]; exact h3
  · rw [e]; exact h4
theorem lw_SW {own : String} {idx : Nat} {y : MethodName} {b : ByteArray} {L : Nat} {r : Option FieldType} {hh : List (Nat × Nat × Nat × Nat)} (h1 : Cond.methodLink own idx y ∈ lw_all) (h2 : Cond.static y ∈ lw_all) (h3 : Cond.initialized y.cls ∈ lw_all) (h4 : Cond.codeWith y b L r hh ∈ lw_all) : GoodIn lw_all (va_wsS own idx y (wsW_ y b L r hh)) := by
  refine lw_app ?_ (lw_methW h4)
  intro w hw
  simp only [List.mem_cons, List.not_mem_nil, or_false] at hw
  rcases hw with e | e | e
  · rw [e]; exact h1
  · rw [e]; exact h2
  · rw [e]; exact h3
/-- a word by its place in its run of the tables -/
theorem lw_at {r : List Cond} (hr : ∀ w ∈ r, w ∈ lw_tbl) {w : Cond} (i : Nat) (h : r[i]? = some w) : w ∈ lw_tbl := hr w (List.mem_of_getElem? h)
theorem lw_g {w : Cond} (h : w ∈ lw_tbl) (g : goodWord w = true) : w ∈ lw_all := List.mem_filter.mpr ⟨h, g⟩
theorem lw_ms : ∀ w ∈ k2_sels lw_privs, w ∈ lw_tbl := fun w h => show w ∈ k2_sels lw_privs ++ tables_1 from List.mem_append_left _ h
theorem lw_m1 : ∀ w ∈ tables_1_1, w ∈ lw_tbl := fun w h => show w ∈ k2_sels lw_privs ++ tables_1 from List.mem_append_right (k2_sels lw_privs) (show w ∈ tables_1 from List.mem_append_left _ h)
theorem lw_m2 : ∀ w ∈ tables_1_2, w ∈ lw_tbl := fun w h => show w ∈ k2_sels lw_privs ++ tables_1 from List.mem_append_right (k2_sels lw_privs) (show w ∈ tables_1 from List.mem_append_right _ h)
theorem qs0 : (Cond.selects "PrettyStream" ⟨"PrettyStream", "addPiece", "(II)I"⟩ ⟨"PrettyStream", "addPiece", "(II)I"⟩) ∈ lw_all := lw_g (lw_at lw_ms 0 rfl) rfl
theorem qs1 : (Cond.selects "PrettyStream" ⟨"PrettyStream", "prepare", "()V"⟩ ⟨"PrettyStream", "prepare", "()V"⟩) ∈ lw_all := lw_g (lw_at lw_ms 1 rfl) rfl
theorem qs2 : (Cond.selects "PrettyStream" ⟨"PrettyStream", "measure", "()V"⟩ ⟨"PrettyStream", "measure", "()V"⟩) ∈ lw_all := lw_g (lw_at lw_ms 2 rfl) rfl
theorem qs3 : (Cond.selects "PrettyStream" ⟨"PrettyStream", "settle", "(II)V"⟩ ⟨"PrettyStream", "settle", "(II)V"⟩) ∈ lw_all := lw_g (lw_at lw_ms 3 rfl) rfl
theorem qs4 : (Cond.selects "PrettyStream" ⟨"PrettyStream", "layOut", "(I)V"⟩ ⟨"PrettyStream", "layOut", "(I)V"⟩) ∈ lw_all := lw_g (lw_at lw_ms 4 rfl) rfl
theorem qs5 : (Cond.selects "PrettyStreamModel" ⟨"PrettyStreamModel", "add", "(II)I"⟩ ⟨"PrettyStreamModel", "add", "(II)I"⟩) ∈ lw_all := lw_g (lw_at lw_ms 5 rfl) rfl
theorem qs6 : (Cond.selects "PrettyStreamModel" ⟨"PrettyStreamModel", "waiting", "()I"⟩ ⟨"PrettyStreamModel", "waiting", "()I"⟩) ∈ lw_all := lw_g (lw_at lw_ms 6 rfl) rfl
theorem qs7 : (Cond.selects "PrettyStreamModel" ⟨"PrettyStreamModel", "missing", "(I)Z"⟩ ⟨"PrettyStreamModel", "missing", "(I)Z"⟩) ∈ lw_all := lw_g (lw_at lw_ms 7 rfl) rfl
theorem qs8 : (Cond.selects "PrettyStreamModel" ⟨"PrettyStreamModel", "lay", "(I)V"⟩ ⟨"PrettyStreamModel", "lay", "(I)V"⟩) ∈ lw_all := lw_g (lw_at lw_ms 8 rfl) rfl
theorem qs9 : (Cond.selects "PrettyStreamModel" ⟨"PrettyStreamModel", "enter", "(III)V"⟩ ⟨"PrettyStreamModel", "enter", "(III)V"⟩) ∈ lw_all := lw_g (lw_at lw_ms 9 rfl) rfl
theorem qs10 : (Cond.selects "PrettyStreamModel" ⟨"PrettyStreamModel", "reach", "(I)I"⟩ ⟨"PrettyStreamModel", "reach", "(I)I"⟩) ∈ lw_all := lw_g (lw_at lw_ms 10 rfl) rfl
end
section
/-! java/lang/Object -/
set_option maxRecDepth 100000
def RJ0 : String := "java/lang/Object"
abbrev cJ0_init : ByteArray := object_method_1_code
def yJ0_init : MethodName := ⟨RJ0, "<init>", "()V"⟩
theorem dJ0_init_0 : decode cJ0_init 0 = .ok (.return_, 1) := by decide +kernel
theorem q20 : (Jvm.Cond.instanceMethod ({ cls := "java/lang/Object", name := "<init>", desc := "()V" } : Jvm.MethodName)) ∈ lw_all := lw_g (lw_at lw_m1 9 rfl) rfl
theorem q21 : (Jvm.Cond.code ({ cls := "java/lang/Object", name := "<init>", desc := "()V" } : Jvm.MethodName) object_method_1_code (1 : Nat) (Option.none : Option Jvm.ClassFile.FieldType)) ∈ lw_all := lw_g (lw_at lw_m1 10 rfl) rfl

theorem q78 : (Jvm.Cond.arrayClass Jvm.ClassFile.FieldType.int) ∈ lw_all := lw_g (lw_at lw_m1 67 rfl) rfl
set_option maxRecDepth 100000
theorem q79 : (Jvm.Cond.arrayClass Jvm.ClassFile.FieldType.boolean) ∈ lw_all := lw_g (lw_at lw_m1 68 rfl) rfl

/-! PrettyStreamLaw -/
set_option maxRecDepth 100000
def RX0 : String := "PrettyStreamLaw"
abbrev cX0_cell : ByteArray := method_2_code
def yX0_cell : MethodName := ⟨RX0, "cell", "([II)I"⟩
theorem dX0_cell_0 : decode cX0_cell 0 = .ok (.iload_n 1, 1) := by decide +kernel
theorem dX0_cell_1 : decode cX0_cell 1 = .ok (.aload_n 0, 1) := by decide +kernel
theorem dX0_cell_2 : decode cX0_cell 2 = .ok (.arraylength, 1) := by decide +kernel
theorem dX0_cell_3 : decode cX0_cell 3 = .ok (.if_icmp .ge 9, 3) := by decide +kernel
theorem dX0_cell_6 : decode cX0_cell 6 = .ok (.aload_n 0, 1) := by decide +kernel
theorem dX0_cell_7 : decode cX0_cell 7 = .ok (.iload_n 1, 1) := by decide +kernel
theorem dX0_cell_8 : decode cX0_cell 8 = .ok (.iaload, 1) := by decide +kernel
theorem dX0_cell_9 : decode cX0_cell 9 = .ok (.goto 4, 3) := by decide +kernel
theorem dX0_cell_12 : decode cX0_cell 12 = .ok (.iconst 0, 1) := by decide +kernel
theorem dX0_cell_13 : decode cX0_cell 13 = .ok (.ireturn, 1) := by decide +kernel
theorem q11 : (Jvm.Cond.initialized "PrettyStreamLaw") ∈ lw_all := lw_g (lw_at lw_m1 0 rfl) rfl
theorem q14 : (Jvm.Cond.classLink "PrettyStreamLaw" (7 : Nat) "PrettyStream") ∈ lw_all := lw_g (lw_at lw_m1 3 rfl) rfl
theorem q16 : (Jvm.Cond.methodLink "PrettyStreamLaw" (15 : Nat) ({ cls := "PrettyStream", name := "<init>", desc := "(I)V" } : Jvm.MethodName)) ∈ lw_all := lw_g (lw_at lw_m1 5 rfl) rfl
theorem q80 : (Jvm.Cond.methodLink "PrettyStreamLaw" (21 : Nat) ({ cls := "PrettyStream", name := "word", desc := "(I)I" } : Jvm.MethodName)) ∈ lw_all := lw_g (lw_at lw_m1 69 rfl) rfl
theorem q88 : (Jvm.Cond.methodLink "PrettyStreamLaw" (26 : Nat) ({ cls := "PrettyStream", name := "lineBreak", desc := "()I" } : Jvm.MethodName)) ∈ lw_all := lw_g (lw_at lw_m1 77 rfl) rfl
theorem q92 : (Jvm.Cond.methodLink "PrettyStreamLaw" (31 : Nat) ({ cls := "PrettyStream", name := "open", desc := "(I)I" } : Jvm.MethodName)) ∈ lw_all := lw_g (lw_at lw_m1 81 rfl) rfl
theorem q96 : (Jvm.Cond.methodLink "PrettyStreamLaw" (35 : Nat) ({ cls := "PrettyStream", name := "close", desc := "()I" } : Jvm.MethodName)) ∈ lw_all := lw_g (lw_at lw_m1 85 rfl) rfl
theorem q100 : (Jvm.Cond.methodLink "PrettyStreamLaw" (39 : Nat) ({ cls := "PrettyStream", name := "width", desc := "(I)V" } : Jvm.MethodName)) ∈ lw_all := lw_g (lw_at lw_m1 89 rfl) rfl
theorem q101 : (Jvm.Cond.methodLink "PrettyStreamLaw" (43 : Nat) ({ cls := "PrettyStream", name := "row", desc := "(I)I" } : Jvm.MethodName)) ∈ lw_all := lw_g (lw_at lw_m1 90 rfl) rfl
theorem q121 : (Jvm.Cond.methodLink "PrettyStreamLaw" (47 : Nat) ({ cls := "PrettyStream", name := "column", desc := "(I)I" } : Jvm.MethodName)) ∈ lw_all := lw_g (lw_at lw_m1 110 rfl) rfl
theorem q125 : (Jvm.Cond.methodLink "PrettyStreamLaw" (51 : Nat) ({ cls := "PrettyStream", name := "flat", desc := "(I)I" } : Jvm.MethodName)) ∈ lw_all := lw_g (lw_at lw_m1 114 rfl) rfl
theorem q129 : (Jvm.Cond.methodLink "PrettyStreamLaw" (55 : Nat) ({ cls := "PrettyStream", name := "rows", desc := "()I" } : Jvm.MethodName)) ∈ lw_all := lw_g (lw_at lw_m1 118 rfl) rfl
theorem q133 : (Jvm.Cond.methodLink "PrettyStreamLaw" (59 : Nat) ({ cls := "PrettyStream", name := "widest", desc := "()I" } : Jvm.MethodName)) ∈ lw_all := lw_g (lw_at lw_m1 122 rfl) rfl
theorem q137 : (Jvm.Cond.methodLink "PrettyStreamLaw" (63 : Nat) ({ cls := "PrettyStream", name := "leastWidth", desc := "(I)I" } : Jvm.MethodName)) ∈ lw_all := lw_g (lw_at lw_m1 126 rfl) rfl
theorem q141 : (Jvm.Cond.methodLink "PrettyStreamLaw" (9 : Nat) ({ cls := "PrettyStreamLaw", name := "cell", desc := "([II)I" } : Jvm.MethodName)) ∈ lw_all := lw_g (lw_at lw_m1 130 rfl) rfl
theorem q142 : (Jvm.Cond.static ({ cls := "PrettyStreamLaw", name := "cell", desc := "([II)I" } : Jvm.MethodName)) ∈ lw_all := lw_g (lw_at lw_m1 131 rfl) rfl
theorem q143 : (Jvm.Cond.code ({ cls := "PrettyStreamLaw", name := "cell", desc := "([II)I" } : Jvm.MethodName) method_2_code (2 : Nat) (Option.some Jvm.ClassFile.FieldType.int)) ∈ lw_all := lw_g (lw_at lw_m1 132 rfl) rfl
theorem q144 : (Jvm.Cond.classLink "PrettyStreamLaw" (18 : Nat) "PrettyStreamModel") ∈ lw_all := lw_g (lw_at lw_m1 133 rfl) rfl
theorem q146 : (Jvm.Cond.methodLink "PrettyStreamLaw" (20 : Nat) ({ cls := "PrettyStreamModel", name := "<init>", desc := "(I)V" } : Jvm.MethodName)) ∈ lw_all := lw_g (lw_at lw_m1 135 rfl) rfl
theorem q191 : (Jvm.Cond.methodLink "PrettyStreamLaw" (25 : Nat) ({ cls := "PrettyStreamModel", name := "word", desc := "(I)I" } : Jvm.MethodName)) ∈ lw_all := lw_g (lw_at lw_m1 180 rfl) rfl
theorem q199 : (Jvm.Cond.methodLink "PrettyStreamLaw" (30 : Nat) ({ cls := "PrettyStreamModel", name := "lineBreak", desc := "()I" } : Jvm.MethodName)) ∈ lw_all := lw_g (lw_at lw_m1 188 rfl) rfl
theorem q203 : (Jvm.Cond.methodLink "PrettyStreamLaw" (34 : Nat) ({ cls := "PrettyStreamModel", name := "open", desc := "(I)I" } : Jvm.MethodName)) ∈ lw_all := lw_g (lw_at lw_m1 192 rfl) rfl
theorem q211 : (Jvm.Cond.methodLink "PrettyStreamLaw" (38 : Nat) ({ cls := "PrettyStreamModel", name := "close", desc := "()I" } : Jvm.MethodName)) ∈ lw_all := lw_g (lw_at lw_m1 200 rfl) rfl
theorem q215 : (Jvm.Cond.methodLink "PrettyStreamLaw" (42 : Nat) ({ cls := "PrettyStreamModel", name := "width", desc := "(I)V" } : Jvm.MethodName)) ∈ lw_all := lw_g (lw_at lw_m1 204 rfl) rfl
theorem q216 : (Jvm.Cond.methodLink "PrettyStreamLaw" (46 : Nat) ({ cls := "PrettyStreamModel", name := "row", desc := "(I)I" } : Jvm.MethodName)) ∈ lw_all := lw_g (lw_at lw_m1 205 rfl) rfl
theorem q236 : (Jvm.Cond.methodLink "PrettyStreamLaw" (50 : Nat) ({ cls := "PrettyStreamModel", name := "column", desc := "(I)I" } : Jvm.MethodName)) ∈ lw_all := lw_g (lw_at lw_m1 225 rfl) rfl
theorem q240 : (Jvm.Cond.methodLink "PrettyStreamLaw" (54 : Nat) ({ cls := "PrettyStreamModel", name := "flat", desc := "(I)I" } : Jvm.MethodName)) ∈ lw_all := lw_g (lw_at lw_m1 229 rfl) rfl
theorem q244 : (Jvm.Cond.methodLink "PrettyStreamLaw" (58 : Nat) ({ cls := "PrettyStreamModel", name := "rows", desc := "()I" } : Jvm.MethodName)) ∈ lw_all := lw_g (lw_at lw_m1 233 rfl) rfl
theorem q248 : (Jvm.Cond.methodLink "PrettyStreamLaw" (62 : Nat) ({ cls := "PrettyStreamModel", name := "widest", desc := "()I" } : Jvm.MethodName)) ∈ lw_all := lw_g (lw_at lw_m1 237 rfl) rfl
theorem q252 : (Jvm.Cond.methodLink "PrettyStreamLaw" (66 : Nat) ({ cls := "PrettyStreamModel", name := "leastWidth", desc := "(I)I" } : Jvm.MethodName)) ∈ lw_all := lw_g (lw_at lw_m2 1 rfl) rfl

/-! PrettyStream -/
set_option maxRecDepth 100000
def RX1 : String := "PrettyStream"
def TX1 : u_T := fun k => match k with
  | 0 => ("PrettyStream", "pageWidth", "I", false)
  | 1 => ("PrettyStream", "pieces", "I", false)
  | 2 => ("PrettyStream", "unclosed", "I", false)
  | 3 => ("PrettyStream", "sort", "[I", true)
  | 4 => ("PrettyStream", "size", "[I", true)
  | 5 => ("PrettyStream", "measured", "Z", false)
  | 6 => ("PrettyStream", "reach", "[I", true)
  | 7 => ("PrettyStream", "startOf", "[I", true)
  | 8 => ("PrettyStream", "stack", "[I", true)
  | 9 => ("PrettyStream", "waiting", "[I", true)
  | 10 => ("PrettyStream", "laidOut", "Z", false)
  | 11 => ("PrettyStream", "rowOf", "[I", true)
  | 12 => ("PrettyStream", "columnOf", "[I", true)
  | 13 => ("PrettyStream", "isFlat", "[Z", true)
  | 14 => ("PrettyStream", "margin", "[I", true)
  | 15 => ("PrettyStream", "lastRow", "I", false)
  | _ => ("PrettyStream", "greatestColumn", "I", false)
def tyX1 : Nat → FieldType := fun k => match k with
  | 0 => .int
  | 1 => .int
  | 2 => .int
  | 3 => .array .int
  | 4 => .array .int
  | 5 => .boolean
  | 6 => .array .int
  | 7 => .array .int
  | 8 => .array .int
  | 9 => .array .int
  | 10 => .boolean
  | 11 => .array .int
  | 12 => .array .int
  | 13 => .array .boolean
  | 14 => .array .int
  | 15 => .int
  | _ => .int
abbrev wsX10 : List Cond := u_ws RX1 TX1 17
set_option maxRecDepth 100000 in
theorem nmX1 : ∀ a, a < 17 → ∀ b, b < 17 → a ≠ b → (TX1 a).2.1 ≠ (TX1 b).2.1 := by decide +kernel
set_option maxRecDepth 100000 in
theorem tyX1_ok : ∀ k, k < 17 → parseFieldDescriptor (TX1 k).2.2.1 = some (tyX1 k) := by decide +kernel
abbrev cX1_init : ByteArray := prog_1_method_1_code
def yX1_init : MethodName := ⟨RX1, "<init>", "(I)V"⟩
abbrev cX1_width : ByteArray := prog_1_method_7_code
def yX1_width : MethodName := ⟨RX1, "width", "(I)V"⟩
abbrev cX1_word : ByteArray := prog_1_method_2_code
def yX1_word : MethodName := ⟨RX1, "word", "(I)I"⟩
abbrev cX1_addPiece : ByteArray := prog_1_method_6_code
def yX1_addPiece : MethodName := ⟨RX1, "addPiece", "(II)I"⟩
abbrev cX1_lineBreak : ByteArray := prog_1_method_3_code
def yX1_lineBreak : MethodName := ⟨RX1, "lineBreak", "()I"⟩
abbrev cX1_open : ByteArray := prog_1_method_4_code
def yX1_open : MethodName := ⟨RX1, "open", "(I)I"⟩
abbrev cX1_close : ByteArray := prog_1_method_5_code
def yX1_close : MethodName := ⟨RX1, "close", "()I"⟩
abbrev cX1_row : ByteArray := prog_1_method_8_code
def yX1_row : MethodName := ⟨RX1, "row", "(I)I"⟩
abbrev cX1_prepare : ByteArray := prog_1_method_14_code
def yX1_prepare : MethodName := ⟨RX1, "prepare", "()V"⟩
abbrev cX1_measure : ByteArray := prog_1_method_15_code
def yX1_measure : MethodName := ⟨RX1, "measure", "()V"⟩
abbrev cX1_settle : ByteArray := prog_1_method_16_code
def yX1_settle : MethodName := ⟨RX1, "settle", "(II)V"⟩
abbrev cX1_layOut : ByteArray := prog_1_method_17_code
def yX1_layOut : MethodName := ⟨RX1, "layOut", "(I)V"⟩
abbrev cX1_column : ByteArray := prog_1_method_9_code
def yX1_column : MethodName := ⟨RX1, "column", "(I)I"⟩
abbrev cX1_flat : ByteArray := prog_1_method_10_code
def yX1_flat : MethodName := ⟨RX1, "flat", "(I)I"⟩
abbrev cX1_rows : ByteArray := prog_1_method_11_code
def yX1_rows : MethodName := ⟨RX1, "rows", "()I"⟩
abbrev cX1_widest : ByteArray := prog_1_method_12_code
def yX1_widest : MethodName := ⟨RX1, "widest", "()I"⟩
abbrev cX1_leastWidth : ByteArray := prog_1_method_13_code
def yX1_leastWidth : MethodName := ⟨RX1, "leastWidth", "(I)I"⟩
theorem q12 : (Jvm.Cond.initialized "PrettyStream") ∈ lw_all := lw_g (lw_at lw_m1 1 rfl) rfl
theorem q15 : (Jvm.Cond.instantiable "PrettyStream" (17 : Nat)) ∈ lw_all := lw_g (lw_at lw_m1 4 rfl) rfl
theorem q17 : (Jvm.Cond.instanceMethod ({ cls := "PrettyStream", name := "<init>", desc := "(I)V" } : Jvm.MethodName)) ∈ lw_all := lw_g (lw_at lw_m1 6 rfl) rfl
theorem q18 : (Jvm.Cond.code ({ cls := "PrettyStream", name := "<init>", desc := "(I)V" } : Jvm.MethodName) prog_1_method_1_code (2 : Nat) (Option.none : Option Jvm.ClassFile.FieldType)) ∈ lw_all := lw_g (lw_at lw_m1 7 rfl) rfl
theorem q19 : (Jvm.Cond.methodLink "PrettyStream" (1 : Nat) ({ cls := "java/lang/Object", name := "<init>", desc := "()V" } : Jvm.MethodName)) ∈ lw_all := lw_g (lw_at lw_m1 8 rfl) rfl
theorem q22 : (Jvm.Cond.methodLink "PrettyStream" (41 : Nat) ({ cls := "PrettyStream", name := "width", desc := "(I)V" } : Jvm.MethodName)) ∈ lw_all := lw_g (lw_at lw_m1 11 rfl) rfl
theorem q23 : (Jvm.Cond.instanceMethod ({ cls := "PrettyStream", name := "width", desc := "(I)V" } : Jvm.MethodName)) ∈ lw_all := lw_g (lw_at lw_m1 12 rfl) rfl
theorem q24 : (Jvm.Cond.selects "PrettyStream" ({ cls := "PrettyStream", name := "width", desc := "(I)V" } : Jvm.MethodName) ({ cls := "PrettyStream", name := "width", desc := "(I)V" } : Jvm.MethodName)) ∈ lw_all := lw_g (lw_at lw_m1 13 rfl) rfl
theorem q25 : (Jvm.Cond.code ({ cls := "PrettyStream", name := "width", desc := "(I)V" } : Jvm.MethodName) prog_1_method_7_code (2 : Nat) (Option.none : Option Jvm.ClassFile.FieldType)) ∈ lw_all := lw_g (lw_at lw_m1 14 rfl) rfl
theorem q26 : (Jvm.Cond.fieldLink "PrettyStream" (63 : Nat) "PrettyStream" "pageWidth" "I") ∈ lw_all := lw_g (lw_at lw_m1 15 rfl) rfl
theorem q27 : (Jvm.Cond.fieldLink "PrettyStream" (53 : Nat) "PrettyStream" "pieces" "I") ∈ lw_all := lw_g (lw_at lw_m1 16 rfl) rfl
theorem q28 : (Jvm.Cond.fieldLink "PrettyStream" (49 : Nat) "PrettyStream" "unclosed" "I") ∈ lw_all := lw_g (lw_at lw_m1 17 rfl) rfl
theorem q29 : (Jvm.Cond.fieldLink "PrettyStream" (7 : Nat) "PrettyStream" "sort" "[I") ∈ lw_all := lw_g (lw_at lw_m1 18 rfl) rfl
theorem q30 : (Jvm.Cond.fieldLink "PrettyStream" (13 : Nat) "PrettyStream" "size" "[I") ∈ lw_all := lw_g (lw_at lw_m1 19 rfl) rfl
theorem q31 : (Jvm.Cond.fieldLink "PrettyStream" (56 : Nat) "PrettyStream" "measured" "Z") ∈ lw_all := lw_g (lw_at lw_m1 20 rfl) rfl
theorem q32 : (Jvm.Cond.fieldLink "PrettyStream" (16 : Nat) "PrettyStream" "reach" "[I") ∈ lw_all := lw_g (lw_at lw_m1 21 rfl) rfl
theorem q33 : (Jvm.Cond.fieldLink "PrettyStream" (19 : Nat) "PrettyStream" "startOf" "[I") ∈ lw_all := lw_g (lw_at lw_m1 22 rfl) rfl
theorem q34 : (Jvm.Cond.fieldLink "PrettyStream" (22 : Nat) "PrettyStream" "stack" "[I") ∈ lw_all := lw_g (lw_at lw_m1 23 rfl) rfl
theorem q35 : (Jvm.Cond.fieldLink "PrettyStream" (25 : Nat) "PrettyStream" "waiting" "[I") ∈ lw_all := lw_g (lw_at lw_m1 24 rfl) rfl
theorem q36 : (Jvm.Cond.fieldLink "PrettyStream" (60 : Nat) "PrettyStream" "laidOut" "Z") ∈ lw_all := lw_g (lw_at lw_m1 25 rfl) rfl
theorem q37 : (Jvm.Cond.fieldLink "PrettyStream" (28 : Nat) "PrettyStream" "rowOf" "[I") ∈ lw_all := lw_g (lw_at lw_m1 26 rfl) rfl
theorem q38 : (Jvm.Cond.fieldLink "PrettyStream" (31 : Nat) "PrettyStream" "columnOf" "[I") ∈ lw_all := lw_g (lw_at lw_m1 27 rfl) rfl
theorem q39 : (Jvm.Cond.fieldLink "PrettyStream" (34 : Nat) "PrettyStream" "isFlat" "[Z") ∈ lw_all := lw_g (lw_at lw_m1 28 rfl) rfl
theorem q40 : (Jvm.Cond.fieldLink "PrettyStream" (38 : Nat) "PrettyStream" "margin" "[I") ∈ lw_all := lw_g (lw_at lw_m1 29 rfl) rfl
theorem q41 : (Jvm.Cond.fieldLink "PrettyStream" (69 : Nat) "PrettyStream" "lastRow" "I") ∈ lw_all := lw_g (lw_at lw_m1 30 rfl) rfl
theorem q42 : (Jvm.Cond.fieldLink "PrettyStream" (72 : Nat) "PrettyStream" "greatestColumn" "I") ∈ lw_all := lw_g (lw_at lw_m1 31 rfl) rfl
theorem q43 : (Jvm.Cond.lays "PrettyStream" "PrettyStream" "pageWidth" "I") ∈ lw_all := lw_g (lw_at lw_m1 32 rfl) rfl
theorem q44 : (Jvm.Cond.soleField "PrettyStream" "pageWidth") ∈ lw_all := lw_g (lw_at lw_m1 33 rfl) rfl
theorem q45 : (Jvm.Cond.lays "PrettyStream" "PrettyStream" "pieces" "I") ∈ lw_all := lw_g (lw_at lw_m1 34 rfl) rfl
theorem q46 : (Jvm.Cond.soleField "PrettyStream" "pieces") ∈ lw_all := lw_g (lw_at lw_m1 35 rfl) rfl
theorem q47 : (Jvm.Cond.lays "PrettyStream" "PrettyStream" "unclosed" "I") ∈ lw_all := lw_g (lw_at lw_m1 36 rfl) rfl
theorem q48 : (Jvm.Cond.soleField "PrettyStream" "unclosed") ∈ lw_all := lw_g (lw_at lw_m1 37 rfl) rfl
theorem q49 : (Jvm.Cond.laysFinal "PrettyStream" "PrettyStream" "sort" "[I") ∈ lw_all := lw_g (lw_at lw_m1 38 rfl) rfl
theorem q50 : (Jvm.Cond.soleField "PrettyStream" "sort") ∈ lw_all := lw_g (lw_at lw_m1 39 rfl) rfl
theorem q51 : (Jvm.Cond.laysFinal "PrettyStream" "PrettyStream" "size" "[I") ∈ lw_all := lw_g (lw_at lw_m1 40 rfl) rfl
theorem q52 : (Jvm.Cond.soleField "PrettyStream" "size") ∈ lw_all := lw_g (lw_at lw_m1 41 rfl) rfl
theorem q53 : (Jvm.Cond.lays "PrettyStream" "PrettyStream" "measured" "Z") ∈ lw_all := lw_g (lw_at lw_m1 42 rfl) rfl
theorem q54 : (Jvm.Cond.soleField "PrettyStream" "measured") ∈ lw_all := lw_g (lw_at lw_m1 43 rfl) rfl
theorem q55 : (Jvm.Cond.laysFinal "PrettyStream" "PrettyStream" "reach" "[I") ∈ lw_all := lw_g (lw_at lw_m1 44 rfl) rfl
theorem q56 : (Jvm.Cond.soleField "PrettyStream" "reach") ∈ lw_all := lw_g (lw_at lw_m1 45 rfl) rfl
theorem q57 : (Jvm.Cond.laysFinal "PrettyStream" "PrettyStream" "startOf" "[I") ∈ lw_all := lw_g (lw_at lw_m1 46 rfl) rfl
theorem q58 : (Jvm.Cond.soleField "PrettyStream" "startOf") ∈ lw_all := lw_g (lw_at lw_m1 47 rfl) rfl
theorem q59 : (Jvm.Cond.laysFinal "PrettyStream" "PrettyStream" "stack" "[I") ∈ lw_all := lw_g (lw_at lw_m1 48 rfl) rfl
theorem q60 : (Jvm.Cond.soleField "PrettyStream" "stack") ∈ lw_all := lw_g (lw_at lw_m1 49 rfl) rfl
theorem q61 : (Jvm.Cond.laysFinal "PrettyStream" "PrettyStream" "waiting" "[I") ∈ lw_all := lw_g (lw_at lw_m1 50 rfl) rfl
theorem q62 : (Jvm.Cond.soleField "PrettyStream" "waiting") ∈ lw_all := lw_g (lw_at lw_m1 51 rfl) rfl
theorem q63 : (Jvm.Cond.lays "PrettyStream" "PrettyStream" "laidOut" "Z") ∈ lw_all := lw_g (lw_at lw_m1 52 rfl) rfl
theorem q64 : (Jvm.Cond.soleField "PrettyStream" "laidOut") ∈ lw_all := lw_g (lw_at lw_m1 53 rfl) rfl
theorem q65 : (Jvm.Cond.laysFinal "PrettyStream" "PrettyStream" "rowOf" "[I") ∈ lw_all := lw_g (lw_at lw_m1 54 rfl) rfl
theorem q66 : (Jvm.Cond.soleField "PrettyStream" "rowOf") ∈ lw_all := lw_g (lw_at lw_m1 55 rfl) rfl
theorem q67 : (Jvm.Cond.laysFinal "PrettyStream" "PrettyStream" "columnOf" "[I") ∈ lw_all := lw_g (lw_at lw_m1 56 rfl) rfl
theorem q68 : (Jvm.Cond.soleField "PrettyStream" "columnOf") ∈ lw_all := lw_g (lw_at lw_m1 57 rfl) rfl
theorem q69 : (Jvm.Cond.laysFinal "PrettyStream" "PrettyStream" "isFlat" "[Z") ∈ lw_all := lw_g (lw_at lw_m1 58 rfl) rfl
theorem q70 : (Jvm.Cond.soleField "PrettyStream" "isFlat") ∈ lw_all := lw_g (lw_at lw_m1 59 rfl) rfl
theorem q71 : (Jvm.Cond.laysFinal "PrettyStream" "PrettyStream" "margin" "[I") ∈ lw_all := lw_g (lw_at lw_m1 60 rfl) rfl
theorem q72 : (Jvm.Cond.soleField "PrettyStream" "margin") ∈ lw_all := lw_g (lw_at lw_m1 61 rfl) rfl
theorem q73 : (Jvm.Cond.lays "PrettyStream" "PrettyStream" "lastRow" "I") ∈ lw_all := lw_g (lw_at lw_m1 62 rfl) rfl
theorem q74 : (Jvm.Cond.soleField "PrettyStream" "lastRow") ∈ lw_all := lw_g (lw_at lw_m1 63 rfl) rfl
theorem q75 : (Jvm.Cond.lays "PrettyStream" "PrettyStream" "greatestColumn" "I") ∈ lw_all := lw_g (lw_at lw_m1 64 rfl) rfl
theorem q76 : (Jvm.Cond.soleField "PrettyStream" "greatestColumn") ∈ lw_all := lw_g (lw_at lw_m1 65 rfl) rfl
theorem q77 : (Jvm.Cond.superclass "PrettyStream" "java/lang/Object") ∈ lw_all := lw_g (lw_at lw_m1 66 rfl) rfl
theorem q81 : (Jvm.Cond.instanceMethod ({ cls := "PrettyStream", name := "word", desc := "(I)I" } : Jvm.MethodName)) ∈ lw_all := lw_g (lw_at lw_m1 70 rfl) rfl
theorem q82 : (Jvm.Cond.selects "PrettyStream" ({ cls := "PrettyStream", name := "word", desc := "(I)I" } : Jvm.MethodName) ({ cls := "PrettyStream", name := "word", desc := "(I)I" } : Jvm.MethodName)) ∈ lw_all := lw_g (lw_at lw_m1 71 rfl) rfl
theorem q83 : (Jvm.Cond.code ({ cls := "PrettyStream", name := "word", desc := "(I)I" } : Jvm.MethodName) prog_1_method_2_code (2 : Nat) (Option.some Jvm.ClassFile.FieldType.int)) ∈ lw_all := lw_g (lw_at lw_m1 72 rfl) rfl
theorem q84 : (Jvm.Cond.methodLink "PrettyStream" (45 : Nat) ({ cls := "PrettyStream", name := "addPiece", desc := "(II)I" } : Jvm.MethodName)) ∈ lw_all := lw_g (lw_at lw_m1 73 rfl) rfl
theorem q85 : (Jvm.Cond.privateMethod ({ cls := "PrettyStream", name := "addPiece", desc := "(II)I" } : Jvm.MethodName)) ∈ lw_tbl := lw_at lw_m1 74 rfl
theorem q86 : (Jvm.Cond.instanceMethod ({ cls := "PrettyStream", name := "addPiece", desc := "(II)I" } : Jvm.MethodName)) ∈ lw_all := lw_g (lw_at lw_m1 75 rfl) rfl
theorem q87 : (Jvm.Cond.code ({ cls := "PrettyStream", name := "addPiece", desc := "(II)I" } : Jvm.MethodName) prog_1_method_6_code (3 : Nat) (Option.some Jvm.ClassFile.FieldType.int)) ∈ lw_all := lw_g (lw_at lw_m1 76 rfl) rfl
theorem q89 : (Jvm.Cond.instanceMethod ({ cls := "PrettyStream", name := "lineBreak", desc := "()I" } : Jvm.MethodName)) ∈ lw_all := lw_g (lw_at lw_m1 78 rfl) rfl
theorem q90 : (Jvm.Cond.selects "PrettyStream" ({ cls := "PrettyStream", name := "lineBreak", desc := "()I" } : Jvm.MethodName) ({ cls := "PrettyStream", name := "lineBreak", desc := "()I" } : Jvm.MethodName)) ∈ lw_all := lw_g (lw_at lw_m1 79 rfl) rfl
theorem q91 : (Jvm.Cond.code ({ cls := "PrettyStream", name := "lineBreak", desc := "()I" } : Jvm.MethodName) prog_1_method_3_code (1 : Nat) (Option.some Jvm.ClassFile.FieldType.int)) ∈ lw_all := lw_g (lw_at lw_m1 80 rfl) rfl
theorem q93 : (Jvm.Cond.instanceMethod ({ cls := "PrettyStream", name := "open", desc := "(I)I" } : Jvm.MethodName)) ∈ lw_all := lw_g (lw_at lw_m1 82 rfl) rfl
theorem q94 : (Jvm.Cond.selects "PrettyStream" ({ cls := "PrettyStream", name := "open", desc := "(I)I" } : Jvm.MethodName) ({ cls := "PrettyStream", name := "open", desc := "(I)I" } : Jvm.MethodName)) ∈ lw_all := lw_g (lw_at lw_m1 83 rfl) rfl
theorem q95 : (Jvm.Cond.code ({ cls := "PrettyStream", name := "open", desc := "(I)I" } : Jvm.MethodName) prog_1_method_4_code (3 : Nat) (Option.some Jvm.ClassFile.FieldType.int)) ∈ lw_all := lw_g (lw_at lw_m1 84 rfl) rfl
theorem q97 : (Jvm.Cond.instanceMethod ({ cls := "PrettyStream", name := "close", desc := "()I" } : Jvm.MethodName)) ∈ lw_all := lw_g (lw_at lw_m1 86 rfl) rfl
theorem q98 : (Jvm.Cond.selects "PrettyStream" ({ cls := "PrettyStream", name := "close", desc := "()I" } : Jvm.MethodName) ({ cls := "PrettyStream", name := "close", desc := "()I" } : Jvm.MethodName)) ∈ lw_all := lw_g (lw_at lw_m1 87 rfl) rfl
theorem q99 : (Jvm.Cond.code ({ cls := "PrettyStream", name := "close", desc := "()I" } : Jvm.MethodName) prog_1_method_5_code (2 : Nat) (Option.some Jvm.ClassFile.FieldType.int)) ∈ lw_all := lw_g (lw_at lw_m1 88 rfl) rfl
theorem q102 : (Jvm.Cond.instanceMethod ({ cls := "PrettyStream", name := "row", desc := "(I)I" } : Jvm.MethodName)) ∈ lw_all := lw_g (lw_at lw_m1 91 rfl) rfl
theorem q103 : (Jvm.Cond.selects "PrettyStream" ({ cls := "PrettyStream", name := "row", desc := "(I)I" } : Jvm.MethodName) ({ cls := "PrettyStream", name := "row", desc := "(I)I" } : Jvm.MethodName)) ∈ lw_all := lw_g (lw_at lw_m1 92 rfl) rfl
theorem q104 : (Jvm.Cond.code ({ cls := "PrettyStream", name := "row", desc := "(I)I" } : Jvm.MethodName) prog_1_method_8_code (2 : Nat) (Option.some Jvm.ClassFile.FieldType.int)) ∈ lw_all := lw_g (lw_at lw_m1 93 rfl) rfl
theorem q105 : (Jvm.Cond.methodLink "PrettyStream" (66 : Nat) ({ cls := "PrettyStream", name := "prepare", desc := "()V" } : Jvm.MethodName)) ∈ lw_all := lw_g (lw_at lw_m1 94 rfl) rfl
theorem q106 : (Jvm.Cond.privateMethod ({ cls := "PrettyStream", name := "prepare", desc := "()V" } : Jvm.MethodName)) ∈ lw_tbl := lw_at lw_m1 95 rfl
theorem q107 : (Jvm.Cond.instanceMethod ({ cls := "PrettyStream", name := "prepare", desc := "()V" } : Jvm.MethodName)) ∈ lw_all := lw_g (lw_at lw_m1 96 rfl) rfl
theorem q108 : (Jvm.Cond.code ({ cls := "PrettyStream", name := "prepare", desc := "()V" } : Jvm.MethodName) prog_1_method_14_code (1 : Nat) (Option.none : Option Jvm.ClassFile.FieldType)) ∈ lw_all := lw_g (lw_at lw_m1 97 rfl) rfl
theorem q109 : (Jvm.Cond.methodLink "PrettyStream" (75 : Nat) ({ cls := "PrettyStream", name := "measure", desc := "()V" } : Jvm.MethodName)) ∈ lw_all := lw_g (lw_at lw_m1 98 rfl) rfl
theorem q110 : (Jvm.Cond.privateMethod ({ cls := "PrettyStream", name := "measure", desc := "()V" } : Jvm.MethodName)) ∈ lw_tbl := lw_at lw_m1 99 rfl
theorem q111 : (Jvm.Cond.instanceMethod ({ cls := "PrettyStream", name := "measure", desc := "()V" } : Jvm.MethodName)) ∈ lw_all := lw_g (lw_at lw_m1 100 rfl) rfl
theorem q112 : (Jvm.Cond.code ({ cls := "PrettyStream", name := "measure", desc := "()V" } : Jvm.MethodName) prog_1_method_15_code (5 : Nat) (Option.none : Option Jvm.ClassFile.FieldType)) ∈ lw_all := lw_g (lw_at lw_m1 101 rfl) rfl
theorem q113 : (Jvm.Cond.methodLink "PrettyStream" (81 : Nat) ({ cls := "PrettyStream", name := "settle", desc := "(II)V" } : Jvm.MethodName)) ∈ lw_all := lw_g (lw_at lw_m1 102 rfl) rfl
theorem q114 : (Jvm.Cond.privateMethod ({ cls := "PrettyStream", name := "settle", desc := "(II)V" } : Jvm.MethodName)) ∈ lw_tbl := lw_at lw_m1 103 rfl
theorem q115 : (Jvm.Cond.instanceMethod ({ cls := "PrettyStream", name := "settle", desc := "(II)V" } : Jvm.MethodName)) ∈ lw_all := lw_g (lw_at lw_m1 104 rfl) rfl
theorem q116 : (Jvm.Cond.code ({ cls := "PrettyStream", name := "settle", desc := "(II)V" } : Jvm.MethodName) prog_1_method_16_code (4 : Nat) (Option.none : Option Jvm.ClassFile.FieldType)) ∈ lw_all := lw_g (lw_at lw_m1 105 rfl) rfl
theorem q117 : (Jvm.Cond.methodLink "PrettyStream" (78 : Nat) ({ cls := "PrettyStream", name := "layOut", desc := "(I)V" } : Jvm.MethodName)) ∈ lw_all := lw_g (lw_at lw_m1 106 rfl) rfl
theorem q118 : (Jvm.Cond.privateMethod ({ cls := "PrettyStream", name := "layOut", desc := "(I)V" } : Jvm.MethodName)) ∈ lw_tbl := lw_at lw_m1 107 rfl
theorem q119 : (Jvm.Cond.instanceMethod ({ cls := "PrettyStream", name := "layOut", desc := "(I)V" } : Jvm.MethodName)) ∈ lw_all := lw_g (lw_at lw_m1 108 rfl) rfl
theorem q120 : (Jvm.Cond.code ({ cls := "PrettyStream", name := "layOut", desc := "(I)V" } : Jvm.MethodName) prog_1_method_17_code (7 : Nat) (Option.none : Option Jvm.ClassFile.FieldType)) ∈ lw_all := lw_g (lw_at lw_m1 109 rfl) rfl
theorem q122 : (Jvm.Cond.instanceMethod ({ cls := "PrettyStream", name := "column", desc := "(I)I" } : Jvm.MethodName)) ∈ lw_all := lw_g (lw_at lw_m1 111 rfl) rfl
theorem q123 : (Jvm.Cond.selects "PrettyStream" ({ cls := "PrettyStream", name := "column", desc := "(I)I" } : Jvm.MethodName) ({ cls := "PrettyStream", name := "column", desc := "(I)I" } : Jvm.MethodName)) ∈ lw_all := lw_g (lw_at lw_m1 112 rfl) rfl
theorem q124 : (Jvm.Cond.code ({ cls := "PrettyStream", name := "column", desc := "(I)I" } : Jvm.MethodName) prog_1_method_9_code (2 : Nat) (Option.some Jvm.ClassFile.FieldType.int)) ∈ lw_all := lw_g (lw_at lw_m1 113 rfl) rfl
theorem q126 : (Jvm.Cond.instanceMethod ({ cls := "PrettyStream", name := "flat", desc := "(I)I" } : Jvm.MethodName)) ∈ lw_all := lw_g (lw_at lw_m1 115 rfl) rfl
theorem q127 : (Jvm.Cond.selects "PrettyStream" ({ cls := "PrettyStream", name := "flat", desc := "(I)I" } : Jvm.MethodName) ({ cls := "PrettyStream", name := "flat", desc := "(I)I" } : Jvm.MethodName)) ∈ lw_all := lw_g (lw_at lw_m1 116 rfl) rfl
theorem q128 : (Jvm.Cond.code ({ cls := "PrettyStream", name := "flat", desc := "(I)I" } : Jvm.MethodName) prog_1_method_10_code (2 : Nat) (Option.some Jvm.ClassFile.FieldType.int)) ∈ lw_all := lw_g (lw_at lw_m1 117 rfl) rfl
theorem q130 : (Jvm.Cond.instanceMethod ({ cls := "PrettyStream", name := "rows", desc := "()I" } : Jvm.MethodName)) ∈ lw_all := lw_g (lw_at lw_m1 119 rfl) rfl
theorem q131 : (Jvm.Cond.selects "PrettyStream" ({ cls := "PrettyStream", name := "rows", desc := "()I" } : Jvm.MethodName) ({ cls := "PrettyStream", name := "rows", desc := "()I" } : Jvm.MethodName)) ∈ lw_all := lw_g (lw_at lw_m1 120 rfl) rfl
theorem q132 : (Jvm.Cond.code ({ cls := "PrettyStream", name := "rows", desc := "()I" } : Jvm.MethodName) prog_1_method_11_code (1 : Nat) (Option.some Jvm.ClassFile.FieldType.int)) ∈ lw_all := lw_g (lw_at lw_m1 121 rfl) rfl
theorem q134 : (Jvm.Cond.instanceMethod ({ cls := "PrettyStream", name := "widest", desc := "()I" } : Jvm.MethodName)) ∈ lw_all := lw_g (lw_at lw_m1 123 rfl) rfl
theorem q135 : (Jvm.Cond.selects "PrettyStream" ({ cls := "PrettyStream", name := "widest", desc := "()I" } : Jvm.MethodName) ({ cls := "PrettyStream", name := "widest", desc := "()I" } : Jvm.MethodName)) ∈ lw_all := lw_g (lw_at lw_m1 124 rfl) rfl
theorem q136 : (Jvm.Cond.code ({ cls := "PrettyStream", name := "widest", desc := "()I" } : Jvm.MethodName) prog_1_method_12_code (1 : Nat) (Option.some Jvm.ClassFile.FieldType.int)) ∈ lw_all := lw_g (lw_at lw_m1 125 rfl) rfl
theorem q138 : (Jvm.Cond.instanceMethod ({ cls := "PrettyStream", name := "leastWidth", desc := "(I)I" } : Jvm.MethodName)) ∈ lw_all := lw_g (lw_at lw_m1 127 rfl) rfl
theorem q139 : (Jvm.Cond.selects "PrettyStream" ({ cls := "PrettyStream", name := "leastWidth", desc := "(I)I" } : Jvm.MethodName) ({ cls := "PrettyStream", name := "leastWidth", desc := "(I)I" } : Jvm.MethodName)) ∈ lw_all := lw_g (lw_at lw_m1 128 rfl) rfl
theorem q140 : (Jvm.Cond.code ({ cls := "PrettyStream", name := "leastWidth", desc := "(I)I" } : Jvm.MethodName) prog_1_method_13_code (3 : Nat) (Option.some Jvm.ClassFile.FieldType.int)) ∈ lw_all := lw_g (lw_at lw_m1 129 rfl) rfl
theorem in_X1 : ∀ w ∈ wsX10, w ∈ lw_all := lw_in wsX10 [43, 45, 47, 49, 51, 53, 55, 57, 59, 61, 63, 65, 67, 69, 71, 73, 75] (by decide +kernel) (by decide +kernel)

/-! PrettyStreamModel -/
set_option maxRecDepth 100000
def RX2 : String := "PrettyStreamModel"
def TX2 : u_T := fun k => match k with
  | 0 => ("PrettyStreamModel", "most", "I", false)
  | 1 => ("PrettyStreamModel", "pieces", "I", false)
  | 2 => ("PrettyStreamModel", "sorts", "[I", true)
  | 3 => ("PrettyStreamModel", "args", "[I", true)
  | 4 => ("PrettyStreamModel", "depth", "I", false)
  | 5 => ("PrettyStreamModel", "flats", "[Z", true)
  | 6 => ("PrettyStreamModel", "margins", "[I", true)
  | 7 => ("PrettyStreamModel", "rowOf", "[I", true)
  | 8 => ("PrettyStreamModel", "columnOf", "[I", true)
  | 9 => ("PrettyStreamModel", "flatOf", "[Z", true)
  | 10 => ("PrettyStreamModel", "lastRow", "I", false)
  | _ => ("PrettyStreamModel", "greatest", "I", false)
def tyX2 : Nat → FieldType := fun k => match k with
  | 0 => .int
  | 1 => .int
  | 2 => .array .int
  | 3 => .array .int
  | 4 => .int
  | 5 => .array .boolean
  | 6 => .array .int
  | 7 => .array .int
  | 8 => .array .int
  | 9 => .array .boolean
  | 10 => .int
  | _ => .int
abbrev wsX20 : List Cond := u_ws RX2 TX2 12
theorem nmX2 : ∀ a, a < 12 → ∀ b, b < 12 → a ≠ b → (TX2 a).2.1 ≠ (TX2 b).2.1 := by decide +kernel
theorem tyX2_ok : ∀ k, k < 12 → parseFieldDescriptor (TX2 k).2.2.1 = some (tyX2 k) := by decide +kernel
abbrev cX2_init : ByteArray := prog_3_method_1_code
def yX2_init : MethodName := ⟨RX2, "<init>", "(I)V"⟩
abbrev cX2_width : ByteArray := prog_3_method_8_code
def yX2_width : MethodName := ⟨RX2, "width", "(I)V"⟩
abbrev cX2_word : ByteArray := prog_3_method_3_code
def yX2_word : MethodName := ⟨RX2, "word", "(I)I"⟩
abbrev cX2_add : ByteArray := prog_3_method_2_code
def yX2_add : MethodName := ⟨RX2, "add", "(II)I"⟩
abbrev cX2_lineBreak : ByteArray := prog_3_method_4_code
def yX2_lineBreak : MethodName := ⟨RX2, "lineBreak", "()I"⟩
abbrev cX2_open : ByteArray := prog_3_method_6_code
def yX2_open : MethodName := ⟨RX2, "open", "(I)I"⟩
abbrev cX2_waiting : ByteArray := prog_3_method_5_code
def yX2_waiting : MethodName := ⟨RX2, "waiting", "()I"⟩
abbrev cX2_close : ByteArray := prog_3_method_7_code
def yX2_close : MethodName := ⟨RX2, "close", "()I"⟩
abbrev cX2_row : ByteArray := prog_3_method_13_code
def yX2_row : MethodName := ⟨RX2, "row", "(I)I"⟩
abbrev cX2_missing : ByteArray := prog_3_method_12_code
def yX2_missing : MethodName := ⟨RX2, "missing", "(I)Z"⟩
abbrev cX2_lay : ByteArray := prog_3_method_11_code
def yX2_lay : MethodName := ⟨RX2, "lay", "(I)V"⟩
abbrev cX2_enter : ByteArray := prog_3_method_10_code
def yX2_enter : MethodName := ⟨RX2, "enter", "(III)V"⟩
abbrev cX2_reach : ByteArray := prog_3_method_9_code
def yX2_reach : MethodName := ⟨RX2, "reach", "(I)I"⟩
abbrev cX2_column : ByteArray := prog_3_method_14_code
def yX2_column : MethodName := ⟨RX2, "column", "(I)I"⟩
abbrev cX2_flat : ByteArray := prog_3_method_15_code
def yX2_flat : MethodName := ⟨RX2, "flat", "(I)I"⟩
abbrev cX2_rows : ByteArray := prog_3_method_16_code
def yX2_rows : MethodName := ⟨RX2, "rows", "()I"⟩
abbrev cX2_widest : ByteArray := prog_3_method_17_code
def yX2_widest : MethodName := ⟨RX2, "widest", "()I"⟩
abbrev cX2_leastWidth : ByteArray := prog_3_method_18_code
def yX2_leastWidth : MethodName := ⟨RX2, "leastWidth", "(I)I"⟩
theorem q13 : (Jvm.Cond.initialized "PrettyStreamModel") ∈ lw_all := lw_g (lw_at lw_m1 2 rfl) rfl
theorem q145 : (Jvm.Cond.instantiable "PrettyStreamModel" (12 : Nat)) ∈ lw_all := lw_g (lw_at lw_m1 134 rfl) rfl
theorem q147 : (Jvm.Cond.instanceMethod ({ cls := "PrettyStreamModel", name := "<init>", desc := "(I)V" } : Jvm.MethodName)) ∈ lw_all := lw_g (lw_at lw_m1 136 rfl) rfl
theorem q148 : (Jvm.Cond.code ({ cls := "PrettyStreamModel", name := "<init>", desc := "(I)V" } : Jvm.MethodName) prog_3_method_1_code (2 : Nat) (Option.none : Option Jvm.ClassFile.FieldType)) ∈ lw_all := lw_g (lw_at lw_m1 137 rfl) rfl
theorem q149 : (Jvm.Cond.methodLink "PrettyStreamModel" (1 : Nat) ({ cls := "java/lang/Object", name := "<init>", desc := "()V" } : Jvm.MethodName)) ∈ lw_all := lw_g (lw_at lw_m1 138 rfl) rfl
theorem q150 : (Jvm.Cond.methodLink "PrettyStreamModel" (32 : Nat) ({ cls := "PrettyStreamModel", name := "width", desc := "(I)V" } : Jvm.MethodName)) ∈ lw_all := lw_g (lw_at lw_m1 139 rfl) rfl
theorem q151 : (Jvm.Cond.instanceMethod ({ cls := "PrettyStreamModel", name := "width", desc := "(I)V" } : Jvm.MethodName)) ∈ lw_all := lw_g (lw_at lw_m1 140 rfl) rfl
theorem q152 : (Jvm.Cond.selects "PrettyStreamModel" ({ cls := "PrettyStreamModel", name := "width", desc := "(I)V" } : Jvm.MethodName) ({ cls := "PrettyStreamModel", name := "width", desc := "(I)V" } : Jvm.MethodName)) ∈ lw_all := lw_g (lw_at lw_m1 141 rfl) rfl
theorem q153 : (Jvm.Cond.code ({ cls := "PrettyStreamModel", name := "width", desc := "(I)V" } : Jvm.MethodName) prog_3_method_8_code (2 : Nat) (Option.none : Option Jvm.ClassFile.FieldType)) ∈ lw_all := lw_g (lw_at lw_m1 142 rfl) rfl
theorem q154 : (Jvm.Cond.fieldLink "PrettyStreamModel" (48 : Nat) "PrettyStreamModel" "most" "I") ∈ lw_all := lw_g (lw_at lw_m1 143 rfl) rfl
theorem q155 : (Jvm.Cond.fieldLink "PrettyStreamModel" (36 : Nat) "PrettyStreamModel" "pieces" "I") ∈ lw_all := lw_g (lw_at lw_m1 144 rfl) rfl
theorem q156 : (Jvm.Cond.fieldLink "PrettyStreamModel" (7 : Nat) "PrettyStreamModel" "sorts" "[I") ∈ lw_all := lw_g (lw_at lw_m1 145 rfl) rfl
theorem q157 : (Jvm.Cond.fieldLink "PrettyStreamModel" (13 : Nat) "PrettyStreamModel" "args" "[I") ∈ lw_all := lw_g (lw_at lw_m1 146 rfl) rfl
theorem q158 : (Jvm.Cond.fieldLink "PrettyStreamModel" (51 : Nat) "PrettyStreamModel" "depth" "I") ∈ lw_all := lw_g (lw_at lw_m1 147 rfl) rfl
theorem q159 : (Jvm.Cond.fieldLink "PrettyStreamModel" (16 : Nat) "PrettyStreamModel" "flats" "[Z") ∈ lw_all := lw_g (lw_at lw_m1 148 rfl) rfl
theorem q160 : (Jvm.Cond.fieldLink "PrettyStreamModel" (20 : Nat) "PrettyStreamModel" "margins" "[I") ∈ lw_all := lw_g (lw_at lw_m1 149 rfl) rfl
theorem q161 : (Jvm.Cond.fieldLink "PrettyStreamModel" (23 : Nat) "PrettyStreamModel" "rowOf" "[I") ∈ lw_all := lw_g (lw_at lw_m1 150 rfl) rfl
theorem q162 : (Jvm.Cond.fieldLink "PrettyStreamModel" (26 : Nat) "PrettyStreamModel" "columnOf" "[I") ∈ lw_all := lw_g (lw_at lw_m1 151 rfl) rfl
theorem q163 : (Jvm.Cond.fieldLink "PrettyStreamModel" (29 : Nat) "PrettyStreamModel" "flatOf" "[Z") ∈ lw_all := lw_g (lw_at lw_m1 152 rfl) rfl
theorem q164 : (Jvm.Cond.fieldLink "PrettyStreamModel" (58 : Nat) "PrettyStreamModel" "lastRow" "I") ∈ lw_all := lw_g (lw_at lw_m1 153 rfl) rfl
theorem q165 : (Jvm.Cond.fieldLink "PrettyStreamModel" (61 : Nat) "PrettyStreamModel" "greatest" "I") ∈ lw_all := lw_g (lw_at lw_m1 154 rfl) rfl
theorem q166 : (Jvm.Cond.lays "PrettyStreamModel" "PrettyStreamModel" "most" "I") ∈ lw_all := lw_g (lw_at lw_m1 155 rfl) rfl
theorem q167 : (Jvm.Cond.soleField "PrettyStreamModel" "most") ∈ lw_all := lw_g (lw_at lw_m1 156 rfl) rfl
theorem q168 : (Jvm.Cond.lays "PrettyStreamModel" "PrettyStreamModel" "pieces" "I") ∈ lw_all := lw_g (lw_at lw_m1 157 rfl) rfl
theorem q169 : (Jvm.Cond.soleField "PrettyStreamModel" "pieces") ∈ lw_all := lw_g (lw_at lw_m1 158 rfl) rfl
theorem q170 : (Jvm.Cond.laysFinal "PrettyStreamModel" "PrettyStreamModel" "sorts" "[I") ∈ lw_all := lw_g (lw_at lw_m1 159 rfl) rfl
theorem q171 : (Jvm.Cond.soleField "PrettyStreamModel" "sorts") ∈ lw_all := lw_g (lw_at lw_m1 160 rfl) rfl
theorem q172 : (Jvm.Cond.laysFinal "PrettyStreamModel" "PrettyStreamModel" "args" "[I") ∈ lw_all := lw_g (lw_at lw_m1 161 rfl) rfl
theorem q173 : (Jvm.Cond.soleField "PrettyStreamModel" "args") ∈ lw_all := lw_g (lw_at lw_m1 162 rfl) rfl
theorem q174 : (Jvm.Cond.lays "PrettyStreamModel" "PrettyStreamModel" "depth" "I") ∈ lw_all := lw_g (lw_at lw_m1 163 rfl) rfl
theorem q175 : (Jvm.Cond.soleField "PrettyStreamModel" "depth") ∈ lw_all := lw_g (lw_at lw_m1 164 rfl) rfl
theorem q176 : (Jvm.Cond.laysFinal "PrettyStreamModel" "PrettyStreamModel" "flats" "[Z") ∈ lw_all := lw_g (lw_at lw_m1 165 rfl) rfl
theorem q177 : (Jvm.Cond.soleField "PrettyStreamModel" "flats") ∈ lw_all := lw_g (lw_at lw_m1 166 rfl) rfl
theorem q178 : (Jvm.Cond.laysFinal "PrettyStreamModel" "PrettyStreamModel" "margins" "[I") ∈ lw_all := lw_g (lw_at lw_m1 167 rfl) rfl
theorem q179 : (Jvm.Cond.soleField "PrettyStreamModel" "margins") ∈ lw_all := lw_g (lw_at lw_m1 168 rfl) rfl
theorem q180 : (Jvm.Cond.laysFinal "PrettyStreamModel" "PrettyStreamModel" "rowOf" "[I") ∈ lw_all := lw_g (lw_at lw_m1 169 rfl) rfl
theorem q181 : (Jvm.Cond.soleField "PrettyStreamModel" "rowOf") ∈ lw_all := lw_g (lw_at lw_m1 170 rfl) rfl
theorem q182 : (Jvm.Cond.laysFinal "PrettyStreamModel" "PrettyStreamModel" "columnOf" "[I") ∈ lw_all := lw_g (lw_at lw_m1 171 rfl) rfl
theorem q183 : (Jvm.Cond.soleField "PrettyStreamModel" "columnOf") ∈ lw_all := lw_g (lw_at lw_m1 172 rfl) rfl
theorem q184 : (Jvm.Cond.laysFinal "PrettyStreamModel" "PrettyStreamModel" "flatOf" "[Z") ∈ lw_all := lw_g (lw_at lw_m1 173 rfl) rfl
theorem q185 : (Jvm.Cond.soleField "PrettyStreamModel" "flatOf") ∈ lw_all := lw_g (lw_at lw_m1 174 rfl) rfl
theorem q186 : (Jvm.Cond.lays "PrettyStreamModel" "PrettyStreamModel" "lastRow" "I") ∈ lw_all := lw_g (lw_at lw_m1 175 rfl) rfl
theorem q187 : (Jvm.Cond.soleField "PrettyStreamModel" "lastRow") ∈ lw_all := lw_g (lw_at lw_m1 176 rfl) rfl
theorem q188 : (Jvm.Cond.lays "PrettyStreamModel" "PrettyStreamModel" "greatest" "I") ∈ lw_all := lw_g (lw_at lw_m1 177 rfl) rfl
theorem q189 : (Jvm.Cond.soleField "PrettyStreamModel" "greatest") ∈ lw_all := lw_g (lw_at lw_m1 178 rfl) rfl
theorem q190 : (Jvm.Cond.superclass "PrettyStreamModel" "java/lang/Object") ∈ lw_all := lw_g (lw_at lw_m1 179 rfl) rfl
theorem q192 : (Jvm.Cond.instanceMethod ({ cls := "PrettyStreamModel", name := "word", desc := "(I)I" } : Jvm.MethodName)) ∈ lw_all := lw_g (lw_at lw_m1 181 rfl) rfl
theorem q193 : (Jvm.Cond.selects "PrettyStreamModel" ({ cls := "PrettyStreamModel", name := "word", desc := "(I)I" } : Jvm.MethodName) ({ cls := "PrettyStreamModel", name := "word", desc := "(I)I" } : Jvm.MethodName)) ∈ lw_all := lw_g (lw_at lw_m1 182 rfl) rfl
theorem q194 : (Jvm.Cond.code ({ cls := "PrettyStreamModel", name := "word", desc := "(I)I" } : Jvm.MethodName) prog_3_method_3_code (2 : Nat) (Option.some Jvm.ClassFile.FieldType.int)) ∈ lw_all := lw_g (lw_at lw_m1 183 rfl) rfl
theorem q195 : (Jvm.Cond.methodLink "PrettyStreamModel" (40 : Nat) ({ cls := "PrettyStreamModel", name := "add", desc := "(II)I" } : Jvm.MethodName)) ∈ lw_all := lw_g (lw_at lw_m1 184 rfl) rfl
theorem q196 : (Jvm.Cond.privateMethod ({ cls := "PrettyStreamModel", name := "add", desc := "(II)I" } : Jvm.MethodName)) ∈ lw_tbl := lw_at lw_m1 185 rfl
theorem q197 : (Jvm.Cond.instanceMethod ({ cls := "PrettyStreamModel", name := "add", desc := "(II)I" } : Jvm.MethodName)) ∈ lw_all := lw_g (lw_at lw_m1 186 rfl) rfl
theorem q198 : (Jvm.Cond.code ({ cls := "PrettyStreamModel", name := "add", desc := "(II)I" } : Jvm.MethodName) prog_3_method_2_code (3 : Nat) (Option.some Jvm.ClassFile.FieldType.int)) ∈ lw_all := lw_g (lw_at lw_m1 187 rfl) rfl
theorem q200 : (Jvm.Cond.instanceMethod ({ cls := "PrettyStreamModel", name := "lineBreak", desc := "()I" } : Jvm.MethodName)) ∈ lw_all := lw_g (lw_at lw_m1 189 rfl) rfl
theorem q201 : (Jvm.Cond.selects "PrettyStreamModel" ({ cls := "PrettyStreamModel", name := "lineBreak", desc := "()I" } : Jvm.MethodName) ({ cls := "PrettyStreamModel", name := "lineBreak", desc := "()I" } : Jvm.MethodName)) ∈ lw_all := lw_g (lw_at lw_m1 190 rfl) rfl
theorem q202 : (Jvm.Cond.code ({ cls := "PrettyStreamModel", name := "lineBreak", desc := "()I" } : Jvm.MethodName) prog_3_method_4_code (1 : Nat) (Option.some Jvm.ClassFile.FieldType.int)) ∈ lw_all := lw_g (lw_at lw_m1 191 rfl) rfl
theorem q204 : (Jvm.Cond.instanceMethod ({ cls := "PrettyStreamModel", name := "open", desc := "(I)I" } : Jvm.MethodName)) ∈ lw_all := lw_g (lw_at lw_m1 193 rfl) rfl
theorem q205 : (Jvm.Cond.selects "PrettyStreamModel" ({ cls := "PrettyStreamModel", name := "open", desc := "(I)I" } : Jvm.MethodName) ({ cls := "PrettyStreamModel", name := "open", desc := "(I)I" } : Jvm.MethodName)) ∈ lw_all := lw_g (lw_at lw_m1 194 rfl) rfl
theorem q206 : (Jvm.Cond.code ({ cls := "PrettyStreamModel", name := "open", desc := "(I)I" } : Jvm.MethodName) prog_3_method_6_code (2 : Nat) (Option.some Jvm.ClassFile.FieldType.int)) ∈ lw_all := lw_g (lw_at lw_m1 195 rfl) rfl
theorem q207 : (Jvm.Cond.methodLink "PrettyStreamModel" (44 : Nat) ({ cls := "PrettyStreamModel", name := "waiting", desc := "()I" } : Jvm.MethodName)) ∈ lw_all := lw_g (lw_at lw_m1 196 rfl) rfl
theorem q208 : (Jvm.Cond.privateMethod ({ cls := "PrettyStreamModel", name := "waiting", desc := "()I" } : Jvm.MethodName)) ∈ lw_tbl := lw_at lw_m1 197 rfl
theorem q209 : (Jvm.Cond.instanceMethod ({ cls := "PrettyStreamModel", name := "waiting", desc := "()I" } : Jvm.MethodName)) ∈ lw_all := lw_g (lw_at lw_m1 198 rfl) rfl
theorem q210 : (Jvm.Cond.code ({ cls := "PrettyStreamModel", name := "waiting", desc := "()I" } : Jvm.MethodName) prog_3_method_5_code (3 : Nat) (Option.some Jvm.ClassFile.FieldType.int)) ∈ lw_all := lw_g (lw_at lw_m1 199 rfl) rfl
theorem q212 : (Jvm.Cond.instanceMethod ({ cls := "PrettyStreamModel", name := "close", desc := "()I" } : Jvm.MethodName)) ∈ lw_all := lw_g (lw_at lw_m1 201 rfl) rfl
theorem q213 : (Jvm.Cond.selects "PrettyStreamModel" ({ cls := "PrettyStreamModel", name := "close", desc := "()I" } : Jvm.MethodName) ({ cls := "PrettyStreamModel", name := "close", desc := "()I" } : Jvm.MethodName)) ∈ lw_all := lw_g (lw_at lw_m1 202 rfl) rfl
theorem q214 : (Jvm.Cond.code ({ cls := "PrettyStreamModel", name := "close", desc := "()I" } : Jvm.MethodName) prog_3_method_7_code (1 : Nat) (Option.some Jvm.ClassFile.FieldType.int)) ∈ lw_all := lw_g (lw_at lw_m1 203 rfl) rfl
theorem q217 : (Jvm.Cond.instanceMethod ({ cls := "PrettyStreamModel", name := "row", desc := "(I)I" } : Jvm.MethodName)) ∈ lw_all := lw_g (lw_at lw_m1 206 rfl) rfl
theorem q218 : (Jvm.Cond.selects "PrettyStreamModel" ({ cls := "PrettyStreamModel", name := "row", desc := "(I)I" } : Jvm.MethodName) ({ cls := "PrettyStreamModel", name := "row", desc := "(I)I" } : Jvm.MethodName)) ∈ lw_all := lw_g (lw_at lw_m1 207 rfl) rfl
theorem q219 : (Jvm.Cond.code ({ cls := "PrettyStreamModel", name := "row", desc := "(I)I" } : Jvm.MethodName) prog_3_method_13_code (2 : Nat) (Option.some Jvm.ClassFile.FieldType.int)) ∈ lw_all := lw_g (lw_at lw_m1 208 rfl) rfl
theorem q220 : (Jvm.Cond.methodLink "PrettyStreamModel" (68 : Nat) ({ cls := "PrettyStreamModel", name := "missing", desc := "(I)Z" } : Jvm.MethodName)) ∈ lw_all := lw_g (lw_at lw_m1 209 rfl) rfl
theorem q221 : (Jvm.Cond.privateMethod ({ cls := "PrettyStreamModel", name := "missing", desc := "(I)Z" } : Jvm.MethodName)) ∈ lw_tbl := lw_at lw_m1 210 rfl
theorem q222 : (Jvm.Cond.instanceMethod ({ cls := "PrettyStreamModel", name := "missing", desc := "(I)Z" } : Jvm.MethodName)) ∈ lw_all := lw_g (lw_at lw_m1 211 rfl) rfl
theorem q223 : (Jvm.Cond.code ({ cls := "PrettyStreamModel", name := "missing", desc := "(I)Z" } : Jvm.MethodName) prog_3_method_12_code (2 : Nat) (Option.some Jvm.ClassFile.FieldType.boolean)) ∈ lw_all := lw_g (lw_at lw_m1 212 rfl) rfl
theorem q224 : (Jvm.Cond.methodLink "PrettyStreamModel" (72 : Nat) ({ cls := "PrettyStreamModel", name := "lay", desc := "(I)V" } : Jvm.MethodName)) ∈ lw_all := lw_g (lw_at lw_m1 213 rfl) rfl
theorem q225 : (Jvm.Cond.privateMethod ({ cls := "PrettyStreamModel", name := "lay", desc := "(I)V" } : Jvm.MethodName)) ∈ lw_tbl := lw_at lw_m1 214 rfl
theorem q226 : (Jvm.Cond.instanceMethod ({ cls := "PrettyStreamModel", name := "lay", desc := "(I)V" } : Jvm.MethodName)) ∈ lw_all := lw_g (lw_at lw_m1 215 rfl) rfl
theorem q227 : (Jvm.Cond.code ({ cls := "PrettyStreamModel", name := "lay", desc := "(I)V" } : Jvm.MethodName) prog_3_method_11_code (5 : Nat) (Option.none : Option Jvm.ClassFile.FieldType)) ∈ lw_all := lw_g (lw_at lw_m1 216 rfl) rfl
theorem q228 : (Jvm.Cond.methodLink "PrettyStreamModel" (64 : Nat) ({ cls := "PrettyStreamModel", name := "enter", desc := "(III)V" } : Jvm.MethodName)) ∈ lw_all := lw_g (lw_at lw_m1 217 rfl) rfl
theorem q229 : (Jvm.Cond.privateMethod ({ cls := "PrettyStreamModel", name := "enter", desc := "(III)V" } : Jvm.MethodName)) ∈ lw_tbl := lw_at lw_m1 218 rfl
theorem q230 : (Jvm.Cond.instanceMethod ({ cls := "PrettyStreamModel", name := "enter", desc := "(III)V" } : Jvm.MethodName)) ∈ lw_all := lw_g (lw_at lw_m1 219 rfl) rfl
theorem q231 : (Jvm.Cond.code ({ cls := "PrettyStreamModel", name := "enter", desc := "(III)V" } : Jvm.MethodName) prog_3_method_10_code (6 : Nat) (Option.none : Option Jvm.ClassFile.FieldType)) ∈ lw_all := lw_g (lw_at lw_m1 220 rfl) rfl
theorem q232 : (Jvm.Cond.methodLink "PrettyStreamModel" (54 : Nat) ({ cls := "PrettyStreamModel", name := "reach", desc := "(I)I" } : Jvm.MethodName)) ∈ lw_all := lw_g (lw_at lw_m1 221 rfl) rfl
theorem q233 : (Jvm.Cond.privateMethod ({ cls := "PrettyStreamModel", name := "reach", desc := "(I)I" } : Jvm.MethodName)) ∈ lw_tbl := lw_at lw_m1 222 rfl
theorem q234 : (Jvm.Cond.instanceMethod ({ cls := "PrettyStreamModel", name := "reach", desc := "(I)I" } : Jvm.MethodName)) ∈ lw_all := lw_g (lw_at lw_m1 223 rfl) rfl
theorem q235 : (Jvm.Cond.code ({ cls := "PrettyStreamModel", name := "reach", desc := "(I)I" } : Jvm.MethodName) prog_3_method_9_code (5 : Nat) (Option.some Jvm.ClassFile.FieldType.int)) ∈ lw_all := lw_g (lw_at lw_m1 224 rfl) rfl
theorem q237 : (Jvm.Cond.instanceMethod ({ cls := "PrettyStreamModel", name := "column", desc := "(I)I" } : Jvm.MethodName)) ∈ lw_all := lw_g (lw_at lw_m1 226 rfl) rfl
theorem q238 : (Jvm.Cond.selects "PrettyStreamModel" ({ cls := "PrettyStreamModel", name := "column", desc := "(I)I" } : Jvm.MethodName) ({ cls := "PrettyStreamModel", name := "column", desc := "(I)I" } : Jvm.MethodName)) ∈ lw_all := lw_g (lw_at lw_m1 227 rfl) rfl
theorem q239 : (Jvm.Cond.code ({ cls := "PrettyStreamModel", name := "column", desc := "(I)I" } : Jvm.MethodName) prog_3_method_14_code (2 : Nat) (Option.some Jvm.ClassFile.FieldType.int)) ∈ lw_all := lw_g (lw_at lw_m1 228 rfl) rfl
theorem q241 : (Jvm.Cond.instanceMethod ({ cls := "PrettyStreamModel", name := "flat", desc := "(I)I" } : Jvm.MethodName)) ∈ lw_all := lw_g (lw_at lw_m1 230 rfl) rfl
theorem q242 : (Jvm.Cond.selects "PrettyStreamModel" ({ cls := "PrettyStreamModel", name := "flat", desc := "(I)I" } : Jvm.MethodName) ({ cls := "PrettyStreamModel", name := "flat", desc := "(I)I" } : Jvm.MethodName)) ∈ lw_all := lw_g (lw_at lw_m1 231 rfl) rfl
theorem q243 : (Jvm.Cond.code ({ cls := "PrettyStreamModel", name := "flat", desc := "(I)I" } : Jvm.MethodName) prog_3_method_15_code (2 : Nat) (Option.some Jvm.ClassFile.FieldType.int)) ∈ lw_all := lw_g (lw_at lw_m1 232 rfl) rfl
theorem q245 : (Jvm.Cond.instanceMethod ({ cls := "PrettyStreamModel", name := "rows", desc := "()I" } : Jvm.MethodName)) ∈ lw_all := lw_g (lw_at lw_m1 234 rfl) rfl
theorem q246 : (Jvm.Cond.selects "PrettyStreamModel" ({ cls := "PrettyStreamModel", name := "rows", desc := "()I" } : Jvm.MethodName) ({ cls := "PrettyStreamModel", name := "rows", desc := "()I" } : Jvm.MethodName)) ∈ lw_all := lw_g (lw_at lw_m1 235 rfl) rfl
theorem q247 : (Jvm.Cond.code ({ cls := "PrettyStreamModel", name := "rows", desc := "()I" } : Jvm.MethodName) prog_3_method_16_code (1 : Nat) (Option.some Jvm.ClassFile.FieldType.int)) ∈ lw_all := lw_g (lw_at lw_m1 236 rfl) rfl
theorem q249 : (Jvm.Cond.instanceMethod ({ cls := "PrettyStreamModel", name := "widest", desc := "()I" } : Jvm.MethodName)) ∈ lw_all := lw_g (lw_at lw_m1 238 rfl) rfl
theorem q250 : (Jvm.Cond.selects "PrettyStreamModel" ({ cls := "PrettyStreamModel", name := "widest", desc := "()I" } : Jvm.MethodName) ({ cls := "PrettyStreamModel", name := "widest", desc := "()I" } : Jvm.MethodName)) ∈ lw_all := lw_g (lw_at lw_m1 239 rfl) rfl
theorem q251 : (Jvm.Cond.code ({ cls := "PrettyStreamModel", name := "widest", desc := "()I" } : Jvm.MethodName) prog_3_method_17_code (1 : Nat) (Option.some Jvm.ClassFile.FieldType.int)) ∈ lw_all := lw_g (lw_at lw_m2 0 rfl) rfl
theorem q253 : (Jvm.Cond.instanceMethod ({ cls := "PrettyStreamModel", name := "leastWidth", desc := "(I)I" } : Jvm.MethodName)) ∈ lw_all := lw_g (lw_at lw_m2 2 rfl) rfl
theorem q254 : (Jvm.Cond.selects "PrettyStreamModel" ({ cls := "PrettyStreamModel", name := "leastWidth", desc := "(I)I" } : Jvm.MethodName) ({ cls := "PrettyStreamModel", name := "leastWidth", desc := "(I)I" } : Jvm.MethodName)) ∈ lw_all := lw_g (lw_at lw_m2 3 rfl) rfl
theorem q255 : (Jvm.Cond.code ({ cls := "PrettyStreamModel", name := "leastWidth", desc := "(I)I" } : Jvm.MethodName) prog_3_method_18_code (3 : Nat) (Option.some Jvm.ClassFile.FieldType.int)) ∈ lw_all := lw_g (lw_at lw_m2 4 rfl) rfl
theorem in_X2 : ∀ w ∈ wsX20, w ∈ lw_all := lw_in wsX20 [166, 168, 170, 172, 174, 176, 178, 180, 182, 184, 186, 188] (by decide +kernel) (by decide +kernel)

/-! the law's own entry -/
set_option maxRecDepth 100000
abbrev cL_law : ByteArray := code
end
section
set_option maxRecDepth 100000
theorem dX1_init_0 : decode cX1_init 0 = .ok (.aload_n 0, 1) := by decide +kernel
theorem dX1_init_1 : decode cX1_init 1 = .ok (.invokespecial 1, 3) := by decide +kernel
theorem dX1_init_4 : decode cX1_init 4 = .ok (.aload_n 0, 1) := by decide +kernel
theorem dX1_init_5 : decode cX1_init 5 = .ok (.bipush 60, 2) := by decide +kernel
theorem dX1_init_7 : decode cX1_init 7 = .ok (.newarray .int, 2) := by decide +kernel
theorem dX1_init_9 : decode cX1_init 9 = .ok (.putfield 7, 3) := by decide +kernel
theorem dX1_init_12 : decode cX1_init 12 = .ok (.aload_n 0, 1) := by decide +kernel
theorem dX1_init_13 : decode cX1_init 13 = .ok (.bipush 60, 2) := by decide +kernel
theorem dX1_init_15 : decode cX1_init 15 = .ok (.newarray .int, 2) := by decide +kernel
theorem dX1_init_17 : decode cX1_init 17 = .ok (.putfield 13, 3) := by decide +kernel
theorem dX1_init_20 : decode cX1_init 20 = .ok (.aload_n 0, 1) := by decide +kernel
theorem dX1_init_21 : decode cX1_init 21 = .ok (.bipush 60, 2) := by decide +kernel
theorem dX1_init_23 : decode cX1_init 23 = .ok (.newarray .int, 2) := by decide +kernel
theorem dX1_init_25 : decode cX1_init 25 = .ok (.putfield 16, 3) := by decide +kernel
theorem dX1_init_28 : decode cX1_init 28 = .ok (.aload_n 0, 1) := by decide +kernel
theorem dX1_init_29 : decode cX1_init 29 = .ok (.bipush 60, 2) := by decide +kernel
theorem dX1_init_31 : decode cX1_init 31 = .ok (.newarray .int, 2) := by decide +kernel
theorem dX1_init_33 : decode cX1_init 33 = .ok (.putfield 19, 3) := by decide +kernel
theorem dX1_init_36 : decode cX1_init 36 = .ok (.aload_n 0, 1) := by decide +kernel
theorem dX1_init_37 : decode cX1_init 37 = .ok (.bipush 12, 2) := by decide +kernel
theorem dX1_init_39 : decode cX1_init 39 = .ok (.newarray .int, 2) := by decide +kernel
theorem dX1_init_41 : decode cX1_init 41 = .ok (.putfield 22, 3) := by decide +kernel
theorem dX1_init_44 : decode cX1_init 44 = .ok (.aload_n 0, 1) := by decide +kernel
theorem dX1_init_45 : decode cX1_init 45 = .ok (.bipush 60, 2) := by decide +kernel
theorem dX1_init_47 : decode cX1_init 47 = .ok (.newarray .int, 2) := by decide +kernel
theorem dX1_init_49 : decode cX1_init 49 = .ok (.putfield 25, 3) := by decide +kernel
theorem dX1_init_52 : decode cX1_init 52 = .ok (.aload_n 0, 1) := by decide +kernel
theorem dX1_init_53 : decode cX1_init 53 = .ok (.bipush 60, 2) := by decide +kernel
theorem dX1_init_55 : decode cX1_init 55 = .ok (.newarray .int, 2) := by decide +kernel
theorem dX1_init_57 : decode cX1_init 57 = .ok (.putfield 28, 3) := by decide +kernel
theorem dX1_init_60 : decode cX1_init 60 = .ok (.aload_n 0, 1) := by decide +kernel
theorem dX1_init_61 : decode cX1_init 61 = .ok (.bipush 60, 2) := by decide +kernel
theorem dX1_init_63 : decode cX1_init 63 = .ok (.newarray .int, 2) := by decide +kernel
theorem dX1_init_65 : decode cX1_init 65 = .ok (.putfield 31, 3) := by decide +kernel
theorem dX1_init_68 : decode cX1_init 68 = .ok (.aload_n 0, 1) := by decide +kernel
theorem dX1_init_69 : decode cX1_init 69 = .ok (.bipush 60, 2) := by decide +kernel
theorem dX1_init_71 : decode cX1_init 71 = .ok (.newarray .boolean, 2) := by decide +kernel
theorem dX1_init_73 : decode cX1_init 73 = .ok (.putfield 34, 3) := by decide +kernel
theorem dX1_init_76 : decode cX1_init 76 = .ok (.aload_n 0, 1) := by decide +kernel
theorem dX1_init_77 : decode cX1_init 77 = .ok (.bipush 60, 2) := by decide +kernel
theorem dX1_init_79 : decode cX1_init 79 = .ok (.newarray .int, 2) := by decide +kernel
theorem dX1_init_81 : decode cX1_init 81 = .ok (.putfield 38, 3) := by decide +kernel
theorem dX1_init_84 : decode cX1_init 84 = .ok (.aload_n 0, 1) := by decide +kernel
theorem dX1_init_85 : decode cX1_init 85 = .ok (.iload_n 1, 1) := by decide +kernel
theorem dX1_init_86 : decode cX1_init 86 = .ok (.invokevirtual 41, 3) := by decide +kernel
theorem dX1_init_89 : decode cX1_init 89 = .ok (.return_, 1) := by decide +kernel
theorem dX1_width_0 : decode cX1_width 0 = .ok (.aload_n 0, 1) := by decide +kernel
theorem dX1_width_1 : decode cX1_width 1 = .ok (.iload_n 1, 1) := by decide +kernel
theorem dX1_width_2 : decode cX1_width 2 = .ok (.iconst 1, 1) := by decide +kernel
theorem dX1_width_3 : decode cX1_width 3 = .ok (.if_icmp .ge 7, 3) := by decide +kernel
theorem dX1_width_6 : decode cX1_width 6 = .ok (.iconst 1, 1) := by decide +kernel
theorem dX1_width_7 : decode cX1_width 7 = .ok (.goto 15, 3) := by decide +kernel
theorem dX1_width_10 : decode cX1_width 10 = .ok (.iload_n 1, 1) := by decide +kernel
theorem dX1_width_11 : decode cX1_width 11 = .ok (.bipush 100, 2) := by decide +kernel
theorem dX1_width_13 : decode cX1_width 13 = .ok (.if_icmp .le 8, 3) := by decide +kernel
theorem dX1_width_16 : decode cX1_width 16 = .ok (.bipush 100, 2) := by decide +kernel
theorem dX1_width_18 : decode cX1_width 18 = .ok (.goto 4, 3) := by decide +kernel
theorem dX1_width_21 : decode cX1_width 21 = .ok (.iload_n 1, 1) := by decide +kernel
theorem dX1_width_22 : decode cX1_width 22 = .ok (.putfield 63, 3) := by decide +kernel
theorem dX1_width_25 : decode cX1_width 25 = .ok (.aload_n 0, 1) := by decide +kernel
theorem dX1_width_26 : decode cX1_width 26 = .ok (.iconst 0, 1) := by decide +kernel
theorem dX1_width_27 : decode cX1_width 27 = .ok (.putfield 60, 3) := by decide +kernel
theorem dX1_width_30 : decode cX1_width 30 = .ok (.return_, 1) := by decide +kernel
theorem dX1_word_0 : decode cX1_word 0 = .ok (.iload_n 1, 1) := by decide +kernel
theorem dX1_word_1 : decode cX1_word 1 = .ok (.iconst 1, 1) := by decide +kernel
theorem dX1_word_2 : decode cX1_word 2 = .ok (.if_icmp .lt 9, 3) := by decide +kernel
theorem dX1_word_5 : decode cX1_word 5 = .ok (.iload_n 1, 1) := by decide +kernel
theorem dX1_word_6 : decode cX1_word 6 = .ok (.bipush 20, 2) := by decide +kernel
theorem dX1_word_8 : decode cX1_word 8 = .ok (.if_icmp .le 7, 3) := by decide +kernel
theorem dX1_word_11 : decode cX1_word 11 = .ok (.iconst (-1), 1) := by decide +kernel
theorem dX1_word_12 : decode cX1_word 12 = .ok (.goto 9, 3) := by decide +kernel
theorem dX1_word_15 : decode cX1_word 15 = .ok (.aload_n 0, 1) := by decide +kernel
theorem dX1_word_16 : decode cX1_word 16 = .ok (.iconst 0, 1) := by decide +kernel
theorem dX1_word_17 : decode cX1_word 17 = .ok (.iload_n 1, 1) := by decide +kernel
theorem dX1_word_18 : decode cX1_word 18 = .ok (.invokevirtual 45, 3) := by decide +kernel
theorem dX1_word_21 : decode cX1_word 21 = .ok (.ireturn, 1) := by decide +kernel
theorem dX1_addPiece_0 : decode cX1_addPiece 0 = .ok (.aload_n 0, 1) := by decide +kernel
theorem dX1_addPiece_1 : decode cX1_addPiece 1 = .ok (.getfield 53, 3) := by decide +kernel
theorem dX1_addPiece_4 : decode cX1_addPiece 4 = .ok (.bipush 60, 2) := by decide +kernel
theorem dX1_addPiece_6 : decode cX1_addPiece 6 = .ok (.if_icmp .lt 5, 3) := by decide +kernel
theorem dX1_addPiece_9 : decode cX1_addPiece 9 = .ok (.iconst (-1), 1) := by decide +kernel
theorem dX1_addPiece_10 : decode cX1_addPiece 10 = .ok (.ireturn, 1) := by decide +kernel
theorem dX1_addPiece_11 : decode cX1_addPiece 11 = .ok (.aload_n 0, 1) := by decide +kernel
theorem dX1_addPiece_12 : decode cX1_addPiece 12 = .ok (.getfield 7, 3) := by decide +kernel
theorem dX1_addPiece_15 : decode cX1_addPiece 15 = .ok (.aload_n 0, 1) := by decide +kernel
theorem dX1_addPiece_16 : decode cX1_addPiece 16 = .ok (.getfield 53, 3) := by decide +kernel
theorem dX1_addPiece_19 : decode cX1_addPiece 19 = .ok (.iload_n 1, 1) := by decide +kernel
theorem dX1_addPiece_20 : decode cX1_addPiece 20 = .ok (.iastore, 1) := by decide +kernel
theorem dX1_addPiece_21 : decode cX1_addPiece 21 = .ok (.aload_n 0, 1) := by decide +kernel
theorem dX1_addPiece_22 : decode cX1_addPiece 22 = .ok (.getfield 13, 3) := by decide +kernel
theorem dX1_addPiece_25 : decode cX1_addPiece 25 = .ok (.aload_n 0, 1) := by decide +kernel
theorem dX1_addPiece_26 : decode cX1_addPiece 26 = .ok (.getfield 53, 3) := by decide +kernel
theorem dX1_addPiece_29 : decode cX1_addPiece 29 = .ok (.iload_n 2, 1) := by decide +kernel
theorem dX1_addPiece_30 : decode cX1_addPiece 30 = .ok (.iastore, 1) := by decide +kernel
theorem dX1_addPiece_31 : decode cX1_addPiece 31 = .ok (.aload_n 0, 1) := by decide +kernel
theorem dX1_addPiece_32 : decode cX1_addPiece 32 = .ok (.dup, 1) := by decide +kernel
theorem dX1_addPiece_33 : decode cX1_addPiece 33 = .ok (.getfield 53, 3) := by decide +kernel
theorem dX1_addPiece_36 : decode cX1_addPiece 36 = .ok (.iconst 1, 1) := by decide +kernel
theorem dX1_addPiece_37 : decode cX1_addPiece 37 = .ok (.iadd, 1) := by decide +kernel
theorem dX1_addPiece_38 : decode cX1_addPiece 38 = .ok (.putfield 53, 3) := by decide +kernel
theorem dX1_addPiece_41 : decode cX1_addPiece 41 = .ok (.aload_n 0, 1) := by decide +kernel
theorem dX1_addPiece_42 : decode cX1_addPiece 42 = .ok (.iconst 0, 1) := by decide +kernel
theorem dX1_addPiece_43 : decode cX1_addPiece 43 = .ok (.putfield 56, 3) := by decide +kernel
theorem dX1_addPiece_46 : decode cX1_addPiece 46 = .ok (.aload_n 0, 1) := by decide +kernel
theorem dX1_addPiece_47 : decode cX1_addPiece 47 = .ok (.iconst 0, 1) := by decide +kernel
theorem dX1_addPiece_48 : decode cX1_addPiece 48 = .ok (.putfield 60, 3) := by decide +kernel
theorem dX1_addPiece_51 : decode cX1_addPiece 51 = .ok (.aload_n 0, 1) := by decide +kernel
theorem dX1_addPiece_52 : decode cX1_addPiece 52 = .ok (.getfield 53, 3) := by decide +kernel
theorem dX1_addPiece_55 : decode cX1_addPiece 55 = .ok (.ireturn, 1) := by decide +kernel
theorem dX1_lineBreak_0 : decode cX1_lineBreak 0 = .ok (.aload_n 0, 1) := by decide +kernel
theorem dX1_lineBreak_1 : decode cX1_lineBreak 1 = .ok (.iconst 1, 1) := by decide +kernel
theorem dX1_lineBreak_2 : decode cX1_lineBreak 2 = .ok (.iconst 1, 1) := by decide +kernel
theorem dX1_lineBreak_3 : decode cX1_lineBreak 3 = .ok (.invokevirtual 45, 3) := by decide +kernel
theorem dX1_lineBreak_6 : decode cX1_lineBreak 6 = .ok (.ireturn, 1) := by decide +kernel
theorem dX1_open_0 : decode cX1_open 0 = .ok (.iload_n 1, 1) := by decide +kernel
theorem dX1_open_1 : decode cX1_open 1 = .ok (.ifCond .lt 18, 3) := by decide +kernel
theorem dX1_open_4 : decode cX1_open 4 = .ok (.iload_n 1, 1) := by decide +kernel
theorem dX1_open_5 : decode cX1_open 5 = .ok (.bipush 8, 2) := by decide +kernel
theorem dX1_open_7 : decode cX1_open 7 = .ok (.if_icmp .gt 12, 3) := by decide +kernel
theorem dX1_open_10 : decode cX1_open 10 = .ok (.aload_n 0, 1) := by decide +kernel
theorem dX1_open_11 : decode cX1_open 11 = .ok (.getfield 49, 3) := by decide +kernel
theorem dX1_open_14 : decode cX1_open 14 = .ok (.bipush 12, 2) := by decide +kernel
theorem dX1_open_16 : decode cX1_open 16 = .ok (.if_icmp .lt 5, 3) := by decide +kernel
theorem dX1_open_19 : decode cX1_open 19 = .ok (.iconst (-1), 1) := by decide +kernel
theorem dX1_open_20 : decode cX1_open 20 = .ok (.ireturn, 1) := by decide +kernel
theorem dX1_open_21 : decode cX1_open 21 = .ok (.aload_n 0, 1) := by decide +kernel
theorem dX1_open_22 : decode cX1_open 22 = .ok (.iconst 2, 1) := by decide +kernel
theorem dX1_open_23 : decode cX1_open 23 = .ok (.iload_n 1, 1) := by decide +kernel
theorem dX1_open_24 : decode cX1_open 24 = .ok (.invokevirtual 45, 3) := by decide +kernel
theorem dX1_open_27 : decode cX1_open 27 = .ok (.istore_n 2, 1) := by decide +kernel
theorem dX1_open_28 : decode cX1_open 28 = .ok (.aload_n 0, 1) := by decide +kernel
theorem dX1_open_29 : decode cX1_open 29 = .ok (.dup, 1) := by decide +kernel
theorem dX1_open_30 : decode cX1_open 30 = .ok (.getfield 49, 3) := by decide +kernel
theorem dX1_open_33 : decode cX1_open 33 = .ok (.iload_n 2, 1) := by decide +kernel
theorem dX1_open_34 : decode cX1_open 34 = .ok (.ifCond .ge 7, 3) := by decide +kernel
theorem dX1_open_37 : decode cX1_open 37 = .ok (.iconst 0, 1) := by decide +kernel
theorem dX1_open_38 : decode cX1_open 38 = .ok (.goto 4, 3) := by decide +kernel
theorem dX1_open_41 : decode cX1_open 41 = .ok (.iconst 1, 1) := by decide +kernel
theorem dX1_open_42 : decode cX1_open 42 = .ok (.iadd, 1) := by decide +kernel
theorem dX1_open_43 : decode cX1_open 43 = .ok (.putfield 49, 3) := by decide +kernel
theorem dX1_open_46 : decode cX1_open 46 = .ok (.iload_n 2, 1) := by decide +kernel
theorem dX1_open_47 : decode cX1_open 47 = .ok (.ireturn, 1) := by decide +kernel
theorem dX1_close_0 : decode cX1_close 0 = .ok (.aload_n 0, 1) := by decide +kernel
theorem dX1_close_1 : decode cX1_close 1 = .ok (.getfield 49, 3) := by decide +kernel
theorem dX1_close_4 : decode cX1_close 4 = .ok (.ifCond .ne 5, 3) := by decide +kernel
theorem dX1_close_7 : decode cX1_close 7 = .ok (.iconst (-1), 1) := by decide +kernel
theorem dX1_close_8 : decode cX1_close 8 = .ok (.ireturn, 1) := by decide +kernel
theorem dX1_close_9 : decode cX1_close 9 = .ok (.aload_n 0, 1) := by decide +kernel
theorem dX1_close_10 : decode cX1_close 10 = .ok (.iconst 3, 1) := by decide +kernel
theorem dX1_close_11 : decode cX1_close 11 = .ok (.iconst 0, 1) := by decide +kernel
theorem dX1_close_12 : decode cX1_close 12 = .ok (.invokevirtual 45, 3) := by decide +kernel
theorem dX1_close_15 : decode cX1_close 15 = .ok (.istore_n 1, 1) := by decide +kernel
theorem dX1_close_16 : decode cX1_close 16 = .ok (.aload_n 0, 1) := by decide +kernel
theorem dX1_close_17 : decode cX1_close 17 = .ok (.dup, 1) := by decide +kernel
theorem dX1_close_18 : decode cX1_close 18 = .ok (.getfield 49, 3) := by decide +kernel
theorem dX1_close_21 : decode cX1_close 21 = .ok (.iload_n 1, 1) := by decide +kernel
theorem dX1_close_22 : decode cX1_close 22 = .ok (.ifCond .ge 7, 3) := by decide +kernel
theorem dX1_close_25 : decode cX1_close 25 = .ok (.iconst 0, 1) := by decide +kernel
theorem dX1_close_26 : decode cX1_close 26 = .ok (.goto 4, 3) := by decide +kernel
theorem dX1_close_29 : decode cX1_close 29 = .ok (.iconst 1, 1) := by decide +kernel
theorem dX1_close_30 : decode cX1_close 30 = .ok (.isub, 1) := by decide +kernel
theorem dX1_close_31 : decode cX1_close 31 = .ok (.putfield 49, 3) := by decide +kernel
theorem dX1_close_34 : decode cX1_close 34 = .ok (.iload_n 1, 1) := by decide +kernel
theorem dX1_close_35 : decode cX1_close 35 = .ok (.ireturn, 1) := by decide +kernel
theorem dX1_row_0 : decode cX1_row 0 = .ok (.iload_n 1, 1) := by decide +kernel
theorem dX1_row_1 : decode cX1_row 1 = .ok (.ifCond .lt 11, 3) := by decide +kernel
theorem dX1_row_4 : decode cX1_row 4 = .ok (.iload_n 1, 1) := by decide +kernel
theorem dX1_row_5 : decode cX1_row 5 = .ok (.aload_n 0, 1) := by decide +kernel
theorem dX1_row_6 : decode cX1_row 6 = .ok (.getfield 53, 3) := by decide +kernel
theorem dX1_row_9 : decode cX1_row 9 = .ok (.if_icmp .lt 5, 3) := by decide +kernel
theorem dX1_row_12 : decode cX1_row 12 = .ok (.iconst (-1), 1) := by decide +kernel
theorem dX1_row_13 : decode cX1_row 13 = .ok (.ireturn, 1) := by decide +kernel
theorem dX1_row_14 : decode cX1_row 14 = .ok (.aload_n 0, 1) := by decide +kernel
theorem dX1_row_15 : decode cX1_row 15 = .ok (.invokevirtual 66, 3) := by decide +kernel
theorem dX1_row_18 : decode cX1_row 18 = .ok (.aload_n 0, 1) := by decide +kernel
theorem dX1_row_19 : decode cX1_row 19 = .ok (.getfield 28, 3) := by decide +kernel
theorem dX1_row_22 : decode cX1_row 22 = .ok (.iload_n 1, 1) := by decide +kernel
theorem dX1_row_23 : decode cX1_row 23 = .ok (.iaload, 1) := by decide +kernel
theorem dX1_row_24 : decode cX1_row 24 = .ok (.ireturn, 1) := by decide +kernel
theorem dX1_prepare_0 : decode cX1_prepare 0 = .ok (.aload_n 0, 1) := by decide +kernel
theorem dX1_prepare_1 : decode cX1_prepare 1 = .ok (.getfield 60, 3) := by decide +kernel
theorem dX1_prepare_4 : decode cX1_prepare 4 = .ok (.ifCond .ne 20, 3) := by decide +kernel
theorem dX1_prepare_7 : decode cX1_prepare 7 = .ok (.aload_n 0, 1) := by decide +kernel
theorem dX1_prepare_8 : decode cX1_prepare 8 = .ok (.invokevirtual 75, 3) := by decide +kernel
theorem dX1_prepare_11 : decode cX1_prepare 11 = .ok (.aload_n 0, 1) := by decide +kernel
theorem dX1_prepare_12 : decode cX1_prepare 12 = .ok (.aload_n 0, 1) := by decide +kernel
theorem dX1_prepare_13 : decode cX1_prepare 13 = .ok (.getfield 63, 3) := by decide +kernel
theorem dX1_prepare_16 : decode cX1_prepare 16 = .ok (.invokevirtual 78, 3) := by decide +kernel
theorem dX1_prepare_19 : decode cX1_prepare 19 = .ok (.aload_n 0, 1) := by decide +kernel
theorem dX1_prepare_20 : decode cX1_prepare 20 = .ok (.iconst 1, 1) := by decide +kernel
theorem dX1_prepare_21 : decode cX1_prepare 21 = .ok (.putfield 60, 3) := by decide +kernel
theorem dX1_prepare_24 : decode cX1_prepare 24 = .ok (.return_, 1) := by decide +kernel
theorem dX1_measure_0 : decode cX1_measure 0 = .ok (.aload_n 0, 1) := by decide +kernel
theorem dX1_measure_1 : decode cX1_measure 1 = .ok (.getfield 56, 3) := by decide +kernel
theorem dX1_measure_4 : decode cX1_measure 4 = .ok (.ifCond .eq 4, 3) := by decide +kernel
theorem dX1_measure_7 : decode cX1_measure 7 = .ok (.return_, 1) := by decide +kernel
theorem dX1_measure_8 : decode cX1_measure 8 = .ok (.aload_n 0, 1) := by decide +kernel
theorem dX1_measure_9 : decode cX1_measure 9 = .ok (.iconst 1, 1) := by decide +kernel
theorem dX1_measure_10 : decode cX1_measure 10 = .ok (.putfield 56, 3) := by decide +kernel
theorem dX1_measure_13 : decode cX1_measure 13 = .ok (.iconst 0, 1) := by decide +kernel
theorem dX1_measure_14 : decode cX1_measure 14 = .ok (.istore_n 1, 1) := by decide +kernel
theorem dX1_measure_15 : decode cX1_measure 15 = .ok (.iconst 0, 1) := by decide +kernel
theorem dX1_measure_16 : decode cX1_measure 16 = .ok (.istore_n 2, 1) := by decide +kernel
theorem dX1_measure_17 : decode cX1_measure 17 = .ok (.iconst 0, 1) := by decide +kernel
theorem dX1_measure_18 : decode cX1_measure 18 = .ok (.istore_n 3, 1) := by decide +kernel
theorem dX1_measure_19 : decode cX1_measure 19 = .ok (.iconst 0, 1) := by decide +kernel
theorem dX1_measure_20 : decode cX1_measure 20 = .ok (.istore 4, 2) := by decide +kernel
theorem dX1_measure_22 : decode cX1_measure 22 = .ok (.iload 4, 2) := by decide +kernel
theorem dX1_measure_24 : decode cX1_measure 24 = .ok (.aload_n 0, 1) := by decide +kernel
theorem dX1_measure_25 : decode cX1_measure 25 = .ok (.getfield 53, 3) := by decide +kernel
theorem dX1_measure_28 : decode cX1_measure 28 = .ok (.if_icmp .ge 103, 3) := by decide +kernel
theorem dX1_measure_31 : decode cX1_measure 31 = .ok (.aload_n 0, 1) := by decide +kernel
theorem dX1_measure_32 : decode cX1_measure 32 = .ok (.getfield 7, 3) := by decide +kernel
theorem dX1_measure_35 : decode cX1_measure 35 = .ok (.iload 4, 2) := by decide +kernel
theorem dX1_measure_37 : decode cX1_measure 37 = .ok (.iaload, 1) := by decide +kernel
theorem dX1_measure_38 : decode cX1_measure 38 = .ok (.iconst 2, 1) := by decide +kernel
theorem dX1_measure_39 : decode cX1_measure 39 = .ok (.if_icmp .ne 25, 3) := by decide +kernel
theorem dX1_measure_42 : decode cX1_measure 42 = .ok (.aload_n 0, 1) := by decide +kernel
theorem dX1_measure_43 : decode cX1_measure 43 = .ok (.getfield 19, 3) := by decide +kernel
theorem dX1_measure_46 : decode cX1_measure 46 = .ok (.iload 4, 2) := by decide +kernel
theorem dX1_measure_48 : decode cX1_measure 48 = .ok (.iload_n 1, 1) := by decide +kernel
theorem dX1_measure_49 : decode cX1_measure 49 = .ok (.iastore, 1) := by decide +kernel
theorem dX1_measure_50 : decode cX1_measure 50 = .ok (.aload_n 0, 1) := by decide +kernel
theorem dX1_measure_51 : decode cX1_measure 51 = .ok (.getfield 22, 3) := by decide +kernel
theorem dX1_measure_54 : decode cX1_measure 54 = .ok (.iload_n 2, 1) := by decide +kernel
theorem dX1_measure_55 : decode cX1_measure 55 = .ok (.iload 4, 2) := by decide +kernel
theorem dX1_measure_57 : decode cX1_measure 57 = .ok (.iastore, 1) := by decide +kernel
theorem dX1_measure_58 : decode cX1_measure 58 = .ok (.iinc 2 1, 3) := by decide +kernel
theorem dX1_measure_61 : decode cX1_measure 61 = .ok (.goto 64, 3) := by decide +kernel
theorem dX1_measure_64 : decode cX1_measure 64 = .ok (.aload_n 0, 1) := by decide +kernel
theorem dX1_measure_65 : decode cX1_measure 65 = .ok (.getfield 7, 3) := by decide +kernel
theorem dX1_measure_68 : decode cX1_measure 68 = .ok (.iload 4, 2) := by decide +kernel
theorem dX1_measure_70 : decode cX1_measure 70 = .ok (.iaload, 1) := by decide +kernel
theorem dX1_measure_71 : decode cX1_measure 71 = .ok (.iconst 3, 1) := by decide +kernel
theorem dX1_measure_72 : decode cX1_measure 72 = .ok (.if_icmp .ne 24, 3) := by decide +kernel
theorem dX1_measure_75 : decode cX1_measure 75 = .ok (.iinc 2 (-1), 3) := by decide +kernel
theorem dX1_measure_78 : decode cX1_measure 78 = .ok (.aload_n 0, 1) := by decide +kernel
theorem dX1_measure_79 : decode cX1_measure 79 = .ok (.getfield 25, 3) := by decide +kernel
theorem dX1_measure_82 : decode cX1_measure 82 = .ok (.iload_n 3, 1) := by decide +kernel
theorem dX1_measure_83 : decode cX1_measure 83 = .ok (.aload_n 0, 1) := by decide +kernel
theorem dX1_measure_84 : decode cX1_measure 84 = .ok (.getfield 22, 3) := by decide +kernel
theorem dX1_measure_87 : decode cX1_measure 87 = .ok (.iload_n 2, 1) := by decide +kernel
theorem dX1_measure_88 : decode cX1_measure 88 = .ok (.iaload, 1) := by decide +kernel
theorem dX1_measure_89 : decode cX1_measure 89 = .ok (.iastore, 1) := by decide +kernel
theorem dX1_measure_90 : decode cX1_measure 90 = .ok (.iinc 3 1, 3) := by decide +kernel
theorem dX1_measure_93 : decode cX1_measure 93 = .ok (.goto 32, 3) := by decide +kernel
theorem dX1_measure_96 : decode cX1_measure 96 = .ok (.aload_n 0, 1) := by decide +kernel
theorem dX1_measure_97 : decode cX1_measure 97 = .ok (.getfield 7, 3) := by decide +kernel
theorem dX1_measure_100 : decode cX1_measure 100 = .ok (.iload 4, 2) := by decide +kernel
theorem dX1_measure_102 : decode cX1_measure 102 = .ok (.iaload, 1) := by decide +kernel
theorem dX1_measure_103 : decode cX1_measure 103 = .ok (.iconst 1, 1) := by decide +kernel
theorem dX1_measure_104 : decode cX1_measure 104 = .ok (.if_icmp .ne 11, 3) := by decide +kernel
theorem dX1_measure_107 : decode cX1_measure 107 = .ok (.aload_n 0, 1) := by decide +kernel
theorem dX1_measure_108 : decode cX1_measure 108 = .ok (.iload_n 3, 1) := by decide +kernel
theorem dX1_measure_109 : decode cX1_measure 109 = .ok (.iload_n 1, 1) := by decide +kernel
theorem dX1_measure_110 : decode cX1_measure 110 = .ok (.invokevirtual 81, 3) := by decide +kernel
theorem dX1_measure_113 : decode cX1_measure 113 = .ok (.iconst 0, 1) := by decide +kernel
theorem dX1_measure_114 : decode cX1_measure 114 = .ok (.istore_n 3, 1) := by decide +kernel
theorem dX1_measure_115 : decode cX1_measure 115 = .ok (.iload_n 1, 1) := by decide +kernel
theorem dX1_measure_116 : decode cX1_measure 116 = .ok (.aload_n 0, 1) := by decide +kernel
theorem dX1_measure_117 : decode cX1_measure 117 = .ok (.getfield 13, 3) := by decide +kernel
theorem dX1_measure_120 : decode cX1_measure 120 = .ok (.iload 4, 2) := by decide +kernel
theorem dX1_measure_122 : decode cX1_measure 122 = .ok (.iaload, 1) := by decide +kernel
theorem dX1_measure_123 : decode cX1_measure 123 = .ok (.iadd, 1) := by decide +kernel
theorem dX1_measure_124 : decode cX1_measure 124 = .ok (.istore_n 1, 1) := by decide +kernel
theorem dX1_measure_125 : decode cX1_measure 125 = .ok (.iinc 4 1, 3) := by decide +kernel
theorem dX1_measure_128 : decode cX1_measure 128 = .ok (.goto (-106), 3) := by decide +kernel
theorem dX1_measure_131 : decode cX1_measure 131 = .ok (.aload_n 0, 1) := by decide +kernel
theorem dX1_measure_132 : decode cX1_measure 132 = .ok (.iload_n 3, 1) := by decide +kernel
end
section
set_option maxRecDepth 100000
theorem dX1_measure_133 : decode cX1_measure 133 = .ok (.iload_n 1, 1) := by decide +kernel
theorem dX1_measure_134 : decode cX1_measure 134 = .ok (.invokevirtual 81, 3) := by decide +kernel
theorem dX1_measure_137 : decode cX1_measure 137 = .ok (.iconst 0, 1) := by decide +kernel
theorem dX1_measure_138 : decode cX1_measure 138 = .ok (.istore 4, 2) := by decide +kernel
theorem dX1_measure_140 : decode cX1_measure 140 = .ok (.iload 4, 2) := by decide +kernel
theorem dX1_measure_142 : decode cX1_measure 142 = .ok (.iload_n 2, 1) := by decide +kernel
theorem dX1_measure_143 : decode cX1_measure 143 = .ok (.if_icmp .ge 35, 3) := by decide +kernel
theorem dX1_measure_146 : decode cX1_measure 146 = .ok (.aload_n 0, 1) := by decide +kernel
theorem dX1_measure_147 : decode cX1_measure 147 = .ok (.getfield 16, 3) := by decide +kernel
theorem dX1_measure_150 : decode cX1_measure 150 = .ok (.aload_n 0, 1) := by decide +kernel
theorem dX1_measure_151 : decode cX1_measure 151 = .ok (.getfield 22, 3) := by decide +kernel
theorem dX1_measure_154 : decode cX1_measure 154 = .ok (.iload 4, 2) := by decide +kernel
theorem dX1_measure_156 : decode cX1_measure 156 = .ok (.iaload, 1) := by decide +kernel
theorem dX1_measure_157 : decode cX1_measure 157 = .ok (.iload_n 1, 1) := by decide +kernel
theorem dX1_measure_158 : decode cX1_measure 158 = .ok (.aload_n 0, 1) := by decide +kernel
theorem dX1_measure_159 : decode cX1_measure 159 = .ok (.getfield 19, 3) := by decide +kernel
theorem dX1_measure_162 : decode cX1_measure 162 = .ok (.aload_n 0, 1) := by decide +kernel
theorem dX1_measure_163 : decode cX1_measure 163 = .ok (.getfield 22, 3) := by decide +kernel
theorem dX1_measure_166 : decode cX1_measure 166 = .ok (.iload 4, 2) := by decide +kernel
theorem dX1_measure_168 : decode cX1_measure 168 = .ok (.iaload, 1) := by decide +kernel
theorem dX1_measure_169 : decode cX1_measure 169 = .ok (.iaload, 1) := by decide +kernel
theorem dX1_measure_170 : decode cX1_measure 170 = .ok (.isub, 1) := by decide +kernel
theorem dX1_measure_171 : decode cX1_measure 171 = .ok (.iastore, 1) := by decide +kernel
theorem dX1_measure_172 : decode cX1_measure 172 = .ok (.iinc 4 1, 3) := by decide +kernel
theorem dX1_measure_175 : decode cX1_measure 175 = .ok (.goto (-35), 3) := by decide +kernel
theorem dX1_measure_178 : decode cX1_measure 178 = .ok (.return_, 1) := by decide +kernel
theorem dX1_settle_0 : decode cX1_settle 0 = .ok (.iconst 0, 1) := by decide +kernel
theorem dX1_settle_1 : decode cX1_settle 1 = .ok (.istore_n 3, 1) := by decide +kernel
theorem dX1_settle_2 : decode cX1_settle 2 = .ok (.iload_n 3, 1) := by decide +kernel
theorem dX1_settle_3 : decode cX1_settle 3 = .ok (.iload_n 1, 1) := by decide +kernel
theorem dX1_settle_4 : decode cX1_settle 4 = .ok (.if_icmp .ge 33, 3) := by decide +kernel
theorem dX1_settle_7 : decode cX1_settle 7 = .ok (.aload_n 0, 1) := by decide +kernel
theorem dX1_settle_8 : decode cX1_settle 8 = .ok (.getfield 16, 3) := by decide +kernel
theorem dX1_settle_11 : decode cX1_settle 11 = .ok (.aload_n 0, 1) := by decide +kernel
theorem dX1_settle_12 : decode cX1_settle 12 = .ok (.getfield 25, 3) := by decide +kernel
theorem dX1_settle_15 : decode cX1_settle 15 = .ok (.iload_n 3, 1) := by decide +kernel
theorem dX1_settle_16 : decode cX1_settle 16 = .ok (.iaload, 1) := by decide +kernel
theorem dX1_settle_17 : decode cX1_settle 17 = .ok (.iload_n 2, 1) := by decide +kernel
theorem dX1_settle_18 : decode cX1_settle 18 = .ok (.aload_n 0, 1) := by decide +kernel
theorem dX1_settle_19 : decode cX1_settle 19 = .ok (.getfield 19, 3) := by decide +kernel
theorem dX1_settle_22 : decode cX1_settle 22 = .ok (.aload_n 0, 1) := by decide +kernel
theorem dX1_settle_23 : decode cX1_settle 23 = .ok (.getfield 25, 3) := by decide +kernel
theorem dX1_settle_26 : decode cX1_settle 26 = .ok (.iload_n 3, 1) := by decide +kernel
theorem dX1_settle_27 : decode cX1_settle 27 = .ok (.iaload, 1) := by decide +kernel
theorem dX1_settle_28 : decode cX1_settle 28 = .ok (.iaload, 1) := by decide +kernel
theorem dX1_settle_29 : decode cX1_settle 29 = .ok (.isub, 1) := by decide +kernel
theorem dX1_settle_30 : decode cX1_settle 30 = .ok (.iastore, 1) := by decide +kernel
theorem dX1_settle_31 : decode cX1_settle 31 = .ok (.iinc 3 1, 3) := by decide +kernel
theorem dX1_settle_34 : decode cX1_settle 34 = .ok (.goto (-32), 3) := by decide +kernel
theorem dX1_settle_37 : decode cX1_settle 37 = .ok (.return_, 1) := by decide +kernel
theorem dX1_layOut_0 : decode cX1_layOut 0 = .ok (.iconst 0, 1) := by decide +kernel
theorem dX1_layOut_1 : decode cX1_layOut 1 = .ok (.istore_n 2, 1) := by decide +kernel
theorem dX1_layOut_2 : decode cX1_layOut 2 = .ok (.iconst 0, 1) := by decide +kernel
theorem dX1_layOut_3 : decode cX1_layOut 3 = .ok (.istore_n 3, 1) := by decide +kernel
theorem dX1_layOut_4 : decode cX1_layOut 4 = .ok (.iconst 0, 1) := by decide +kernel
theorem dX1_layOut_5 : decode cX1_layOut 5 = .ok (.istore 4, 2) := by decide +kernel
theorem dX1_layOut_7 : decode cX1_layOut 7 = .ok (.aload_n 0, 1) := by decide +kernel
theorem dX1_layOut_8 : decode cX1_layOut 8 = .ok (.iconst 0, 1) := by decide +kernel
theorem dX1_layOut_9 : decode cX1_layOut 9 = .ok (.putfield 72, 3) := by decide +kernel
theorem dX1_layOut_12 : decode cX1_layOut 12 = .ok (.iconst 0, 1) := by decide +kernel
theorem dX1_layOut_13 : decode cX1_layOut 13 = .ok (.istore 5, 2) := by decide +kernel
theorem dX1_layOut_15 : decode cX1_layOut 15 = .ok (.iload 5, 2) := by decide +kernel
theorem dX1_layOut_17 : decode cX1_layOut 17 = .ok (.aload_n 0, 1) := by decide +kernel
theorem dX1_layOut_18 : decode cX1_layOut 18 = .ok (.getfield 53, 3) := by decide +kernel
theorem dX1_layOut_21 : decode cX1_layOut 21 = .ok (.if_icmp .ge 237, 3) := by decide +kernel
theorem dX1_layOut_24 : decode cX1_layOut 24 = .ok (.aload_n 0, 1) := by decide +kernel
theorem dX1_layOut_25 : decode cX1_layOut 25 = .ok (.getfield 28, 3) := by decide +kernel
theorem dX1_layOut_28 : decode cX1_layOut 28 = .ok (.iload 5, 2) := by decide +kernel
theorem dX1_layOut_30 : decode cX1_layOut 30 = .ok (.iload_n 2, 1) := by decide +kernel
theorem dX1_layOut_31 : decode cX1_layOut 31 = .ok (.iastore, 1) := by decide +kernel
theorem dX1_layOut_32 : decode cX1_layOut 32 = .ok (.aload_n 0, 1) := by decide +kernel
theorem dX1_layOut_33 : decode cX1_layOut 33 = .ok (.getfield 31, 3) := by decide +kernel
theorem dX1_layOut_36 : decode cX1_layOut 36 = .ok (.iload 5, 2) := by decide +kernel
theorem dX1_layOut_38 : decode cX1_layOut 38 = .ok (.iload_n 3, 1) := by decide +kernel
theorem dX1_layOut_39 : decode cX1_layOut 39 = .ok (.iastore, 1) := by decide +kernel
theorem dX1_layOut_40 : decode cX1_layOut 40 = .ok (.iload 4, 2) := by decide +kernel
theorem dX1_layOut_42 : decode cX1_layOut 42 = .ok (.ifCond .ne 7, 3) := by decide +kernel
theorem dX1_layOut_45 : decode cX1_layOut 45 = .ok (.iconst (-1), 1) := by decide +kernel
theorem dX1_layOut_46 : decode cX1_layOut 46 = .ok (.goto 12, 3) := by decide +kernel
theorem dX1_layOut_49 : decode cX1_layOut 49 = .ok (.aload_n 0, 1) := by decide +kernel
theorem dX1_layOut_50 : decode cX1_layOut 50 = .ok (.getfield 22, 3) := by decide +kernel
theorem dX1_layOut_53 : decode cX1_layOut 53 = .ok (.iload 4, 2) := by decide +kernel
theorem dX1_layOut_55 : decode cX1_layOut 55 = .ok (.iconst 1, 1) := by decide +kernel
theorem dX1_layOut_56 : decode cX1_layOut 56 = .ok (.isub, 1) := by decide +kernel
theorem dX1_layOut_57 : decode cX1_layOut 57 = .ok (.iaload, 1) := by decide +kernel
theorem dX1_layOut_58 : decode cX1_layOut 58 = .ok (.istore 6, 2) := by decide +kernel
theorem dX1_layOut_60 : decode cX1_layOut 60 = .ok (.aload_n 0, 1) := by decide +kernel
theorem dX1_layOut_61 : decode cX1_layOut 61 = .ok (.getfield 7, 3) := by decide +kernel
theorem dX1_layOut_64 : decode cX1_layOut 64 = .ok (.iload 5, 2) := by decide +kernel
theorem dX1_layOut_66 : decode cX1_layOut 66 = .ok (.iaload, 1) := by decide +kernel
theorem dX1_layOut_67 : decode cX1_layOut 67 = .ok (.iconst 2, 1) := by decide +kernel
theorem dX1_layOut_68 : decode cX1_layOut 68 = .ok (.if_icmp .ne 89, 3) := by decide +kernel
theorem dX1_layOut_71 : decode cX1_layOut 71 = .ok (.aload_n 0, 1) := by decide +kernel
theorem dX1_layOut_72 : decode cX1_layOut 72 = .ok (.getfield 34, 3) := by decide +kernel
theorem dX1_layOut_75 : decode cX1_layOut 75 = .ok (.iload 5, 2) := by decide +kernel
theorem dX1_layOut_77 : decode cX1_layOut 77 = .ok (.iload 6, 2) := by decide +kernel
theorem dX1_layOut_79 : decode cX1_layOut 79 = .ok (.ifCond .lt 13, 3) := by decide +kernel
theorem dX1_layOut_82 : decode cX1_layOut 82 = .ok (.aload_n 0, 1) := by decide +kernel
theorem dX1_layOut_83 : decode cX1_layOut 83 = .ok (.getfield 34, 3) := by decide +kernel
theorem dX1_layOut_86 : decode cX1_layOut 86 = .ok (.iload 6, 2) := by decide +kernel
theorem dX1_layOut_88 : decode cX1_layOut 88 = .ok (.baload, 1) := by decide +kernel
theorem dX1_layOut_89 : decode cX1_layOut 89 = .ok (.ifCond .ne 16, 3) := by decide +kernel
theorem dX1_layOut_92 : decode cX1_layOut 92 = .ok (.iload_n 3, 1) := by decide +kernel
theorem dX1_layOut_93 : decode cX1_layOut 93 = .ok (.aload_n 0, 1) := by decide +kernel
theorem dX1_layOut_94 : decode cX1_layOut 94 = .ok (.getfield 16, 3) := by decide +kernel
theorem dX1_layOut_97 : decode cX1_layOut 97 = .ok (.iload 5, 2) := by decide +kernel
theorem dX1_layOut_99 : decode cX1_layOut 99 = .ok (.iaload, 1) := by decide +kernel
theorem dX1_layOut_100 : decode cX1_layOut 100 = .ok (.iadd, 1) := by decide +kernel
theorem dX1_layOut_101 : decode cX1_layOut 101 = .ok (.iload_n 1, 1) := by decide +kernel
theorem dX1_layOut_102 : decode cX1_layOut 102 = .ok (.if_icmp .gt 7, 3) := by decide +kernel
theorem dX1_layOut_105 : decode cX1_layOut 105 = .ok (.iconst 1, 1) := by decide +kernel
theorem dX1_layOut_106 : decode cX1_layOut 106 = .ok (.goto 4, 3) := by decide +kernel
theorem dX1_layOut_109 : decode cX1_layOut 109 = .ok (.iconst 0, 1) := by decide +kernel
theorem dX1_layOut_110 : decode cX1_layOut 110 = .ok (.bastore, 1) := by decide +kernel
theorem dX1_layOut_111 : decode cX1_layOut 111 = .ok (.aload_n 0, 1) := by decide +kernel
theorem dX1_layOut_112 : decode cX1_layOut 112 = .ok (.getfield 38, 3) := by decide +kernel
theorem dX1_layOut_115 : decode cX1_layOut 115 = .ok (.iload 5, 2) := by decide +kernel
theorem dX1_layOut_117 : decode cX1_layOut 117 = .ok (.iload 6, 2) := by decide +kernel
theorem dX1_layOut_119 : decode cX1_layOut 119 = .ok (.ifCond .ge 7, 3) := by decide +kernel
theorem dX1_layOut_122 : decode cX1_layOut 122 = .ok (.iconst 0, 1) := by decide +kernel
theorem dX1_layOut_123 : decode cX1_layOut 123 = .ok (.goto 10, 3) := by decide +kernel
theorem dX1_layOut_126 : decode cX1_layOut 126 = .ok (.aload_n 0, 1) := by decide +kernel
theorem dX1_layOut_127 : decode cX1_layOut 127 = .ok (.getfield 38, 3) := by decide +kernel
theorem dX1_layOut_130 : decode cX1_layOut 130 = .ok (.iload 6, 2) := by decide +kernel
theorem dX1_layOut_132 : decode cX1_layOut 132 = .ok (.iaload, 1) := by decide +kernel
theorem dX1_layOut_133 : decode cX1_layOut 133 = .ok (.aload_n 0, 1) := by decide +kernel
theorem dX1_layOut_134 : decode cX1_layOut 134 = .ok (.getfield 13, 3) := by decide +kernel
theorem dX1_layOut_137 : decode cX1_layOut 137 = .ok (.iload 5, 2) := by decide +kernel
theorem dX1_layOut_139 : decode cX1_layOut 139 = .ok (.iaload, 1) := by decide +kernel
theorem dX1_layOut_140 : decode cX1_layOut 140 = .ok (.iadd, 1) := by decide +kernel
theorem dX1_layOut_141 : decode cX1_layOut 141 = .ok (.iastore, 1) := by decide +kernel
theorem dX1_layOut_142 : decode cX1_layOut 142 = .ok (.aload_n 0, 1) := by decide +kernel
theorem dX1_layOut_143 : decode cX1_layOut 143 = .ok (.getfield 22, 3) := by decide +kernel
theorem dX1_layOut_146 : decode cX1_layOut 146 = .ok (.iload 4, 2) := by decide +kernel
theorem dX1_layOut_148 : decode cX1_layOut 148 = .ok (.iload 5, 2) := by decide +kernel
theorem dX1_layOut_150 : decode cX1_layOut 150 = .ok (.iastore, 1) := by decide +kernel
theorem dX1_layOut_151 : decode cX1_layOut 151 = .ok (.iinc 4 1, 3) := by decide +kernel
theorem dX1_layOut_154 : decode cX1_layOut 154 = .ok (.goto 78, 3) := by decide +kernel
theorem dX1_layOut_157 : decode cX1_layOut 157 = .ok (.aload_n 0, 1) := by decide +kernel
theorem dX1_layOut_158 : decode cX1_layOut 158 = .ok (.getfield 7, 3) := by decide +kernel
theorem dX1_layOut_161 : decode cX1_layOut 161 = .ok (.iload 5, 2) := by decide +kernel
theorem dX1_layOut_163 : decode cX1_layOut 163 = .ok (.iaload, 1) := by decide +kernel
theorem dX1_layOut_164 : decode cX1_layOut 164 = .ok (.iconst 3, 1) := by decide +kernel
theorem dX1_layOut_165 : decode cX1_layOut 165 = .ok (.if_icmp .ne 9, 3) := by decide +kernel
theorem dX1_layOut_168 : decode cX1_layOut 168 = .ok (.iinc 4 (-1), 3) := by decide +kernel
theorem dX1_layOut_171 : decode cX1_layOut 171 = .ok (.goto 61, 3) := by decide +kernel
theorem dX1_layOut_174 : decode cX1_layOut 174 = .ok (.aload_n 0, 1) := by decide +kernel
theorem dX1_layOut_175 : decode cX1_layOut 175 = .ok (.getfield 7, 3) := by decide +kernel
theorem dX1_layOut_178 : decode cX1_layOut 178 = .ok (.iload 5, 2) := by decide +kernel
theorem dX1_layOut_180 : decode cX1_layOut 180 = .ok (.iaload, 1) := by decide +kernel
theorem dX1_layOut_181 : decode cX1_layOut 181 = .ok (.ifCond .eq 18, 3) := by decide +kernel
theorem dX1_layOut_184 : decode cX1_layOut 184 = .ok (.iload 6, 2) := by decide +kernel
theorem dX1_layOut_186 : decode cX1_layOut 186 = .ok (.ifCond .lt 26, 3) := by decide +kernel
theorem dX1_layOut_189 : decode cX1_layOut 189 = .ok (.aload_n 0, 1) := by decide +kernel
theorem dX1_layOut_190 : decode cX1_layOut 190 = .ok (.getfield 34, 3) := by decide +kernel
theorem dX1_layOut_193 : decode cX1_layOut 193 = .ok (.iload 6, 2) := by decide +kernel
theorem dX1_layOut_195 : decode cX1_layOut 195 = .ok (.baload, 1) := by decide +kernel
theorem dX1_layOut_196 : decode cX1_layOut 196 = .ok (.ifCond .eq 16, 3) := by decide +kernel
theorem dX1_layOut_199 : decode cX1_layOut 199 = .ok (.iload_n 3, 1) := by decide +kernel
theorem dX1_layOut_200 : decode cX1_layOut 200 = .ok (.aload_n 0, 1) := by decide +kernel
theorem dX1_layOut_201 : decode cX1_layOut 201 = .ok (.getfield 13, 3) := by decide +kernel
theorem dX1_layOut_204 : decode cX1_layOut 204 = .ok (.iload 5, 2) := by decide +kernel
theorem dX1_layOut_206 : decode cX1_layOut 206 = .ok (.iaload, 1) := by decide +kernel
theorem dX1_layOut_207 : decode cX1_layOut 207 = .ok (.iadd, 1) := by decide +kernel
theorem dX1_layOut_208 : decode cX1_layOut 208 = .ok (.istore_n 3, 1) := by decide +kernel
theorem dX1_layOut_209 : decode cX1_layOut 209 = .ok (.goto 23, 3) := by decide +kernel
theorem dX1_layOut_212 : decode cX1_layOut 212 = .ok (.iinc 2 1, 3) := by decide +kernel
theorem dX1_layOut_215 : decode cX1_layOut 215 = .ok (.iload 6, 2) := by decide +kernel
theorem dX1_layOut_217 : decode cX1_layOut 217 = .ok (.ifCond .ge 7, 3) := by decide +kernel
theorem dX1_layOut_220 : decode cX1_layOut 220 = .ok (.iconst 0, 1) := by decide +kernel
theorem dX1_layOut_221 : decode cX1_layOut 221 = .ok (.goto 10, 3) := by decide +kernel
theorem dX1_layOut_224 : decode cX1_layOut 224 = .ok (.aload_n 0, 1) := by decide +kernel
theorem dX1_layOut_225 : decode cX1_layOut 225 = .ok (.getfield 38, 3) := by decide +kernel
theorem dX1_layOut_228 : decode cX1_layOut 228 = .ok (.iload 6, 2) := by decide +kernel
theorem dX1_layOut_230 : decode cX1_layOut 230 = .ok (.iaload, 1) := by decide +kernel
theorem dX1_layOut_231 : decode cX1_layOut 231 = .ok (.istore_n 3, 1) := by decide +kernel
theorem dX1_layOut_232 : decode cX1_layOut 232 = .ok (.aload_n 0, 1) := by decide +kernel
theorem dX1_layOut_233 : decode cX1_layOut 233 = .ok (.iload_n 3, 1) := by decide +kernel
theorem dX1_layOut_234 : decode cX1_layOut 234 = .ok (.aload_n 0, 1) := by decide +kernel
theorem dX1_layOut_235 : decode cX1_layOut 235 = .ok (.getfield 72, 3) := by decide +kernel
theorem dX1_layOut_238 : decode cX1_layOut 238 = .ok (.if_icmp .le 7, 3) := by decide +kernel
theorem dX1_layOut_241 : decode cX1_layOut 241 = .ok (.iload_n 3, 1) := by decide +kernel
theorem dX1_layOut_242 : decode cX1_layOut 242 = .ok (.goto 7, 3) := by decide +kernel
theorem dX1_layOut_245 : decode cX1_layOut 245 = .ok (.aload_n 0, 1) := by decide +kernel
theorem dX1_layOut_246 : decode cX1_layOut 246 = .ok (.getfield 72, 3) := by decide +kernel
theorem dX1_layOut_249 : decode cX1_layOut 249 = .ok (.putfield 72, 3) := by decide +kernel
theorem dX1_layOut_252 : decode cX1_layOut 252 = .ok (.iinc 5 1, 3) := by decide +kernel
theorem dX1_layOut_255 : decode cX1_layOut 255 = .ok (.goto (-240), 3) := by decide +kernel
theorem dX1_layOut_258 : decode cX1_layOut 258 = .ok (.aload_n 0, 1) := by decide +kernel
theorem dX1_layOut_259 : decode cX1_layOut 259 = .ok (.iload_n 2, 1) := by decide +kernel
theorem dX1_layOut_260 : decode cX1_layOut 260 = .ok (.putfield 69, 3) := by decide +kernel
theorem dX1_layOut_263 : decode cX1_layOut 263 = .ok (.return_, 1) := by decide +kernel
theorem dX1_column_0 : decode cX1_column 0 = .ok (.iload_n 1, 1) := by decide +kernel
theorem dX1_column_1 : decode cX1_column 1 = .ok (.ifCond .lt 11, 3) := by decide +kernel
theorem dX1_column_4 : decode cX1_column 4 = .ok (.iload_n 1, 1) := by decide +kernel
theorem dX1_column_5 : decode cX1_column 5 = .ok (.aload_n 0, 1) := by decide +kernel
theorem dX1_column_6 : decode cX1_column 6 = .ok (.getfield 53, 3) := by decide +kernel
theorem dX1_column_9 : decode cX1_column 9 = .ok (.if_icmp .lt 5, 3) := by decide +kernel
theorem dX1_column_12 : decode cX1_column 12 = .ok (.iconst (-1), 1) := by decide +kernel
theorem dX1_column_13 : decode cX1_column 13 = .ok (.ireturn, 1) := by decide +kernel
theorem dX1_column_14 : decode cX1_column 14 = .ok (.aload_n 0, 1) := by decide +kernel
theorem dX1_column_15 : decode cX1_column 15 = .ok (.invokevirtual 66, 3) := by decide +kernel
theorem dX1_column_18 : decode cX1_column 18 = .ok (.aload_n 0, 1) := by decide +kernel
theorem dX1_column_19 : decode cX1_column 19 = .ok (.getfield 31, 3) := by decide +kernel
theorem dX1_column_22 : decode cX1_column 22 = .ok (.iload_n 1, 1) := by decide +kernel
theorem dX1_column_23 : decode cX1_column 23 = .ok (.iaload, 1) := by decide +kernel
theorem dX1_column_24 : decode cX1_column 24 = .ok (.ireturn, 1) := by decide +kernel
theorem dX1_flat_0 : decode cX1_flat 0 = .ok (.iload_n 1, 1) := by decide +kernel
theorem dX1_flat_1 : decode cX1_flat 1 = .ok (.ifCond .lt 21, 3) := by decide +kernel
theorem dX1_flat_4 : decode cX1_flat 4 = .ok (.iload_n 1, 1) := by decide +kernel
theorem dX1_flat_5 : decode cX1_flat 5 = .ok (.aload_n 0, 1) := by decide +kernel
theorem dX1_flat_6 : decode cX1_flat 6 = .ok (.getfield 53, 3) := by decide +kernel
theorem dX1_flat_9 : decode cX1_flat 9 = .ok (.if_icmp .ge 13, 3) := by decide +kernel
theorem dX1_flat_12 : decode cX1_flat 12 = .ok (.aload_n 0, 1) := by decide +kernel
theorem dX1_flat_13 : decode cX1_flat 13 = .ok (.getfield 7, 3) := by decide +kernel
theorem dX1_flat_16 : decode cX1_flat 16 = .ok (.iload_n 1, 1) := by decide +kernel
theorem dX1_flat_17 : decode cX1_flat 17 = .ok (.iaload, 1) := by decide +kernel
theorem dX1_flat_18 : decode cX1_flat 18 = .ok (.iconst 2, 1) := by decide +kernel
theorem dX1_flat_19 : decode cX1_flat 19 = .ok (.if_icmp .eq 5, 3) := by decide +kernel
theorem dX1_flat_22 : decode cX1_flat 22 = .ok (.iconst (-1), 1) := by decide +kernel
theorem dX1_flat_23 : decode cX1_flat 23 = .ok (.ireturn, 1) := by decide +kernel
theorem dX1_flat_24 : decode cX1_flat 24 = .ok (.aload_n 0, 1) := by decide +kernel
theorem dX1_flat_25 : decode cX1_flat 25 = .ok (.invokevirtual 66, 3) := by decide +kernel
theorem dX1_flat_28 : decode cX1_flat 28 = .ok (.aload_n 0, 1) := by decide +kernel
theorem dX1_flat_29 : decode cX1_flat 29 = .ok (.getfield 34, 3) := by decide +kernel
theorem dX1_flat_32 : decode cX1_flat 32 = .ok (.iload_n 1, 1) := by decide +kernel
theorem dX1_flat_33 : decode cX1_flat 33 = .ok (.baload, 1) := by decide +kernel
theorem dX1_flat_34 : decode cX1_flat 34 = .ok (.ifCond .eq 7, 3) := by decide +kernel
theorem dX1_flat_37 : decode cX1_flat 37 = .ok (.iconst 1, 1) := by decide +kernel
theorem dX1_flat_38 : decode cX1_flat 38 = .ok (.goto 4, 3) := by decide +kernel
theorem dX1_flat_41 : decode cX1_flat 41 = .ok (.iconst 0, 1) := by decide +kernel
theorem dX1_flat_42 : decode cX1_flat 42 = .ok (.ireturn, 1) := by decide +kernel
theorem dX1_rows_0 : decode cX1_rows 0 = .ok (.aload_n 0, 1) := by decide +kernel
theorem dX1_rows_1 : decode cX1_rows 1 = .ok (.invokevirtual 66, 3) := by decide +kernel
theorem dX1_rows_4 : decode cX1_rows 4 = .ok (.aload_n 0, 1) := by decide +kernel
theorem dX1_rows_5 : decode cX1_rows 5 = .ok (.getfield 69, 3) := by decide +kernel
theorem dX1_rows_8 : decode cX1_rows 8 = .ok (.iconst 1, 1) := by decide +kernel
theorem dX1_rows_9 : decode cX1_rows 9 = .ok (.iadd, 1) := by decide +kernel
theorem dX1_rows_10 : decode cX1_rows 10 = .ok (.ireturn, 1) := by decide +kernel
theorem dX1_widest_0 : decode cX1_widest 0 = .ok (.aload_n 0, 1) := by decide +kernel
theorem dX1_widest_1 : decode cX1_widest 1 = .ok (.invokevirtual 66, 3) := by decide +kernel
theorem dX1_widest_4 : decode cX1_widest 4 = .ok (.aload_n 0, 1) := by decide +kernel
theorem dX1_widest_5 : decode cX1_widest 5 = .ok (.getfield 72, 3) := by decide +kernel
theorem dX1_widest_8 : decode cX1_widest 8 = .ok (.ireturn, 1) := by decide +kernel
theorem dX1_leastWidth_0 : decode cX1_leastWidth 0 = .ok (.aload_n 0, 1) := by decide +kernel
theorem dX1_leastWidth_1 : decode cX1_leastWidth 1 = .ok (.invokevirtual 75, 3) := by decide +kernel
theorem dX1_leastWidth_4 : decode cX1_leastWidth 4 = .ok (.aload_n 0, 1) := by decide +kernel
theorem dX1_leastWidth_5 : decode cX1_leastWidth 5 = .ok (.iconst 0, 1) := by decide +kernel
theorem dX1_leastWidth_6 : decode cX1_leastWidth 6 = .ok (.putfield 60, 3) := by decide +kernel
theorem dX1_leastWidth_9 : decode cX1_leastWidth 9 = .ok (.iconst 1, 1) := by decide +kernel
theorem dX1_leastWidth_10 : decode cX1_leastWidth 10 = .ok (.istore_n 2, 1) := by decide +kernel
theorem dX1_leastWidth_11 : decode cX1_leastWidth 11 = .ok (.iload_n 2, 1) := by decide +kernel
theorem dX1_leastWidth_12 : decode cX1_leastWidth 12 = .ok (.bipush 100, 2) := by decide +kernel
theorem dX1_leastWidth_14 : decode cX1_leastWidth 14 = .ok (.if_icmp .gt 26, 3) := by decide +kernel
theorem dX1_leastWidth_17 : decode cX1_leastWidth 17 = .ok (.aload_n 0, 1) := by decide +kernel
theorem dX1_leastWidth_18 : decode cX1_leastWidth 18 = .ok (.iload_n 2, 1) := by decide +kernel
theorem dX1_leastWidth_19 : decode cX1_leastWidth 19 = .ok (.invokevirtual 78, 3) := by decide +kernel
theorem dX1_leastWidth_22 : decode cX1_leastWidth 22 = .ok (.aload_n 0, 1) := by decide +kernel
theorem dX1_leastWidth_23 : decode cX1_leastWidth 23 = .ok (.getfield 69, 3) := by decide +kernel
theorem dX1_leastWidth_26 : decode cX1_leastWidth 26 = .ok (.iconst 1, 1) := by decide +kernel
theorem dX1_leastWidth_27 : decode cX1_leastWidth 27 = .ok (.iadd, 1) := by decide +kernel
theorem dX1_leastWidth_28 : decode cX1_leastWidth 28 = .ok (.iload_n 1, 1) := by decide +kernel
theorem dX1_leastWidth_29 : decode cX1_leastWidth 29 = .ok (.if_icmp .gt 5, 3) := by decide +kernel
theorem dX1_leastWidth_32 : decode cX1_leastWidth 32 = .ok (.iload_n 2, 1) := by decide +kernel
theorem dX1_leastWidth_33 : decode cX1_leastWidth 33 = .ok (.ireturn, 1) := by decide +kernel
theorem dX1_leastWidth_34 : decode cX1_leastWidth 34 = .ok (.iinc 2 1, 3) := by decide +kernel
theorem dX1_leastWidth_37 : decode cX1_leastWidth 37 = .ok (.goto (-26), 3) := by decide +kernel
theorem dX1_leastWidth_40 : decode cX1_leastWidth 40 = .ok (.bipush 101, 2) := by decide +kernel
theorem dX1_leastWidth_42 : decode cX1_leastWidth 42 = .ok (.ireturn, 1) := by decide +kernel
end
section
set_option maxRecDepth 100000
theorem dL_law_0 : decode cL_law 0 = .ok (.new 7, 3) := by decide +kernel
theorem dL_law_3 : decode cL_law 3 = .ok (.dup, 1) := by decide +kernel
theorem dL_law_4 : decode cL_law 4 = .ok (.aload_n 0, 1) := by decide +kernel
theorem dL_law_5 : decode cL_law 5 = .ok (.iconst 0, 1) := by decide +kernel
theorem dL_law_6 : decode cL_law 6 = .ok (.invokestatic 9, 3) := by decide +kernel
theorem dL_law_9 : decode cL_law 9 = .ok (.invokespecial 15, 3) := by decide +kernel
theorem dL_law_12 : decode cL_law 12 = .ok (.astore_n 1, 1) := by decide +kernel
theorem dL_law_13 : decode cL_law 13 = .ok (.new 18, 3) := by decide +kernel
theorem dL_law_16 : decode cL_law 16 = .ok (.dup, 1) := by decide +kernel
theorem dL_law_17 : decode cL_law 17 = .ok (.aload_n 0, 1) := by decide +kernel
theorem dL_law_18 : decode cL_law 18 = .ok (.iconst 0, 1) := by decide +kernel
theorem dL_law_19 : decode cL_law 19 = .ok (.invokestatic 9, 3) := by decide +kernel
theorem dL_law_22 : decode cL_law 22 = .ok (.invokespecial 20, 3) := by decide +kernel
theorem dL_law_25 : decode cL_law 25 = .ok (.astore_n 2, 1) := by decide +kernel
theorem dL_law_26 : decode cL_law 26 = .ok (.iconst 1, 1) := by decide +kernel
theorem dL_law_27 : decode cL_law 27 = .ok (.istore_n 3, 1) := by decide +kernel
theorem dL_law_28 : decode cL_law 28 = .ok (.iload_n 3, 1) := by decide +kernel
theorem dL_law_29 : decode cL_law 29 = .ok (.aload_n 0, 1) := by decide +kernel
theorem dL_law_30 : decode cL_law 30 = .ok (.arraylength, 1) := by decide +kernel
theorem dL_law_31 : decode cL_law 31 = .ok (.iconst 2, 1) := by decide +kernel
theorem dL_law_32 : decode cL_law 32 = .ok (.isub, 1) := by decide +kernel
theorem dL_law_33 : decode cL_law 33 = .ok (.if_icmp .gt 284, 3) := by decide +kernel
theorem dL_law_36 : decode cL_law 36 = .ok (.aload_n 0, 1) := by decide +kernel
theorem dL_law_37 : decode cL_law 37 = .ok (.iload_n 3, 1) := by decide +kernel
theorem dL_law_38 : decode cL_law 38 = .ok (.iaload, 1) := by decide +kernel
theorem dL_law_39 : decode cL_law 39 = .ok (.bipush 15, 2) := by decide +kernel
theorem dL_law_41 : decode cL_law 41 = .ok (.iand, 1) := by decide +kernel
theorem dL_law_42 : decode cL_law 42 = .ok (.tableswitch 269 0 10 #[58, 81, 94, 117, 130, 151, 174, 197, 220, 233, 246], 58) := by decide +kernel
theorem dL_law_100 : decode cL_law 100 = .ok (.aload_n 1, 1) := by decide +kernel
theorem dL_law_101 : decode cL_law 101 = .ok (.aload_n 0, 1) := by decide +kernel
theorem dL_law_102 : decode cL_law 102 = .ok (.iload_n 3, 1) := by decide +kernel
theorem dL_law_103 : decode cL_law 103 = .ok (.iconst 1, 1) := by decide +kernel
theorem dL_law_104 : decode cL_law 104 = .ok (.iadd, 1) := by decide +kernel
theorem dL_law_105 : decode cL_law 105 = .ok (.iaload, 1) := by decide +kernel
theorem dL_law_106 : decode cL_law 106 = .ok (.invokevirtual 21, 3) := by decide +kernel
theorem dL_law_109 : decode cL_law 109 = .ok (.aload_n 2, 1) := by decide +kernel
theorem dL_law_110 : decode cL_law 110 = .ok (.aload_n 0, 1) := by decide +kernel
theorem dL_law_111 : decode cL_law 111 = .ok (.iload_n 3, 1) := by decide +kernel
theorem dL_law_112 : decode cL_law 112 = .ok (.iconst 1, 1) := by decide +kernel
theorem dL_law_113 : decode cL_law 113 = .ok (.iadd, 1) := by decide +kernel
theorem dL_law_114 : decode cL_law 114 = .ok (.iaload, 1) := by decide +kernel
theorem dL_law_115 : decode cL_law 115 = .ok (.invokevirtual 25, 3) := by decide +kernel
theorem dL_law_118 : decode cL_law 118 = .ok (.if_icmp .eq 193, 3) := by decide +kernel
theorem dL_law_121 : decode cL_law 121 = .ok (.iconst 0, 1) := by decide +kernel
theorem dL_law_122 : decode cL_law 122 = .ok (.ireturn, 1) := by decide +kernel
theorem dL_law_123 : decode cL_law 123 = .ok (.aload_n 1, 1) := by decide +kernel
theorem dL_law_124 : decode cL_law 124 = .ok (.invokevirtual 26, 3) := by decide +kernel
theorem dL_law_127 : decode cL_law 127 = .ok (.aload_n 2, 1) := by decide +kernel
theorem dL_law_128 : decode cL_law 128 = .ok (.invokevirtual 30, 3) := by decide +kernel
theorem dL_law_131 : decode cL_law 131 = .ok (.if_icmp .eq 180, 3) := by decide +kernel
theorem dL_law_134 : decode cL_law 134 = .ok (.iconst 0, 1) := by decide +kernel
theorem dL_law_135 : decode cL_law 135 = .ok (.ireturn, 1) := by decide +kernel
theorem dL_law_136 : decode cL_law 136 = .ok (.aload_n 1, 1) := by decide +kernel
theorem dL_law_137 : decode cL_law 137 = .ok (.aload_n 0, 1) := by decide +kernel
theorem dL_law_138 : decode cL_law 138 = .ok (.iload_n 3, 1) := by decide +kernel
theorem dL_law_139 : decode cL_law 139 = .ok (.iconst 1, 1) := by decide +kernel
theorem dL_law_140 : decode cL_law 140 = .ok (.iadd, 1) := by decide +kernel
theorem dL_law_141 : decode cL_law 141 = .ok (.iaload, 1) := by decide +kernel
theorem dL_law_142 : decode cL_law 142 = .ok (.invokevirtual 31, 3) := by decide +kernel
theorem dL_law_145 : decode cL_law 145 = .ok (.aload_n 2, 1) := by decide +kernel
theorem dL_law_146 : decode cL_law 146 = .ok (.aload_n 0, 1) := by decide +kernel
theorem dL_law_147 : decode cL_law 147 = .ok (.iload_n 3, 1) := by decide +kernel
theorem dL_law_148 : decode cL_law 148 = .ok (.iconst 1, 1) := by decide +kernel
theorem dL_law_149 : decode cL_law 149 = .ok (.iadd, 1) := by decide +kernel
theorem dL_law_150 : decode cL_law 150 = .ok (.iaload, 1) := by decide +kernel
theorem dL_law_151 : decode cL_law 151 = .ok (.invokevirtual 34, 3) := by decide +kernel
theorem dL_law_154 : decode cL_law 154 = .ok (.if_icmp .eq 157, 3) := by decide +kernel
theorem dL_law_157 : decode cL_law 157 = .ok (.iconst 0, 1) := by decide +kernel
theorem dL_law_158 : decode cL_law 158 = .ok (.ireturn, 1) := by decide +kernel
theorem dL_law_159 : decode cL_law 159 = .ok (.aload_n 1, 1) := by decide +kernel
theorem dL_law_160 : decode cL_law 160 = .ok (.invokevirtual 35, 3) := by decide +kernel
theorem dL_law_163 : decode cL_law 163 = .ok (.aload_n 2, 1) := by decide +kernel
theorem dL_law_164 : decode cL_law 164 = .ok (.invokevirtual 38, 3) := by decide +kernel
theorem dL_law_167 : decode cL_law 167 = .ok (.if_icmp .eq 144, 3) := by decide +kernel
theorem dL_law_170 : decode cL_law 170 = .ok (.iconst 0, 1) := by decide +kernel
theorem dL_law_171 : decode cL_law 171 = .ok (.ireturn, 1) := by decide +kernel
theorem dL_law_172 : decode cL_law 172 = .ok (.aload_n 1, 1) := by decide +kernel
theorem dL_law_173 : decode cL_law 173 = .ok (.aload_n 0, 1) := by decide +kernel
theorem dL_law_174 : decode cL_law 174 = .ok (.iload_n 3, 1) := by decide +kernel
theorem dL_law_175 : decode cL_law 175 = .ok (.iconst 1, 1) := by decide +kernel
theorem dL_law_176 : decode cL_law 176 = .ok (.iadd, 1) := by decide +kernel
theorem dL_law_177 : decode cL_law 177 = .ok (.iaload, 1) := by decide +kernel
theorem dL_law_178 : decode cL_law 178 = .ok (.invokevirtual 39, 3) := by decide +kernel
theorem dL_law_181 : decode cL_law 181 = .ok (.aload_n 2, 1) := by decide +kernel
theorem dL_law_182 : decode cL_law 182 = .ok (.aload_n 0, 1) := by decide +kernel
theorem dL_law_183 : decode cL_law 183 = .ok (.iload_n 3, 1) := by decide +kernel
theorem dL_law_184 : decode cL_law 184 = .ok (.iconst 1, 1) := by decide +kernel
theorem dL_law_185 : decode cL_law 185 = .ok (.iadd, 1) := by decide +kernel
theorem dL_law_186 : decode cL_law 186 = .ok (.iaload, 1) := by decide +kernel
theorem dL_law_187 : decode cL_law 187 = .ok (.invokevirtual 42, 3) := by decide +kernel
theorem dL_law_190 : decode cL_law 190 = .ok (.goto 121, 3) := by decide +kernel
theorem dL_law_193 : decode cL_law 193 = .ok (.aload_n 1, 1) := by decide +kernel
theorem dL_law_194 : decode cL_law 194 = .ok (.aload_n 0, 1) := by decide +kernel
theorem dL_law_195 : decode cL_law 195 = .ok (.iload_n 3, 1) := by decide +kernel
theorem dL_law_196 : decode cL_law 196 = .ok (.iconst 1, 1) := by decide +kernel
theorem dL_law_197 : decode cL_law 197 = .ok (.iadd, 1) := by decide +kernel
theorem dL_law_198 : decode cL_law 198 = .ok (.iaload, 1) := by decide +kernel
theorem dL_law_199 : decode cL_law 199 = .ok (.invokevirtual 43, 3) := by decide +kernel
theorem dL_law_202 : decode cL_law 202 = .ok (.aload_n 2, 1) := by decide +kernel
theorem dL_law_203 : decode cL_law 203 = .ok (.aload_n 0, 1) := by decide +kernel
theorem dL_law_204 : decode cL_law 204 = .ok (.iload_n 3, 1) := by decide +kernel
theorem dL_law_205 : decode cL_law 205 = .ok (.iconst 1, 1) := by decide +kernel
theorem dL_law_206 : decode cL_law 206 = .ok (.iadd, 1) := by decide +kernel
theorem dL_law_207 : decode cL_law 207 = .ok (.iaload, 1) := by decide +kernel
theorem dL_law_208 : decode cL_law 208 = .ok (.invokevirtual 46, 3) := by decide +kernel
theorem dL_law_211 : decode cL_law 211 = .ok (.if_icmp .eq 100, 3) := by decide +kernel
theorem dL_law_214 : decode cL_law 214 = .ok (.iconst 0, 1) := by decide +kernel
theorem dL_law_215 : decode cL_law 215 = .ok (.ireturn, 1) := by decide +kernel
theorem dL_law_216 : decode cL_law 216 = .ok (.aload_n 1, 1) := by decide +kernel
theorem dL_law_217 : decode cL_law 217 = .ok (.aload_n 0, 1) := by decide +kernel
theorem dL_law_218 : decode cL_law 218 = .ok (.iload_n 3, 1) := by decide +kernel
theorem dL_law_219 : decode cL_law 219 = .ok (.iconst 1, 1) := by decide +kernel
theorem dL_law_220 : decode cL_law 220 = .ok (.iadd, 1) := by decide +kernel
theorem dL_law_221 : decode cL_law 221 = .ok (.iaload, 1) := by decide +kernel
theorem dL_law_222 : decode cL_law 222 = .ok (.invokevirtual 47, 3) := by decide +kernel
theorem dL_law_225 : decode cL_law 225 = .ok (.aload_n 2, 1) := by decide +kernel
theorem dL_law_226 : decode cL_law 226 = .ok (.aload_n 0, 1) := by decide +kernel
theorem dL_law_227 : decode cL_law 227 = .ok (.iload_n 3, 1) := by decide +kernel
theorem dL_law_228 : decode cL_law 228 = .ok (.iconst 1, 1) := by decide +kernel
theorem dL_law_229 : decode cL_law 229 = .ok (.iadd, 1) := by decide +kernel
theorem dL_law_230 : decode cL_law 230 = .ok (.iaload, 1) := by decide +kernel
theorem dL_law_231 : decode cL_law 231 = .ok (.invokevirtual 50, 3) := by decide +kernel
theorem dL_law_234 : decode cL_law 234 = .ok (.if_icmp .eq 77, 3) := by decide +kernel
theorem dL_law_237 : decode cL_law 237 = .ok (.iconst 0, 1) := by decide +kernel
theorem dL_law_238 : decode cL_law 238 = .ok (.ireturn, 1) := by decide +kernel
theorem dL_law_239 : decode cL_law 239 = .ok (.aload_n 1, 1) := by decide +kernel
theorem dL_law_240 : decode cL_law 240 = .ok (.aload_n 0, 1) := by decide +kernel
theorem dL_law_241 : decode cL_law 241 = .ok (.iload_n 3, 1) := by decide +kernel
theorem dL_law_242 : decode cL_law 242 = .ok (.iconst 1, 1) := by decide +kernel
theorem dL_law_243 : decode cL_law 243 = .ok (.iadd, 1) := by decide +kernel
theorem dL_law_244 : decode cL_law 244 = .ok (.iaload, 1) := by decide +kernel
theorem dL_law_245 : decode cL_law 245 = .ok (.invokevirtual 51, 3) := by decide +kernel
theorem dL_law_248 : decode cL_law 248 = .ok (.aload_n 2, 1) := by decide +kernel
theorem dL_law_249 : decode cL_law 249 = .ok (.aload_n 0, 1) := by decide +kernel
theorem dL_law_250 : decode cL_law 250 = .ok (.iload_n 3, 1) := by decide +kernel
theorem dL_law_251 : decode cL_law 251 = .ok (.iconst 1, 1) := by decide +kernel
theorem dL_law_252 : decode cL_law 252 = .ok (.iadd, 1) := by decide +kernel
theorem dL_law_253 : decode cL_law 253 = .ok (.iaload, 1) := by decide +kernel
theorem dL_law_254 : decode cL_law 254 = .ok (.invokevirtual 54, 3) := by decide +kernel
theorem dL_law_257 : decode cL_law 257 = .ok (.if_icmp .eq 54, 3) := by decide +kernel
theorem dL_law_260 : decode cL_law 260 = .ok (.iconst 0, 1) := by decide +kernel
theorem dL_law_261 : decode cL_law 261 = .ok (.ireturn, 1) := by decide +kernel
theorem dL_law_262 : decode cL_law 262 = .ok (.aload_n 1, 1) := by decide +kernel
theorem dL_law_263 : decode cL_law 263 = .ok (.invokevirtual 55, 3) := by decide +kernel
theorem dL_law_266 : decode cL_law 266 = .ok (.aload_n 2, 1) := by decide +kernel
theorem dL_law_267 : decode cL_law 267 = .ok (.invokevirtual 58, 3) := by decide +kernel
theorem dL_law_270 : decode cL_law 270 = .ok (.if_icmp .eq 41, 3) := by decide +kernel
theorem dL_law_273 : decode cL_law 273 = .ok (.iconst 0, 1) := by decide +kernel
theorem dL_law_274 : decode cL_law 274 = .ok (.ireturn, 1) := by decide +kernel
theorem dL_law_275 : decode cL_law 275 = .ok (.aload_n 1, 1) := by decide +kernel
theorem dL_law_276 : decode cL_law 276 = .ok (.invokevirtual 59, 3) := by decide +kernel
theorem dL_law_279 : decode cL_law 279 = .ok (.aload_n 2, 1) := by decide +kernel
theorem dL_law_280 : decode cL_law 280 = .ok (.invokevirtual 62, 3) := by decide +kernel
theorem dL_law_283 : decode cL_law 283 = .ok (.if_icmp .eq 28, 3) := by decide +kernel
theorem dL_law_286 : decode cL_law 286 = .ok (.iconst 0, 1) := by decide +kernel
theorem dL_law_287 : decode cL_law 287 = .ok (.ireturn, 1) := by decide +kernel
theorem dL_law_288 : decode cL_law 288 = .ok (.aload_n 1, 1) := by decide +kernel
theorem dL_law_289 : decode cL_law 289 = .ok (.aload_n 0, 1) := by decide +kernel
theorem dL_law_290 : decode cL_law 290 = .ok (.iload_n 3, 1) := by decide +kernel
theorem dL_law_291 : decode cL_law 291 = .ok (.iconst 1, 1) := by decide +kernel
theorem dL_law_292 : decode cL_law 292 = .ok (.iadd, 1) := by decide +kernel
theorem dL_law_293 : decode cL_law 293 = .ok (.iaload, 1) := by decide +kernel
theorem dL_law_294 : decode cL_law 294 = .ok (.invokevirtual 63, 3) := by decide +kernel
theorem dL_law_297 : decode cL_law 297 = .ok (.aload_n 2, 1) := by decide +kernel
theorem dL_law_298 : decode cL_law 298 = .ok (.aload_n 0, 1) := by decide +kernel
theorem dL_law_299 : decode cL_law 299 = .ok (.iload_n 3, 1) := by decide +kernel
theorem dL_law_300 : decode cL_law 300 = .ok (.iconst 1, 1) := by decide +kernel
theorem dL_law_301 : decode cL_law 301 = .ok (.iadd, 1) := by decide +kernel
theorem dL_law_302 : decode cL_law 302 = .ok (.iaload, 1) := by decide +kernel
theorem dL_law_303 : decode cL_law 303 = .ok (.invokevirtual 66, 3) := by decide +kernel
theorem dL_law_306 : decode cL_law 306 = .ok (.if_icmp .eq 5, 3) := by decide +kernel
theorem dL_law_309 : decode cL_law 309 = .ok (.iconst 0, 1) := by decide +kernel
theorem dL_law_310 : decode cL_law 310 = .ok (.ireturn, 1) := by decide +kernel
theorem dL_law_311 : decode cL_law 311 = .ok (.iinc 3 2, 3) := by decide +kernel
theorem dL_law_314 : decode cL_law 314 = .ok (.goto (-286), 3) := by decide +kernel
theorem dL_law_317 : decode cL_law 317 = .ok (.iconst 1, 1) := by decide +kernel
theorem dL_law_318 : decode cL_law 318 = .ok (.ireturn, 1) := by decide +kernel
end
section
set_option maxRecDepth 100000
theorem dX2_init_0 : decode cX2_init 0 = .ok (.aload_n 0, 1) := by decide +kernel
theorem dX2_init_1 : decode cX2_init 1 = .ok (.invokespecial 1, 3) := by decide +kernel
theorem dX2_init_4 : decode cX2_init 4 = .ok (.aload_n 0, 1) := by decide +kernel
theorem dX2_init_5 : decode cX2_init 5 = .ok (.bipush 60, 2) := by decide +kernel
theorem dX2_init_7 : decode cX2_init 7 = .ok (.newarray .int, 2) := by decide +kernel
theorem dX2_init_9 : decode cX2_init 9 = .ok (.putfield 7, 3) := by decide +kernel
theorem dX2_init_12 : decode cX2_init 12 = .ok (.aload_n 0, 1) := by decide +kernel
theorem dX2_init_13 : decode cX2_init 13 = .ok (.bipush 60, 2) := by decide +kernel
theorem dX2_init_15 : decode cX2_init 15 = .ok (.newarray .int, 2) := by decide +kernel
theorem dX2_init_17 : decode cX2_init 17 = .ok (.putfield 13, 3) := by decide +kernel
theorem dX2_init_20 : decode cX2_init 20 = .ok (.aload_n 0, 1) := by decide +kernel
theorem dX2_init_21 : decode cX2_init 21 = .ok (.bipush 60, 2) := by decide +kernel
theorem dX2_init_23 : decode cX2_init 23 = .ok (.newarray .boolean, 2) := by decide +kernel
theorem dX2_init_25 : decode cX2_init 25 = .ok (.putfield 16, 3) := by decide +kernel
theorem dX2_init_28 : decode cX2_init 28 = .ok (.aload_n 0, 1) := by decide +kernel
theorem dX2_init_29 : decode cX2_init 29 = .ok (.bipush 60, 2) := by decide +kernel
theorem dX2_init_31 : decode cX2_init 31 = .ok (.newarray .int, 2) := by decide +kernel
theorem dX2_init_33 : decode cX2_init 33 = .ok (.putfield 20, 3) := by decide +kernel
theorem dX2_init_36 : decode cX2_init 36 = .ok (.aload_n 0, 1) := by decide +kernel
theorem dX2_init_37 : decode cX2_init 37 = .ok (.bipush 60, 2) := by decide +kernel
theorem dX2_init_39 : decode cX2_init 39 = .ok (.newarray .int, 2) := by decide +kernel
theorem dX2_init_41 : decode cX2_init 41 = .ok (.putfield 23, 3) := by decide +kernel
theorem dX2_init_44 : decode cX2_init 44 = .ok (.aload_n 0, 1) := by decide +kernel
theorem dX2_init_45 : decode cX2_init 45 = .ok (.bipush 60, 2) := by decide +kernel
theorem dX2_init_47 : decode cX2_init 47 = .ok (.newarray .int, 2) := by decide +kernel
theorem dX2_init_49 : decode cX2_init 49 = .ok (.putfield 26, 3) := by decide +kernel
theorem dX2_init_52 : decode cX2_init 52 = .ok (.aload_n 0, 1) := by decide +kernel
theorem dX2_init_53 : decode cX2_init 53 = .ok (.bipush 60, 2) := by decide +kernel
theorem dX2_init_55 : decode cX2_init 55 = .ok (.newarray .boolean, 2) := by decide +kernel
theorem dX2_init_57 : decode cX2_init 57 = .ok (.putfield 29, 3) := by decide +kernel
theorem dX2_init_60 : decode cX2_init 60 = .ok (.aload_n 0, 1) := by decide +kernel
theorem dX2_init_61 : decode cX2_init 61 = .ok (.iload_n 1, 1) := by decide +kernel
theorem dX2_init_62 : decode cX2_init 62 = .ok (.invokevirtual 32, 3) := by decide +kernel
theorem dX2_init_65 : decode cX2_init 65 = .ok (.return_, 1) := by decide +kernel
theorem dX2_width_0 : decode cX2_width 0 = .ok (.aload_n 0, 1) := by decide +kernel
theorem dX2_width_1 : decode cX2_width 1 = .ok (.iload_n 1, 1) := by decide +kernel
theorem dX2_width_2 : decode cX2_width 2 = .ok (.iconst 1, 1) := by decide +kernel
theorem dX2_width_3 : decode cX2_width 3 = .ok (.if_icmp .ge 7, 3) := by decide +kernel
theorem dX2_width_6 : decode cX2_width 6 = .ok (.iconst 1, 1) := by decide +kernel
theorem dX2_width_7 : decode cX2_width 7 = .ok (.goto 15, 3) := by decide +kernel
theorem dX2_width_10 : decode cX2_width 10 = .ok (.iload_n 1, 1) := by decide +kernel
theorem dX2_width_11 : decode cX2_width 11 = .ok (.bipush 100, 2) := by decide +kernel
theorem dX2_width_13 : decode cX2_width 13 = .ok (.if_icmp .le 8, 3) := by decide +kernel
theorem dX2_width_16 : decode cX2_width 16 = .ok (.bipush 100, 2) := by decide +kernel
theorem dX2_width_18 : decode cX2_width 18 = .ok (.goto 4, 3) := by decide +kernel
theorem dX2_width_21 : decode cX2_width 21 = .ok (.iload_n 1, 1) := by decide +kernel
theorem dX2_width_22 : decode cX2_width 22 = .ok (.putfield 48, 3) := by decide +kernel
theorem dX2_width_25 : decode cX2_width 25 = .ok (.return_, 1) := by decide +kernel
theorem dX2_word_0 : decode cX2_word 0 = .ok (.iload_n 1, 1) := by decide +kernel
theorem dX2_word_1 : decode cX2_word 1 = .ok (.iconst 1, 1) := by decide +kernel
theorem dX2_word_2 : decode cX2_word 2 = .ok (.if_icmp .lt 9, 3) := by decide +kernel
theorem dX2_word_5 : decode cX2_word 5 = .ok (.iload_n 1, 1) := by decide +kernel
theorem dX2_word_6 : decode cX2_word 6 = .ok (.bipush 20, 2) := by decide +kernel
theorem dX2_word_8 : decode cX2_word 8 = .ok (.if_icmp .le 7, 3) := by decide +kernel
theorem dX2_word_11 : decode cX2_word 11 = .ok (.iconst (-1), 1) := by decide +kernel
theorem dX2_word_12 : decode cX2_word 12 = .ok (.goto 9, 3) := by decide +kernel
theorem dX2_word_15 : decode cX2_word 15 = .ok (.aload_n 0, 1) := by decide +kernel
theorem dX2_word_16 : decode cX2_word 16 = .ok (.iconst 0, 1) := by decide +kernel
theorem dX2_word_17 : decode cX2_word 17 = .ok (.iload_n 1, 1) := by decide +kernel
theorem dX2_word_18 : decode cX2_word 18 = .ok (.invokevirtual 40, 3) := by decide +kernel
theorem dX2_word_21 : decode cX2_word 21 = .ok (.ireturn, 1) := by decide +kernel
theorem dX2_add_0 : decode cX2_add 0 = .ok (.aload_n 0, 1) := by decide +kernel
theorem dX2_add_1 : decode cX2_add 1 = .ok (.getfield 36, 3) := by decide +kernel
theorem dX2_add_4 : decode cX2_add 4 = .ok (.bipush 60, 2) := by decide +kernel
theorem dX2_add_6 : decode cX2_add 6 = .ok (.if_icmp .ne 5, 3) := by decide +kernel
theorem dX2_add_9 : decode cX2_add 9 = .ok (.iconst (-1), 1) := by decide +kernel
theorem dX2_add_10 : decode cX2_add 10 = .ok (.ireturn, 1) := by decide +kernel
theorem dX2_add_11 : decode cX2_add 11 = .ok (.aload_n 0, 1) := by decide +kernel
theorem dX2_add_12 : decode cX2_add 12 = .ok (.getfield 7, 3) := by decide +kernel
theorem dX2_add_15 : decode cX2_add 15 = .ok (.aload_n 0, 1) := by decide +kernel
theorem dX2_add_16 : decode cX2_add 16 = .ok (.getfield 36, 3) := by decide +kernel
theorem dX2_add_19 : decode cX2_add 19 = .ok (.iload_n 1, 1) := by decide +kernel
theorem dX2_add_20 : decode cX2_add 20 = .ok (.iastore, 1) := by decide +kernel
theorem dX2_add_21 : decode cX2_add 21 = .ok (.aload_n 0, 1) := by decide +kernel
theorem dX2_add_22 : decode cX2_add 22 = .ok (.getfield 13, 3) := by decide +kernel
theorem dX2_add_25 : decode cX2_add 25 = .ok (.aload_n 0, 1) := by decide +kernel
theorem dX2_add_26 : decode cX2_add 26 = .ok (.getfield 36, 3) := by decide +kernel
theorem dX2_add_29 : decode cX2_add 29 = .ok (.iload_n 2, 1) := by decide +kernel
theorem dX2_add_30 : decode cX2_add 30 = .ok (.iastore, 1) := by decide +kernel
theorem dX2_add_31 : decode cX2_add 31 = .ok (.aload_n 0, 1) := by decide +kernel
theorem dX2_add_32 : decode cX2_add 32 = .ok (.dup, 1) := by decide +kernel
theorem dX2_add_33 : decode cX2_add 33 = .ok (.getfield 36, 3) := by decide +kernel
theorem dX2_add_36 : decode cX2_add 36 = .ok (.iconst 1, 1) := by decide +kernel
theorem dX2_add_37 : decode cX2_add 37 = .ok (.iadd, 1) := by decide +kernel
theorem dX2_add_38 : decode cX2_add 38 = .ok (.putfield 36, 3) := by decide +kernel
theorem dX2_add_41 : decode cX2_add 41 = .ok (.aload_n 0, 1) := by decide +kernel
theorem dX2_add_42 : decode cX2_add 42 = .ok (.getfield 36, 3) := by decide +kernel
theorem dX2_add_45 : decode cX2_add 45 = .ok (.ireturn, 1) := by decide +kernel
theorem dX2_lineBreak_0 : decode cX2_lineBreak 0 = .ok (.aload_n 0, 1) := by decide +kernel
theorem dX2_lineBreak_1 : decode cX2_lineBreak 1 = .ok (.iconst 1, 1) := by decide +kernel
theorem dX2_lineBreak_2 : decode cX2_lineBreak 2 = .ok (.iconst 0, 1) := by decide +kernel
theorem dX2_lineBreak_3 : decode cX2_lineBreak 3 = .ok (.invokevirtual 40, 3) := by decide +kernel
theorem dX2_lineBreak_6 : decode cX2_lineBreak 6 = .ok (.ireturn, 1) := by decide +kernel
theorem dX2_open_0 : decode cX2_open 0 = .ok (.iload_n 1, 1) := by decide +kernel
theorem dX2_open_1 : decode cX2_open 1 = .ok (.ifCond .lt 18, 3) := by decide +kernel
theorem dX2_open_4 : decode cX2_open 4 = .ok (.iload_n 1, 1) := by decide +kernel
theorem dX2_open_5 : decode cX2_open 5 = .ok (.bipush 8, 2) := by decide +kernel
theorem dX2_open_7 : decode cX2_open 7 = .ok (.if_icmp .gt 12, 3) := by decide +kernel
theorem dX2_open_10 : decode cX2_open 10 = .ok (.aload_n 0, 1) := by decide +kernel
theorem dX2_open_11 : decode cX2_open 11 = .ok (.invokevirtual 44, 3) := by decide +kernel
theorem dX2_open_14 : decode cX2_open 14 = .ok (.bipush 12, 2) := by decide +kernel
theorem dX2_open_16 : decode cX2_open 16 = .ok (.if_icmp .ne 7, 3) := by decide +kernel
theorem dX2_open_19 : decode cX2_open 19 = .ok (.iconst (-1), 1) := by decide +kernel
theorem dX2_open_20 : decode cX2_open 20 = .ok (.goto 9, 3) := by decide +kernel
theorem dX2_open_23 : decode cX2_open 23 = .ok (.aload_n 0, 1) := by decide +kernel
theorem dX2_open_24 : decode cX2_open 24 = .ok (.iconst 2, 1) := by decide +kernel
theorem dX2_open_25 : decode cX2_open 25 = .ok (.iload_n 1, 1) := by decide +kernel
theorem dX2_open_26 : decode cX2_open 26 = .ok (.invokevirtual 40, 3) := by decide +kernel
theorem dX2_open_29 : decode cX2_open 29 = .ok (.ireturn, 1) := by decide +kernel
theorem dX2_waiting_0 : decode cX2_waiting 0 = .ok (.iconst 0, 1) := by decide +kernel
theorem dX2_waiting_1 : decode cX2_waiting 1 = .ok (.istore_n 1, 1) := by decide +kernel
theorem dX2_waiting_2 : decode cX2_waiting 2 = .ok (.iconst 0, 1) := by decide +kernel
theorem dX2_waiting_3 : decode cX2_waiting 3 = .ok (.istore_n 2, 1) := by decide +kernel
theorem dX2_waiting_4 : decode cX2_waiting 4 = .ok (.iload_n 2, 1) := by decide +kernel
theorem dX2_waiting_5 : decode cX2_waiting 5 = .ok (.aload_n 0, 1) := by decide +kernel
theorem dX2_waiting_6 : decode cX2_waiting 6 = .ok (.getfield 36, 3) := by decide +kernel
theorem dX2_waiting_9 : decode cX2_waiting 9 = .ok (.if_icmp .ge 35, 3) := by decide +kernel
theorem dX2_waiting_12 : decode cX2_waiting 12 = .ok (.aload_n 0, 1) := by decide +kernel
theorem dX2_waiting_13 : decode cX2_waiting 13 = .ok (.getfield 7, 3) := by decide +kernel
theorem dX2_waiting_16 : decode cX2_waiting 16 = .ok (.iload_n 2, 1) := by decide +kernel
theorem dX2_waiting_17 : decode cX2_waiting 17 = .ok (.iaload, 1) := by decide +kernel
theorem dX2_waiting_18 : decode cX2_waiting 18 = .ok (.iconst 2, 1) := by decide +kernel
theorem dX2_waiting_19 : decode cX2_waiting 19 = .ok (.if_icmp .ne 6, 3) := by decide +kernel
theorem dX2_waiting_22 : decode cX2_waiting 22 = .ok (.iinc 1 1, 3) := by decide +kernel
theorem dX2_waiting_25 : decode cX2_waiting 25 = .ok (.aload_n 0, 1) := by decide +kernel
theorem dX2_waiting_26 : decode cX2_waiting 26 = .ok (.getfield 7, 3) := by decide +kernel
theorem dX2_waiting_29 : decode cX2_waiting 29 = .ok (.iload_n 2, 1) := by decide +kernel
theorem dX2_waiting_30 : decode cX2_waiting 30 = .ok (.iaload, 1) := by decide +kernel
theorem dX2_waiting_31 : decode cX2_waiting 31 = .ok (.iconst 3, 1) := by decide +kernel
theorem dX2_waiting_32 : decode cX2_waiting 32 = .ok (.if_icmp .ne 6, 3) := by decide +kernel
theorem dX2_waiting_35 : decode cX2_waiting 35 = .ok (.iinc 1 (-1), 3) := by decide +kernel
theorem dX2_waiting_38 : decode cX2_waiting 38 = .ok (.iinc 2 1, 3) := by decide +kernel
theorem dX2_waiting_41 : decode cX2_waiting 41 = .ok (.goto (-37), 3) := by decide +kernel
theorem dX2_waiting_44 : decode cX2_waiting 44 = .ok (.iload_n 1, 1) := by decide +kernel
theorem dX2_waiting_45 : decode cX2_waiting 45 = .ok (.ireturn, 1) := by decide +kernel
theorem dX2_close_0 : decode cX2_close 0 = .ok (.aload_n 0, 1) := by decide +kernel
theorem dX2_close_1 : decode cX2_close 1 = .ok (.invokevirtual 44, 3) := by decide +kernel
theorem dX2_close_4 : decode cX2_close 4 = .ok (.ifCond .ne 7, 3) := by decide +kernel
theorem dX2_close_7 : decode cX2_close 7 = .ok (.iconst (-1), 1) := by decide +kernel
theorem dX2_close_8 : decode cX2_close 8 = .ok (.goto 9, 3) := by decide +kernel
theorem dX2_close_11 : decode cX2_close 11 = .ok (.aload_n 0, 1) := by decide +kernel
theorem dX2_close_12 : decode cX2_close 12 = .ok (.iconst 3, 1) := by decide +kernel
theorem dX2_close_13 : decode cX2_close 13 = .ok (.iconst 0, 1) := by decide +kernel
theorem dX2_close_14 : decode cX2_close 14 = .ok (.invokevirtual 40, 3) := by decide +kernel
theorem dX2_close_17 : decode cX2_close 17 = .ok (.ireturn, 1) := by decide +kernel
theorem dX2_row_0 : decode cX2_row 0 = .ok (.aload_n 0, 1) := by decide +kernel
theorem dX2_row_1 : decode cX2_row 1 = .ok (.iload_n 1, 1) := by decide +kernel
theorem dX2_row_2 : decode cX2_row 2 = .ok (.invokevirtual 68, 3) := by decide +kernel
theorem dX2_row_5 : decode cX2_row 5 = .ok (.ifCond .eq 5, 3) := by decide +kernel
theorem dX2_row_8 : decode cX2_row 8 = .ok (.iconst (-1), 1) := by decide +kernel
theorem dX2_row_9 : decode cX2_row 9 = .ok (.ireturn, 1) := by decide +kernel
theorem dX2_row_10 : decode cX2_row 10 = .ok (.aload_n 0, 1) := by decide +kernel
theorem dX2_row_11 : decode cX2_row 11 = .ok (.aload_n 0, 1) := by decide +kernel
theorem dX2_row_12 : decode cX2_row 12 = .ok (.getfield 48, 3) := by decide +kernel
theorem dX2_row_15 : decode cX2_row 15 = .ok (.invokevirtual 72, 3) := by decide +kernel
theorem dX2_row_18 : decode cX2_row 18 = .ok (.aload_n 0, 1) := by decide +kernel
theorem dX2_row_19 : decode cX2_row 19 = .ok (.getfield 23, 3) := by decide +kernel
theorem dX2_row_22 : decode cX2_row 22 = .ok (.iload_n 1, 1) := by decide +kernel
theorem dX2_row_23 : decode cX2_row 23 = .ok (.iaload, 1) := by decide +kernel
theorem dX2_row_24 : decode cX2_row 24 = .ok (.ireturn, 1) := by decide +kernel
theorem dX2_missing_0 : decode cX2_missing 0 = .ok (.iload_n 1, 1) := by decide +kernel
theorem dX2_missing_1 : decode cX2_missing 1 = .ok (.ifCond .lt 11, 3) := by decide +kernel
theorem dX2_missing_4 : decode cX2_missing 4 = .ok (.iload_n 1, 1) := by decide +kernel
theorem dX2_missing_5 : decode cX2_missing 5 = .ok (.aload_n 0, 1) := by decide +kernel
theorem dX2_missing_6 : decode cX2_missing 6 = .ok (.getfield 36, 3) := by decide +kernel
theorem dX2_missing_9 : decode cX2_missing 9 = .ok (.if_icmp .lt 7, 3) := by decide +kernel
theorem dX2_missing_12 : decode cX2_missing 12 = .ok (.iconst 1, 1) := by decide +kernel
theorem dX2_missing_13 : decode cX2_missing 13 = .ok (.goto 4, 3) := by decide +kernel
theorem dX2_missing_16 : decode cX2_missing 16 = .ok (.iconst 0, 1) := by decide +kernel
theorem dX2_missing_17 : decode cX2_missing 17 = .ok (.ireturn, 1) := by decide +kernel
theorem dX2_lay_0 : decode cX2_lay 0 = .ok (.iconst 0, 1) := by decide +kernel
theorem dX2_lay_1 : decode cX2_lay 1 = .ok (.istore_n 2, 1) := by decide +kernel
theorem dX2_lay_2 : decode cX2_lay 2 = .ok (.aload_n 0, 1) := by decide +kernel
theorem dX2_lay_3 : decode cX2_lay 3 = .ok (.iconst 0, 1) := by decide +kernel
theorem dX2_lay_4 : decode cX2_lay 4 = .ok (.putfield 58, 3) := by decide +kernel
theorem dX2_lay_7 : decode cX2_lay 7 = .ok (.aload_n 0, 1) := by decide +kernel
theorem dX2_lay_8 : decode cX2_lay 8 = .ok (.iconst 0, 1) := by decide +kernel
theorem dX2_lay_9 : decode cX2_lay 9 = .ok (.putfield 61, 3) := by decide +kernel
theorem dX2_lay_12 : decode cX2_lay 12 = .ok (.aload_n 0, 1) := by decide +kernel
theorem dX2_lay_13 : decode cX2_lay 13 = .ok (.iconst 0, 1) := by decide +kernel
theorem dX2_lay_14 : decode cX2_lay 14 = .ok (.putfield 51, 3) := by decide +kernel
theorem dX2_lay_17 : decode cX2_lay 17 = .ok (.iconst 0, 1) := by decide +kernel
theorem dX2_lay_18 : decode cX2_lay 18 = .ok (.istore_n 3, 1) := by decide +kernel
theorem dX2_lay_19 : decode cX2_lay 19 = .ok (.iload_n 3, 1) := by decide +kernel
theorem dX2_lay_20 : decode cX2_lay 20 = .ok (.aload_n 0, 1) := by decide +kernel
theorem dX2_lay_21 : decode cX2_lay 21 = .ok (.getfield 36, 3) := by decide +kernel
theorem dX2_lay_24 : decode cX2_lay 24 = .ok (.if_icmp .ge 188, 3) := by decide +kernel
theorem dX2_lay_27 : decode cX2_lay 27 = .ok (.aload_n 0, 1) := by decide +kernel
theorem dX2_lay_28 : decode cX2_lay 28 = .ok (.getfield 23, 3) := by decide +kernel
theorem dX2_lay_31 : decode cX2_lay 31 = .ok (.iload_n 3, 1) := by decide +kernel
theorem dX2_lay_32 : decode cX2_lay 32 = .ok (.aload_n 0, 1) := by decide +kernel
theorem dX2_lay_33 : decode cX2_lay 33 = .ok (.getfield 58, 3) := by decide +kernel
theorem dX2_lay_36 : decode cX2_lay 36 = .ok (.iastore, 1) := by decide +kernel
theorem dX2_lay_37 : decode cX2_lay 37 = .ok (.aload_n 0, 1) := by decide +kernel
theorem dX2_lay_38 : decode cX2_lay 38 = .ok (.getfield 26, 3) := by decide +kernel
theorem dX2_lay_41 : decode cX2_lay 41 = .ok (.iload_n 3, 1) := by decide +kernel
theorem dX2_lay_42 : decode cX2_lay 42 = .ok (.iload_n 2, 1) := by decide +kernel
theorem dX2_lay_43 : decode cX2_lay 43 = .ok (.iastore, 1) := by decide +kernel
theorem dX2_lay_44 : decode cX2_lay 44 = .ok (.aload_n 0, 1) := by decide +kernel
theorem dX2_lay_45 : decode cX2_lay 45 = .ok (.getfield 51, 3) := by decide +kernel
theorem dX2_lay_48 : decode cX2_lay 48 = .ok (.ifCond .le 21, 3) := by decide +kernel
theorem dX2_lay_51 : decode cX2_lay 51 = .ok (.aload_n 0, 1) := by decide +kernel
theorem dX2_lay_52 : decode cX2_lay 52 = .ok (.getfield 16, 3) := by decide +kernel
theorem dX2_lay_55 : decode cX2_lay 55 = .ok (.aload_n 0, 1) := by decide +kernel
theorem dX2_lay_56 : decode cX2_lay 56 = .ok (.getfield 51, 3) := by decide +kernel
theorem dX2_lay_59 : decode cX2_lay 59 = .ok (.iconst 1, 1) := by decide +kernel
theorem dX2_lay_60 : decode cX2_lay 60 = .ok (.isub, 1) := by decide +kernel
theorem dX2_lay_61 : decode cX2_lay 61 = .ok (.baload, 1) := by decide +kernel
theorem dX2_lay_62 : decode cX2_lay 62 = .ok (.ifCond .eq 7, 3) := by decide +kernel
theorem dX2_lay_65 : decode cX2_lay 65 = .ok (.iconst 1, 1) := by decide +kernel
theorem dX2_lay_66 : decode cX2_lay 66 = .ok (.goto 4, 3) := by decide +kernel
theorem dX2_lay_69 : decode cX2_lay 69 = .ok (.iconst 0, 1) := by decide +kernel
theorem dX2_lay_70 : decode cX2_lay 70 = .ok (.istore 4, 2) := by decide +kernel
theorem dX2_lay_72 : decode cX2_lay 72 = .ok (.aload_n 0, 1) := by decide +kernel
theorem dX2_lay_73 : decode cX2_lay 73 = .ok (.getfield 7, 3) := by decide +kernel
theorem dX2_lay_76 : decode cX2_lay 76 = .ok (.iload_n 3, 1) := by decide +kernel
theorem dX2_lay_77 : decode cX2_lay 77 = .ok (.iaload, 1) := by decide +kernel
theorem dX2_lay_78 : decode cX2_lay 78 = .ok (.ifCond .ne 12, 3) := by decide +kernel
theorem dX2_lay_81 : decode cX2_lay 81 = .ok (.iload_n 2, 1) := by decide +kernel
theorem dX2_lay_82 : decode cX2_lay 82 = .ok (.aload_n 0, 1) := by decide +kernel
theorem dX2_lay_83 : decode cX2_lay 83 = .ok (.getfield 13, 3) := by decide +kernel
theorem dX2_lay_86 : decode cX2_lay 86 = .ok (.iload_n 3, 1) := by decide +kernel
theorem dX2_lay_87 : decode cX2_lay 87 = .ok (.iaload, 1) := by decide +kernel
theorem dX2_lay_88 : decode cX2_lay 88 = .ok (.iadd, 1) := by decide +kernel
theorem dX2_lay_89 : decode cX2_lay 89 = .ok (.istore_n 2, 1) := by decide +kernel
theorem dX2_lay_90 : decode cX2_lay 90 = .ok (.aload_n 0, 1) := by decide +kernel
theorem dX2_lay_91 : decode cX2_lay 91 = .ok (.getfield 7, 3) := by decide +kernel
theorem dX2_lay_94 : decode cX2_lay 94 = .ok (.iload_n 3, 1) := by decide +kernel
theorem dX2_lay_95 : decode cX2_lay 95 = .ok (.iaload, 1) := by decide +kernel
theorem dX2_lay_96 : decode cX2_lay 96 = .ok (.iconst 1, 1) := by decide +kernel
theorem dX2_lay_97 : decode cX2_lay 97 = .ok (.if_icmp .ne 11, 3) := by decide +kernel
theorem dX2_lay_100 : decode cX2_lay 100 = .ok (.iload 4, 2) := by decide +kernel
theorem dX2_lay_102 : decode cX2_lay 102 = .ok (.ifCond .eq 6, 3) := by decide +kernel
theorem dX2_lay_105 : decode cX2_lay 105 = .ok (.iinc 2 1, 3) := by decide +kernel
theorem dX2_lay_108 : decode cX2_lay 108 = .ok (.aload_n 0, 1) := by decide +kernel
theorem dX2_lay_109 : decode cX2_lay 109 = .ok (.getfield 7, 3) := by decide +kernel
theorem dX2_lay_112 : decode cX2_lay 112 = .ok (.iload_n 3, 1) := by decide +kernel
theorem dX2_lay_113 : decode cX2_lay 113 = .ok (.iaload, 1) := by decide +kernel
theorem dX2_lay_114 : decode cX2_lay 114 = .ok (.iconst 1, 1) := by decide +kernel
theorem dX2_lay_115 : decode cX2_lay 115 = .ok (.if_icmp .ne 41, 3) := by decide +kernel
theorem dX2_lay_118 : decode cX2_lay 118 = .ok (.iload 4, 2) := by decide +kernel
theorem dX2_lay_120 : decode cX2_lay 120 = .ok (.ifCond .ne 36, 3) := by decide +kernel
theorem dX2_lay_123 : decode cX2_lay 123 = .ok (.aload_n 0, 1) := by decide +kernel
theorem dX2_lay_124 : decode cX2_lay 124 = .ok (.dup, 1) := by decide +kernel
theorem dX2_lay_125 : decode cX2_lay 125 = .ok (.getfield 58, 3) := by decide +kernel
theorem dX2_lay_128 : decode cX2_lay 128 = .ok (.iconst 1, 1) := by decide +kernel
theorem dX2_lay_129 : decode cX2_lay 129 = .ok (.iadd, 1) := by decide +kernel
theorem dX2_lay_130 : decode cX2_lay 130 = .ok (.putfield 58, 3) := by decide +kernel
theorem dX2_lay_133 : decode cX2_lay 133 = .ok (.aload_n 0, 1) := by decide +kernel
theorem dX2_lay_134 : decode cX2_lay 134 = .ok (.getfield 51, 3) := by decide +kernel
theorem dX2_lay_137 : decode cX2_lay 137 = .ok (.ifCond .le 17, 3) := by decide +kernel
theorem dX2_lay_140 : decode cX2_lay 140 = .ok (.aload_n 0, 1) := by decide +kernel
end
section
set_option maxRecDepth 100000
theorem dX2_lay_141 : decode cX2_lay 141 = .ok (.getfield 20, 3) := by decide +kernel
theorem dX2_lay_144 : decode cX2_lay 144 = .ok (.aload_n 0, 1) := by decide +kernel
theorem dX2_lay_145 : decode cX2_lay 145 = .ok (.getfield 51, 3) := by decide +kernel
theorem dX2_lay_148 : decode cX2_lay 148 = .ok (.iconst 1, 1) := by decide +kernel
theorem dX2_lay_149 : decode cX2_lay 149 = .ok (.isub, 1) := by decide +kernel
theorem dX2_lay_150 : decode cX2_lay 150 = .ok (.iaload, 1) := by decide +kernel
theorem dX2_lay_151 : decode cX2_lay 151 = .ok (.goto 4, 3) := by decide +kernel
theorem dX2_lay_154 : decode cX2_lay 154 = .ok (.iconst 0, 1) := by decide +kernel
theorem dX2_lay_155 : decode cX2_lay 155 = .ok (.istore_n 2, 1) := by decide +kernel
theorem dX2_lay_156 : decode cX2_lay 156 = .ok (.aload_n 0, 1) := by decide +kernel
theorem dX2_lay_157 : decode cX2_lay 157 = .ok (.getfield 7, 3) := by decide +kernel
theorem dX2_lay_160 : decode cX2_lay 160 = .ok (.iload_n 3, 1) := by decide +kernel
theorem dX2_lay_161 : decode cX2_lay 161 = .ok (.iaload, 1) := by decide +kernel
theorem dX2_lay_162 : decode cX2_lay 162 = .ok (.iconst 2, 1) := by decide +kernel
theorem dX2_lay_163 : decode cX2_lay 163 = .ok (.if_icmp .ne 10, 3) := by decide +kernel
theorem dX2_lay_166 : decode cX2_lay 166 = .ok (.aload_n 0, 1) := by decide +kernel
theorem dX2_lay_167 : decode cX2_lay 167 = .ok (.iload_n 3, 1) := by decide +kernel
theorem dX2_lay_168 : decode cX2_lay 168 = .ok (.iload_n 2, 1) := by decide +kernel
theorem dX2_lay_169 : decode cX2_lay 169 = .ok (.iload_n 1, 1) := by decide +kernel
theorem dX2_lay_170 : decode cX2_lay 170 = .ok (.invokevirtual 64, 3) := by decide +kernel
theorem dX2_lay_173 : decode cX2_lay 173 = .ok (.aload_n 0, 1) := by decide +kernel
theorem dX2_lay_174 : decode cX2_lay 174 = .ok (.getfield 7, 3) := by decide +kernel
theorem dX2_lay_177 : decode cX2_lay 177 = .ok (.iload_n 3, 1) := by decide +kernel
theorem dX2_lay_178 : decode cX2_lay 178 = .ok (.iaload, 1) := by decide +kernel
theorem dX2_lay_179 : decode cX2_lay 179 = .ok (.iconst 3, 1) := by decide +kernel
theorem dX2_lay_180 : decode cX2_lay 180 = .ok (.if_icmp .ne 13, 3) := by decide +kernel
theorem dX2_lay_183 : decode cX2_lay 183 = .ok (.aload_n 0, 1) := by decide +kernel
theorem dX2_lay_184 : decode cX2_lay 184 = .ok (.dup, 1) := by decide +kernel
theorem dX2_lay_185 : decode cX2_lay 185 = .ok (.getfield 51, 3) := by decide +kernel
theorem dX2_lay_188 : decode cX2_lay 188 = .ok (.iconst 1, 1) := by decide +kernel
theorem dX2_lay_189 : decode cX2_lay 189 = .ok (.isub, 1) := by decide +kernel
theorem dX2_lay_190 : decode cX2_lay 190 = .ok (.putfield 51, 3) := by decide +kernel
theorem dX2_lay_193 : decode cX2_lay 193 = .ok (.iload_n 2, 1) := by decide +kernel
theorem dX2_lay_194 : decode cX2_lay 194 = .ok (.aload_n 0, 1) := by decide +kernel
theorem dX2_lay_195 : decode cX2_lay 195 = .ok (.getfield 61, 3) := by decide +kernel
theorem dX2_lay_198 : decode cX2_lay 198 = .ok (.if_icmp .le 8, 3) := by decide +kernel
theorem dX2_lay_201 : decode cX2_lay 201 = .ok (.aload_n 0, 1) := by decide +kernel
theorem dX2_lay_202 : decode cX2_lay 202 = .ok (.iload_n 2, 1) := by decide +kernel
theorem dX2_lay_203 : decode cX2_lay 203 = .ok (.putfield 61, 3) := by decide +kernel
theorem dX2_lay_206 : decode cX2_lay 206 = .ok (.iinc 3 1, 3) := by decide +kernel
theorem dX2_lay_209 : decode cX2_lay 209 = .ok (.goto (-190), 3) := by decide +kernel
theorem dX2_lay_212 : decode cX2_lay 212 = .ok (.return_, 1) := by decide +kernel
theorem dX2_enter_0 : decode cX2_enter 0 = .ok (.aload_n 0, 1) := by decide +kernel
theorem dX2_enter_1 : decode cX2_enter 1 = .ok (.getfield 51, 3) := by decide +kernel
theorem dX2_enter_4 : decode cX2_enter 4 = .ok (.ifCond .le 21, 3) := by decide +kernel
theorem dX2_enter_7 : decode cX2_enter 7 = .ok (.aload_n 0, 1) := by decide +kernel
theorem dX2_enter_8 : decode cX2_enter 8 = .ok (.getfield 16, 3) := by decide +kernel
theorem dX2_enter_11 : decode cX2_enter 11 = .ok (.aload_n 0, 1) := by decide +kernel
theorem dX2_enter_12 : decode cX2_enter 12 = .ok (.getfield 51, 3) := by decide +kernel
theorem dX2_enter_15 : decode cX2_enter 15 = .ok (.iconst 1, 1) := by decide +kernel
theorem dX2_enter_16 : decode cX2_enter 16 = .ok (.isub, 1) := by decide +kernel
theorem dX2_enter_17 : decode cX2_enter 17 = .ok (.baload, 1) := by decide +kernel
theorem dX2_enter_18 : decode cX2_enter 18 = .ok (.ifCond .eq 7, 3) := by decide +kernel
theorem dX2_enter_21 : decode cX2_enter 21 = .ok (.iconst 1, 1) := by decide +kernel
theorem dX2_enter_22 : decode cX2_enter 22 = .ok (.goto 4, 3) := by decide +kernel
theorem dX2_enter_25 : decode cX2_enter 25 = .ok (.iconst 0, 1) := by decide +kernel
theorem dX2_enter_26 : decode cX2_enter 26 = .ok (.istore 4, 2) := by decide +kernel
theorem dX2_enter_28 : decode cX2_enter 28 = .ok (.aload_n 0, 1) := by decide +kernel
theorem dX2_enter_29 : decode cX2_enter 29 = .ok (.getfield 51, 3) := by decide +kernel
theorem dX2_enter_32 : decode cX2_enter 32 = .ok (.ifCond .le 17, 3) := by decide +kernel
theorem dX2_enter_35 : decode cX2_enter 35 = .ok (.aload_n 0, 1) := by decide +kernel
theorem dX2_enter_36 : decode cX2_enter 36 = .ok (.getfield 20, 3) := by decide +kernel
theorem dX2_enter_39 : decode cX2_enter 39 = .ok (.aload_n 0, 1) := by decide +kernel
theorem dX2_enter_40 : decode cX2_enter 40 = .ok (.getfield 51, 3) := by decide +kernel
theorem dX2_enter_43 : decode cX2_enter 43 = .ok (.iconst 1, 1) := by decide +kernel
theorem dX2_enter_44 : decode cX2_enter 44 = .ok (.isub, 1) := by decide +kernel
theorem dX2_enter_45 : decode cX2_enter 45 = .ok (.iaload, 1) := by decide +kernel
theorem dX2_enter_46 : decode cX2_enter 46 = .ok (.goto 4, 3) := by decide +kernel
theorem dX2_enter_49 : decode cX2_enter 49 = .ok (.iconst 0, 1) := by decide +kernel
theorem dX2_enter_50 : decode cX2_enter 50 = .ok (.istore 5, 2) := by decide +kernel
theorem dX2_enter_52 : decode cX2_enter 52 = .ok (.aload_n 0, 1) := by decide +kernel
theorem dX2_enter_53 : decode cX2_enter 53 = .ok (.getfield 16, 3) := by decide +kernel
theorem dX2_enter_56 : decode cX2_enter 56 = .ok (.aload_n 0, 1) := by decide +kernel
theorem dX2_enter_57 : decode cX2_enter 57 = .ok (.getfield 51, 3) := by decide +kernel
theorem dX2_enter_60 : decode cX2_enter 60 = .ok (.iload 4, 2) := by decide +kernel
theorem dX2_enter_62 : decode cX2_enter 62 = .ok (.ifCond .ne 14, 3) := by decide +kernel
theorem dX2_enter_65 : decode cX2_enter 65 = .ok (.iload_n 2, 1) := by decide +kernel
theorem dX2_enter_66 : decode cX2_enter 66 = .ok (.aload_n 0, 1) := by decide +kernel
theorem dX2_enter_67 : decode cX2_enter 67 = .ok (.iload_n 1, 1) := by decide +kernel
theorem dX2_enter_68 : decode cX2_enter 68 = .ok (.invokevirtual 54, 3) := by decide +kernel
theorem dX2_enter_71 : decode cX2_enter 71 = .ok (.iadd, 1) := by decide +kernel
theorem dX2_enter_72 : decode cX2_enter 72 = .ok (.iload_n 3, 1) := by decide +kernel
theorem dX2_enter_73 : decode cX2_enter 73 = .ok (.if_icmp .gt 7, 3) := by decide +kernel
theorem dX2_enter_76 : decode cX2_enter 76 = .ok (.iconst 1, 1) := by decide +kernel
theorem dX2_enter_77 : decode cX2_enter 77 = .ok (.goto 4, 3) := by decide +kernel
theorem dX2_enter_80 : decode cX2_enter 80 = .ok (.iconst 0, 1) := by decide +kernel
theorem dX2_enter_81 : decode cX2_enter 81 = .ok (.bastore, 1) := by decide +kernel
theorem dX2_enter_82 : decode cX2_enter 82 = .ok (.aload_n 0, 1) := by decide +kernel
theorem dX2_enter_83 : decode cX2_enter 83 = .ok (.getfield 20, 3) := by decide +kernel
theorem dX2_enter_86 : decode cX2_enter 86 = .ok (.aload_n 0, 1) := by decide +kernel
theorem dX2_enter_87 : decode cX2_enter 87 = .ok (.getfield 51, 3) := by decide +kernel
theorem dX2_enter_90 : decode cX2_enter 90 = .ok (.iload 5, 2) := by decide +kernel
theorem dX2_enter_92 : decode cX2_enter 92 = .ok (.aload_n 0, 1) := by decide +kernel
theorem dX2_enter_93 : decode cX2_enter 93 = .ok (.getfield 13, 3) := by decide +kernel
theorem dX2_enter_96 : decode cX2_enter 96 = .ok (.iload_n 1, 1) := by decide +kernel
theorem dX2_enter_97 : decode cX2_enter 97 = .ok (.iaload, 1) := by decide +kernel
theorem dX2_enter_98 : decode cX2_enter 98 = .ok (.iadd, 1) := by decide +kernel
theorem dX2_enter_99 : decode cX2_enter 99 = .ok (.iastore, 1) := by decide +kernel
theorem dX2_enter_100 : decode cX2_enter 100 = .ok (.aload_n 0, 1) := by decide +kernel
theorem dX2_enter_101 : decode cX2_enter 101 = .ok (.getfield 29, 3) := by decide +kernel
theorem dX2_enter_104 : decode cX2_enter 104 = .ok (.iload_n 1, 1) := by decide +kernel
theorem dX2_enter_105 : decode cX2_enter 105 = .ok (.aload_n 0, 1) := by decide +kernel
theorem dX2_enter_106 : decode cX2_enter 106 = .ok (.getfield 16, 3) := by decide +kernel
theorem dX2_enter_109 : decode cX2_enter 109 = .ok (.aload_n 0, 1) := by decide +kernel
theorem dX2_enter_110 : decode cX2_enter 110 = .ok (.getfield 51, 3) := by decide +kernel
theorem dX2_enter_113 : decode cX2_enter 113 = .ok (.baload, 1) := by decide +kernel
theorem dX2_enter_114 : decode cX2_enter 114 = .ok (.bastore, 1) := by decide +kernel
theorem dX2_enter_115 : decode cX2_enter 115 = .ok (.aload_n 0, 1) := by decide +kernel
theorem dX2_enter_116 : decode cX2_enter 116 = .ok (.dup, 1) := by decide +kernel
theorem dX2_enter_117 : decode cX2_enter 117 = .ok (.getfield 51, 3) := by decide +kernel
theorem dX2_enter_120 : decode cX2_enter 120 = .ok (.iconst 1, 1) := by decide +kernel
theorem dX2_enter_121 : decode cX2_enter 121 = .ok (.iadd, 1) := by decide +kernel
theorem dX2_enter_122 : decode cX2_enter 122 = .ok (.putfield 51, 3) := by decide +kernel
theorem dX2_enter_125 : decode cX2_enter 125 = .ok (.return_, 1) := by decide +kernel
theorem dX2_reach_0 : decode cX2_reach 0 = .ok (.iconst 0, 1) := by decide +kernel
theorem dX2_reach_1 : decode cX2_reach 1 = .ok (.istore_n 2, 1) := by decide +kernel
theorem dX2_reach_2 : decode cX2_reach 2 = .ok (.iconst 1, 1) := by decide +kernel
theorem dX2_reach_3 : decode cX2_reach 3 = .ok (.istore_n 3, 1) := by decide +kernel
theorem dX2_reach_4 : decode cX2_reach 4 = .ok (.iload_n 1, 1) := by decide +kernel
theorem dX2_reach_5 : decode cX2_reach 5 = .ok (.iconst 1, 1) := by decide +kernel
theorem dX2_reach_6 : decode cX2_reach 6 = .ok (.iadd, 1) := by decide +kernel
theorem dX2_reach_7 : decode cX2_reach 7 = .ok (.istore 4, 2) := by decide +kernel
theorem dX2_reach_9 : decode cX2_reach 9 = .ok (.iload 4, 2) := by decide +kernel
theorem dX2_reach_11 : decode cX2_reach 11 = .ok (.aload_n 0, 1) := by decide +kernel
theorem dX2_reach_12 : decode cX2_reach 12 = .ok (.getfield 36, 3) := by decide +kernel
theorem dX2_reach_15 : decode cX2_reach 15 = .ok (.if_icmp .ge 96, 3) := by decide +kernel
theorem dX2_reach_18 : decode cX2_reach 18 = .ok (.iload_n 3, 1) := by decide +kernel
theorem dX2_reach_19 : decode cX2_reach 19 = .ok (.ifCond .le 17, 3) := by decide +kernel
theorem dX2_reach_22 : decode cX2_reach 22 = .ok (.aload_n 0, 1) := by decide +kernel
theorem dX2_reach_23 : decode cX2_reach 23 = .ok (.getfield 7, 3) := by decide +kernel
theorem dX2_reach_26 : decode cX2_reach 26 = .ok (.iload 4, 2) := by decide +kernel
theorem dX2_reach_28 : decode cX2_reach 28 = .ok (.iaload, 1) := by decide +kernel
theorem dX2_reach_29 : decode cX2_reach 29 = .ok (.iconst 2, 1) := by decide +kernel
theorem dX2_reach_30 : decode cX2_reach 30 = .ok (.if_icmp .ne 6, 3) := by decide +kernel
theorem dX2_reach_33 : decode cX2_reach 33 = .ok (.iinc 3 1, 3) := by decide +kernel
theorem dX2_reach_36 : decode cX2_reach 36 = .ok (.iload_n 3, 1) := by decide +kernel
theorem dX2_reach_37 : decode cX2_reach 37 = .ok (.ifCond .le 17, 3) := by decide +kernel
theorem dX2_reach_40 : decode cX2_reach 40 = .ok (.aload_n 0, 1) := by decide +kernel
theorem dX2_reach_41 : decode cX2_reach 41 = .ok (.getfield 7, 3) := by decide +kernel
theorem dX2_reach_44 : decode cX2_reach 44 = .ok (.iload 4, 2) := by decide +kernel
theorem dX2_reach_46 : decode cX2_reach 46 = .ok (.iaload, 1) := by decide +kernel
theorem dX2_reach_47 : decode cX2_reach 47 = .ok (.iconst 3, 1) := by decide +kernel
theorem dX2_reach_48 : decode cX2_reach 48 = .ok (.if_icmp .ne 6, 3) := by decide +kernel
theorem dX2_reach_51 : decode cX2_reach 51 = .ok (.iinc 3 (-1), 3) := by decide +kernel
theorem dX2_reach_54 : decode cX2_reach 54 = .ok (.iload_n 3, 1) := by decide +kernel
theorem dX2_reach_55 : decode cX2_reach 55 = .ok (.ifCond .ne 16, 3) := by decide +kernel
theorem dX2_reach_58 : decode cX2_reach 58 = .ok (.aload_n 0, 1) := by decide +kernel
theorem dX2_reach_59 : decode cX2_reach 59 = .ok (.getfield 7, 3) := by decide +kernel
theorem dX2_reach_62 : decode cX2_reach 62 = .ok (.iload 4, 2) := by decide +kernel
theorem dX2_reach_64 : decode cX2_reach 64 = .ok (.iaload, 1) := by decide +kernel
theorem dX2_reach_65 : decode cX2_reach 65 = .ok (.iconst 1, 1) := by decide +kernel
theorem dX2_reach_66 : decode cX2_reach 66 = .ok (.if_icmp .ne 5, 3) := by decide +kernel
theorem dX2_reach_69 : decode cX2_reach 69 = .ok (.iload_n 2, 1) := by decide +kernel
theorem dX2_reach_70 : decode cX2_reach 70 = .ok (.ireturn, 1) := by decide +kernel
theorem dX2_reach_71 : decode cX2_reach 71 = .ok (.aload_n 0, 1) := by decide +kernel
theorem dX2_reach_72 : decode cX2_reach 72 = .ok (.getfield 7, 3) := by decide +kernel
theorem dX2_reach_75 : decode cX2_reach 75 = .ok (.iload 4, 2) := by decide +kernel
theorem dX2_reach_77 : decode cX2_reach 77 = .ok (.iaload, 1) := by decide +kernel
theorem dX2_reach_78 : decode cX2_reach 78 = .ok (.ifCond .ne 13, 3) := by decide +kernel
theorem dX2_reach_81 : decode cX2_reach 81 = .ok (.iload_n 2, 1) := by decide +kernel
theorem dX2_reach_82 : decode cX2_reach 82 = .ok (.aload_n 0, 1) := by decide +kernel
theorem dX2_reach_83 : decode cX2_reach 83 = .ok (.getfield 13, 3) := by decide +kernel
theorem dX2_reach_86 : decode cX2_reach 86 = .ok (.iload 4, 2) := by decide +kernel
theorem dX2_reach_88 : decode cX2_reach 88 = .ok (.iaload, 1) := by decide +kernel
theorem dX2_reach_89 : decode cX2_reach 89 = .ok (.iadd, 1) := by decide +kernel
theorem dX2_reach_90 : decode cX2_reach 90 = .ok (.istore_n 2, 1) := by decide +kernel
theorem dX2_reach_91 : decode cX2_reach 91 = .ok (.aload_n 0, 1) := by decide +kernel
theorem dX2_reach_92 : decode cX2_reach 92 = .ok (.getfield 7, 3) := by decide +kernel
theorem dX2_reach_95 : decode cX2_reach 95 = .ok (.iload 4, 2) := by decide +kernel
theorem dX2_reach_97 : decode cX2_reach 97 = .ok (.iaload, 1) := by decide +kernel
theorem dX2_reach_98 : decode cX2_reach 98 = .ok (.iconst 1, 1) := by decide +kernel
theorem dX2_reach_99 : decode cX2_reach 99 = .ok (.if_icmp .ne 6, 3) := by decide +kernel
theorem dX2_reach_102 : decode cX2_reach 102 = .ok (.iinc 2 1, 3) := by decide +kernel
theorem dX2_reach_105 : decode cX2_reach 105 = .ok (.iinc 4 1, 3) := by decide +kernel
theorem dX2_reach_108 : decode cX2_reach 108 = .ok (.goto (-99), 3) := by decide +kernel
theorem dX2_reach_111 : decode cX2_reach 111 = .ok (.iload_n 2, 1) := by decide +kernel
theorem dX2_reach_112 : decode cX2_reach 112 = .ok (.ireturn, 1) := by decide +kernel
theorem dX2_column_0 : decode cX2_column 0 = .ok (.aload_n 0, 1) := by decide +kernel
theorem dX2_column_1 : decode cX2_column 1 = .ok (.iload_n 1, 1) := by decide +kernel
theorem dX2_column_2 : decode cX2_column 2 = .ok (.invokevirtual 68, 3) := by decide +kernel
theorem dX2_column_5 : decode cX2_column 5 = .ok (.ifCond .eq 5, 3) := by decide +kernel
theorem dX2_column_8 : decode cX2_column 8 = .ok (.iconst (-1), 1) := by decide +kernel
theorem dX2_column_9 : decode cX2_column 9 = .ok (.ireturn, 1) := by decide +kernel
theorem dX2_column_10 : decode cX2_column 10 = .ok (.aload_n 0, 1) := by decide +kernel
theorem dX2_column_11 : decode cX2_column 11 = .ok (.aload_n 0, 1) := by decide +kernel
theorem dX2_column_12 : decode cX2_column 12 = .ok (.getfield 48, 3) := by decide +kernel
theorem dX2_column_15 : decode cX2_column 15 = .ok (.invokevirtual 72, 3) := by decide +kernel
theorem dX2_column_18 : decode cX2_column 18 = .ok (.aload_n 0, 1) := by decide +kernel
theorem dX2_column_19 : decode cX2_column 19 = .ok (.getfield 26, 3) := by decide +kernel
theorem dX2_column_22 : decode cX2_column 22 = .ok (.iload_n 1, 1) := by decide +kernel
theorem dX2_column_23 : decode cX2_column 23 = .ok (.iaload, 1) := by decide +kernel
theorem dX2_column_24 : decode cX2_column 24 = .ok (.ireturn, 1) := by decide +kernel
theorem dX2_flat_0 : decode cX2_flat 0 = .ok (.aload_n 0, 1) := by decide +kernel
theorem dX2_flat_1 : decode cX2_flat 1 = .ok (.iload_n 1, 1) := by decide +kernel
theorem dX2_flat_2 : decode cX2_flat 2 = .ok (.invokevirtual 68, 3) := by decide +kernel
theorem dX2_flat_5 : decode cX2_flat 5 = .ok (.ifCond .ne 13, 3) := by decide +kernel
theorem dX2_flat_8 : decode cX2_flat 8 = .ok (.aload_n 0, 1) := by decide +kernel
theorem dX2_flat_9 : decode cX2_flat 9 = .ok (.getfield 7, 3) := by decide +kernel
theorem dX2_flat_12 : decode cX2_flat 12 = .ok (.iload_n 1, 1) := by decide +kernel
theorem dX2_flat_13 : decode cX2_flat 13 = .ok (.iaload, 1) := by decide +kernel
theorem dX2_flat_14 : decode cX2_flat 14 = .ok (.iconst 2, 1) := by decide +kernel
theorem dX2_flat_15 : decode cX2_flat 15 = .ok (.if_icmp .eq 5, 3) := by decide +kernel
theorem dX2_flat_18 : decode cX2_flat 18 = .ok (.iconst (-1), 1) := by decide +kernel
theorem dX2_flat_19 : decode cX2_flat 19 = .ok (.ireturn, 1) := by decide +kernel
theorem dX2_flat_20 : decode cX2_flat 20 = .ok (.aload_n 0, 1) := by decide +kernel
theorem dX2_flat_21 : decode cX2_flat 21 = .ok (.aload_n 0, 1) := by decide +kernel
theorem dX2_flat_22 : decode cX2_flat 22 = .ok (.getfield 48, 3) := by decide +kernel
theorem dX2_flat_25 : decode cX2_flat 25 = .ok (.invokevirtual 72, 3) := by decide +kernel
theorem dX2_flat_28 : decode cX2_flat 28 = .ok (.aload_n 0, 1) := by decide +kernel
theorem dX2_flat_29 : decode cX2_flat 29 = .ok (.getfield 29, 3) := by decide +kernel
theorem dX2_flat_32 : decode cX2_flat 32 = .ok (.iload_n 1, 1) := by decide +kernel
theorem dX2_flat_33 : decode cX2_flat 33 = .ok (.baload, 1) := by decide +kernel
theorem dX2_flat_34 : decode cX2_flat 34 = .ok (.ifCond .eq 7, 3) := by decide +kernel
theorem dX2_flat_37 : decode cX2_flat 37 = .ok (.iconst 1, 1) := by decide +kernel
theorem dX2_flat_38 : decode cX2_flat 38 = .ok (.goto 4, 3) := by decide +kernel
theorem dX2_flat_41 : decode cX2_flat 41 = .ok (.iconst 0, 1) := by decide +kernel
theorem dX2_flat_42 : decode cX2_flat 42 = .ok (.ireturn, 1) := by decide +kernel
theorem dX2_rows_0 : decode cX2_rows 0 = .ok (.aload_n 0, 1) := by decide +kernel
theorem dX2_rows_1 : decode cX2_rows 1 = .ok (.aload_n 0, 1) := by decide +kernel
theorem dX2_rows_2 : decode cX2_rows 2 = .ok (.getfield 48, 3) := by decide +kernel
theorem dX2_rows_5 : decode cX2_rows 5 = .ok (.invokevirtual 72, 3) := by decide +kernel
theorem dX2_rows_8 : decode cX2_rows 8 = .ok (.aload_n 0, 1) := by decide +kernel
theorem dX2_rows_9 : decode cX2_rows 9 = .ok (.getfield 58, 3) := by decide +kernel
theorem dX2_rows_12 : decode cX2_rows 12 = .ok (.iconst 1, 1) := by decide +kernel
theorem dX2_rows_13 : decode cX2_rows 13 = .ok (.iadd, 1) := by decide +kernel
theorem dX2_rows_14 : decode cX2_rows 14 = .ok (.ireturn, 1) := by decide +kernel
theorem dX2_widest_0 : decode cX2_widest 0 = .ok (.aload_n 0, 1) := by decide +kernel
theorem dX2_widest_1 : decode cX2_widest 1 = .ok (.aload_n 0, 1) := by decide +kernel
theorem dX2_widest_2 : decode cX2_widest 2 = .ok (.getfield 48, 3) := by decide +kernel
theorem dX2_widest_5 : decode cX2_widest 5 = .ok (.invokevirtual 72, 3) := by decide +kernel
theorem dX2_widest_8 : decode cX2_widest 8 = .ok (.aload_n 0, 1) := by decide +kernel
theorem dX2_widest_9 : decode cX2_widest 9 = .ok (.getfield 61, 3) := by decide +kernel
theorem dX2_widest_12 : decode cX2_widest 12 = .ok (.ireturn, 1) := by decide +kernel
theorem dX2_leastWidth_0 : decode cX2_leastWidth 0 = .ok (.iconst 1, 1) := by decide +kernel
theorem dX2_leastWidth_1 : decode cX2_leastWidth 1 = .ok (.istore_n 2, 1) := by decide +kernel
theorem dX2_leastWidth_2 : decode cX2_leastWidth 2 = .ok (.iload_n 2, 1) := by decide +kernel
theorem dX2_leastWidth_3 : decode cX2_leastWidth 3 = .ok (.bipush 100, 2) := by decide +kernel
theorem dX2_leastWidth_5 : decode cX2_leastWidth 5 = .ok (.if_icmp .gt 26, 3) := by decide +kernel
theorem dX2_leastWidth_8 : decode cX2_leastWidth 8 = .ok (.aload_n 0, 1) := by decide +kernel
theorem dX2_leastWidth_9 : decode cX2_leastWidth 9 = .ok (.iload_n 2, 1) := by decide +kernel
theorem dX2_leastWidth_10 : decode cX2_leastWidth 10 = .ok (.invokevirtual 72, 3) := by decide +kernel
theorem dX2_leastWidth_13 : decode cX2_leastWidth 13 = .ok (.aload_n 0, 1) := by decide +kernel
theorem dX2_leastWidth_14 : decode cX2_leastWidth 14 = .ok (.getfield 58, 3) := by decide +kernel
theorem dX2_leastWidth_17 : decode cX2_leastWidth 17 = .ok (.iconst 1, 1) := by decide +kernel
theorem dX2_leastWidth_18 : decode cX2_leastWidth 18 = .ok (.iadd, 1) := by decide +kernel
theorem dX2_leastWidth_19 : decode cX2_leastWidth 19 = .ok (.iload_n 1, 1) := by decide +kernel
theorem dX2_leastWidth_20 : decode cX2_leastWidth 20 = .ok (.if_icmp .gt 5, 3) := by decide +kernel
theorem dX2_leastWidth_23 : decode cX2_leastWidth 23 = .ok (.iload_n 2, 1) := by decide +kernel
theorem dX2_leastWidth_24 : decode cX2_leastWidth 24 = .ok (.ireturn, 1) := by decide +kernel
theorem dX2_leastWidth_25 : decode cX2_leastWidth 25 = .ok (.iinc 2 1, 3) := by decide +kernel
theorem dX2_leastWidth_28 : decode cX2_leastWidth 28 = .ok (.goto (-26), 3) := by decide +kernel
theorem dX2_leastWidth_31 : decode cX2_leastWidth 31 = .ok (.bipush 101, 2) := by decide +kernel
theorem dX2_leastWidth_33 : decode cX2_leastWidth 33 = .ok (.ireturn, 1) := by decide +kernel
end
section
/-! THE PURE PICTURE: pieces 0 .. n-1 of the sorts 'so' (0 word, 1 break, 2 open, 3 close) with the arguments 'a'; depth, lengths, how far a group reaches, the layout. No program here. -/
/-- how many groups are open ahead of piece i -/
def ps_dp (so : Nat → Int32) : Nat → Nat
  | 0 => 0
  | i + 1 => if so i = 2 then ps_dp so i + 1 else if so i = 3 then ps_dp so i - 1 else ps_dp so i
/-- the length of piece i when it is set flat -/
def ps_ln (so a : Nat → Int32) (i : Nat) : Int32 := if so i = 0 then a i else if so i = 1 then 1 else 0
def ps_tt (so a : Nat → Int32) : Nat → Int32
  | 0 => 0
  | i + 1 => ps_tt so a i + ps_ln so a i
def ps_st (x : Int32) (L : Nat) : Option Nat := if x = 2 then some (if L = 0 then 0 else L + 1) else if x = 3 then some (L - 1) else if x = 1 then (if L = 0 then none else some L) else some L
/-- the level of the group that opens at p, ahead of piece i: none when its reach is settled -/
def ps_gl (so : Nat → Int32) (p : Nat) : Nat → Option Nat
  | 0 => some 1
  | i + 1 => if i ≤ p then some 1 else (ps_gl so p i).bind (ps_st (so i))
/-- the reach of the group that opens at p, as far as piece i -/
def ps_gr (so a : Nat → Int32) (p : Nat) : Nat → Int32
  | 0 => 0
  | i + 1 => if i ≤ p then 0 else if ps_gl so p (i + 1) = none then ps_gr so a p i else ps_gr so a p i + ps_ln so a i
/-- the pieces are well formed -/
def ps_ok (n : Nat) (so : Nat → Int32) : Prop := n ≤ 60 ∧ (∀ i, i < n → so i = 0 ∨ so i = 1 ∨ so i = 2 ∨ so i = 3) ∧ (∀ i, i < n → so i = 3 → 0 < ps_dp so i) ∧ (∀ i, i ≤ n → ps_dp so i ≤ 12)
theorem ps_dp_s2 {so : Nat → Int32} {i : Nat} (h : so i = 2) : ps_dp so (i + 1) = ps_dp so i + 1 := by simp [ps_dp, h]
theorem ps_dp_s3 {so : Nat → Int32} {i : Nat} (h : so i = 3) : ps_dp so (i + 1) = ps_dp so i - 1 := by simp [ps_dp, h]
theorem ps_dp_s0 {so : Nat → Int32} {i : Nat} (h : so i = 0) : ps_dp so (i + 1) = ps_dp so i := by simp [ps_dp, h]
theorem ps_dp_s1 {so : Nat → Int32} {i : Nat} (h : so i = 1) : ps_dp so (i + 1) = ps_dp so i := by simp [ps_dp, h]
theorem ps_dp_le (so : Nat → Int32) : ∀ i, ps_dp so i ≤ i
  | 0 => Nat.le_refl 0
  | i + 1 => by
    have h := ps_dp_le so i
    unfold ps_dp
    split
    · omega
    · split <;> omega
theorem ps_dp_upd (so : Nat → Int32) (n : Nat) (x : Int32) : ∀ i, i ≤ n → ps_dp (upd so n x) i = ps_dp so i
  | 0, _ => rfl
  | i + 1, h => by
    have h1 := ps_dp_upd so n x i (by omega)
    have h2 : upd so n x i = so i := pk_un (by omega)
    simp only [ps_dp, h1, h2]
theorem ps_ok_0 (so : Nat → Int32) : ps_ok 0 so := ⟨by omega, fun i h => absurd h (Nat.not_lt_zero i), fun i h => absurd h (Nat.not_lt_zero i), fun i h => by rw [Nat.le_zero.mp h]; exact Nat.zero_le 12⟩
theorem ps_ok_add {n : Nat} {so : Nat → Int32} {x : Int32} (h : ps_ok n so) (hn : n < 60) (hx : x = 0 ∨ x = 1 ∨ x = 2 ∨ x = 3) (h3 : x = 3 → 0 < ps_dp so n) (h2 : x = 2 → ps_dp so n < 12) : ps_ok (n + 1) (upd so n x) := by
  obtain ⟨-, k2, k3, k4⟩ := h
  refine ⟨by omega, fun i hi => ?_, fun i hi => ?_, fun i hi => ?_⟩
  · by_cases e : i = n
    · rw [e, pk_us]; exact hx
    · rw [pk_un e]; exact k2 i (by omega)
  · by_cases e : i = n
    · rw [e, pk_us, ps_dp_upd so n x n (Nat.le_refl n)]; exact h3
    · rw [pk_un e, ps_dp_upd so n x i (by omega)]; exact k3 i (by omega)
  · by_cases e : i = n + 1
    · subst e
      have h12 := k4 n (Nat.le_refl n)
      have e1 := ps_dp_upd so n x n (Nat.le_refl n)
      have e2 : upd so n x n = x := pk_us
      rcases hx with hx | hx | hx | hx
      · rw [ps_dp_s0 (e2.trans hx), e1]; omega
      · rw [ps_dp_s1 (e2.trans hx), e1]; omega
      · rw [ps_dp_s2 (e2.trans hx), e1]; have := h2 hx; omega
      · rw [ps_dp_s3 (e2.trans hx), e1]; omega
    · rw [ps_dp_upd so n x i (by omega)]; exact k4 i (by omega)
theorem ps_dp_add (so : Nat → Int32) (n : Nat) (x : Int32) : ps_dp (upd so n x) (n + 1) = if x = 2 then ps_dp so n + 1 else if x = 3 then ps_dp so n - 1 else ps_dp so n := by
  have e1 := ps_dp_upd so n x n (Nat.le_refl n)
  have e2 : upd so n x n = x := pk_us
  simp only [ps_dp, e1, e2]
/-! how far a group reaches -/
theorem ps_gl_new (so : Nat → Int32) (p : Nat) : ps_gl so p (p + 1) = some 1 := by simp [ps_gl]
theorem ps_gl_step (so : Nat → Int32) {p i : Nat} (h : p < i) : ps_gl so p (i + 1) = (ps_gl so p i).bind (ps_st (so i)) := by
  have h1 : ¬ i ≤ p := by omega
  simp only [ps_gl, h1, if_false]
theorem ps_gl_some {so : Nat → Int32} {p i L : Nat} (h : p < i) (e : ps_gl so p i = some L) : ps_gl so p (i + 1) = ps_st (so i) L := by
  rw [ps_gl_step so h, e]; rfl
theorem ps_gr_new (so a : Nat → Int32) (p : Nat) : ps_gr so a p (p + 1) = 0 := by simp [ps_gr]
theorem ps_gr_none {so a : Nat → Int32} {p i : Nat} (h : p < i) (e : ps_gl so p (i + 1) = none) : ps_gr so a p (i + 1) = ps_gr so a p i := by
  have h1 : ¬ i ≤ p := by omega
  simp only [ps_gr, h1, if_false, e, if_true]
theorem ps_gr_some {so a : Nat → Int32} {p i L : Nat} (h : p < i) (e : ps_gl so p (i + 1) = some L) : ps_gr so a p (i + 1) = ps_gr so a p i + ps_ln so a i := by
  have h1 : ¬ i ≤ p := by omega
  simp only [ps_gr, h1, if_false, e]
  simp
theorem ps_st_le {x : Int32} {L M : Nat} (h : ps_st x L = some M) : M ≤ L + 1 := by
  unfold ps_st at h
  split at h
  · injection h with h
    split at h <;> omega
  · split at h
    · injection h with h; omega
    · split at h
      · split at h
        · cases h
        · injection h with h; omega
      · injection h with h; omega
theorem ps_gl_le (so : Nat → Int32) (p : Nat) : ∀ i L, p < i → ps_gl so p i = some L → L ≤ i
  | 0, L, h, _ => by omega
  | i + 1, L, h, e => by
    by_cases hp : i = p
    · subst hp
      rw [ps_gl_new] at e
      injection e with e
      omega
    · have hi : p < i := by omega
      rw [ps_gl_step so hi] at e
      cases h1 : ps_gl so p i with
      | none => rw [h1] at e; cases e
      | some M =>
        rw [h1] at e
        have h2 := ps_gl_le so p i M hi h1
        have h3 := ps_st_le (show ps_st (so i) M = some L from e)
        omega
theorem ps_gr_run (so a : Nat → Int32) (p : Nat) (hp : so p = 2) : ∀ i L, p < i → ps_gl so p i = some L → ps_gr so a p i = ps_tt so a i - ps_tt so a p
  | 0, L, h, _ => by omega
  | i + 1, L, h, e => by
    by_cases hip : i = p
    · subst hip
      have h1 : ps_ln so a i = 0 := by simp [ps_ln, hp]
      rw [ps_gr_new, ps_tt, h1]
      grind
    · have hi : p < i := by omega
      have e0 := e
      rw [ps_gl_step so hi] at e
      cases h1 : ps_gl so p i with
      | none => rw [h1] at e; cases e
      | some M =>
        have h2 := ps_gr_run so a p hp i M hi h1
        rw [ps_gr_some hi e0, h2, ps_tt]
        grind
theorem ps_gl_stay (so : Nat → Int32) (a : Nat → Int32) {p i : Nat} (hp : p < i) (e : ps_gl so p i = none) : ∀ k, ps_gl so p (i + k) = none ∧ ps_gr so a p (i + k) = ps_gr so a p i
  | 0 => ⟨e, rfl⟩
  | k + 1 => by
    obtain ⟨h1, h2⟩ := ps_gl_stay so a hp e k
    have h3 : ps_gl so p (i + k + 1) = none := by rw [ps_gl_step so (by omega), h1]; rfl
    exact ⟨h3, by rw [show i + (k + 1) = i + k + 1 by omega, ps_gr_none (by omega) h3, h2]⟩
theorem ps_gr_end {so a : Nat → Int32} {p i n : Nat} (hp : p < i) (hn : i ≤ n) (e : ps_gl so p i = none) : ps_gr so a p n = ps_gr so a p i := by
  have h := (ps_gl_stay so a hp e (n - i)).2
  rw [show i + (n - i) = n by omega] at h
  exact h
theorem ps_nI {p q : Nat} (hp : p < 60) (hq : q < 60) (h : nI p = nI q) : p = q := (nI_eq (by omega) (by omega)).mp h
/-! settling: for the groups that stand in wa 0 .. wa (k-1) the reach is tt - st, for all others as before -/
def ps_SL (wa : Nat → Int32) (k : Nat) (tt : Int32) (st re re' : Nat → Int32) : Prop := (∀ p, p < 60 → (∃ j, j < k ∧ wa j = nI p) → re' p = tt - st p) ∧ (∀ p, p < 60 → (∀ j, j < k → wa j ≠ nI p) → re' p = re p)
theorem ps_SL_0 {wa : Nat → Int32} {tt : Int32} {st re : Nat → Int32} : ps_SL wa 0 tt st re re := ⟨fun _ _ ⟨j, h, _⟩ => absurd h (Nat.not_lt_zero j), fun _ _ _ => rfl⟩
theorem ps_SL_s {wa : Nat → Int32} {k : Nat} {tt : Int32} {st re re' : Nat → Int32} (h : ps_SL wa k tt st re re') {q : Nat} (hq : q < 60) (e : wa k = nI q) : ps_SL wa (k + 1) tt st re (upd re' q (tt - st q)) := by
  refine ⟨fun p hp ⟨j, hj, ej⟩ => ?_, fun p hp hn => ?_⟩
  · by_cases hpq : p = q
    · rw [hpq, pk_us]
    · rw [pk_un hpq]
      refine h.1 p hp ⟨j, ?_, ej⟩
      by_cases hjk : j = k
      · rw [hjk, e] at ej
        exact absurd (ps_nI hq hp ej).symm hpq
      · omega
  · have hpq : p ≠ q := fun z => hn k (by omega) (by rw [z]; exact e)
    rw [pk_un hpq]
    exact h.2 p hp (fun j hj => hn j (by omega))
/-! the measuring pass, ahead of piece i: d groups without a close on the stack, k groups with a close but no break behind it in a row -/
def ps_MI (so a : Nat → Int32) (i d k : Nat) (st sk wa re : Nat → Int32) : Prop :=
  d = ps_dp so i ∧ k ≤ i ∧ (∀ p, p < i → so p = 2 → st p = ps_tt so a p) ∧ (∀ j, j < d → ∃ p, p < i ∧ sk j = nI p ∧ so p = 2 ∧ ps_gl so p i = some (d - j)) ∧ (∀ j, j < k → ∃ p, p < i ∧ wa j = nI p ∧ so p = 2 ∧ ps_gl so p i = some 0) ∧ (∀ p, p < i → so p = 2 → (∃ j, j < d ∧ sk j = nI p) ∨ (∃ j, j < k ∧ wa j = nI p) ∨ (ps_gl so p i = none ∧ re p = ps_gr so a p i))
theorem ps_MI_0 (so a st sk wa re : Nat → Int32) : ps_MI so a 0 0 0 st sk wa re := ⟨rfl, Nat.le_refl 0, fun p h => absurd h (Nat.not_lt_zero p), fun p h => absurd h (Nat.not_lt_zero p), fun p h => absurd h (Nat.not_lt_zero p), fun p h => absurd h (Nat.not_lt_zero p)⟩
theorem ps_MI_open {so a : Nat → Int32} {i d k : Nat} {st sk wa re : Nat → Int32} (h : ps_MI so a i d k st sk wa re) (hs : so i = 2) : ps_MI so a (i + 1) (d + 1) k (upd st i (ps_tt so a i)) (upd sk d (nI i)) wa re := by
  obtain ⟨h1, h2, h3, h4, h5, h6⟩ := h
  have hst : ∀ L, ps_st (so i) L = some (if L = 0 then 0 else L + 1) := fun L => by simp [ps_st, hs]
  refine ⟨by rw [ps_dp_s2 hs, h1], by omega, fun p hp e => ?_, fun j hj => ?_, fun j hj => ?_, fun p hp e => ?_⟩
  · by_cases q : p = i
    · rw [q, pk_us]
    · rw [pk_un q]; exact h3 p (by omega) e
  · by_cases q : j = d
    · refine ⟨i, by omega, by rw [q, pk_us], hs, ?_⟩
      rw [ps_gl_new, q, show d + 1 - d = 1 by omega]
    · obtain ⟨p, g1, g2, g3, g4⟩ := h4 j (by omega)
      refine ⟨p, by omega, by rw [pk_un q]; exact g2, g3, ?_⟩
      rw [ps_gl_some g1 g4, hst, if_neg (by omega), show d - j + 1 = d + 1 - j by omega]
  · obtain ⟨p, g1, g2, g3, g4⟩ := h5 j hj
    refine ⟨p, by omega, g2, g3, ?_⟩
    rw [ps_gl_some g1 g4, hst, if_pos rfl]
  · by_cases q : p = i
    · exact Or.inl ⟨d, by omega, by rw [q, pk_us]⟩
    · rcases h6 p (by omega) e with ⟨j, g1, g2⟩ | ⟨j, g1, g2⟩ | ⟨g1, g2⟩
      · exact Or.inl ⟨j, by omega, by rw [pk_un (by omega)]; exact g2⟩
      · exact Or.inr (Or.inl ⟨j, g1, g2⟩)
      · have g3 : ps_gl so p (i + 1) = none := by rw [ps_gl_step so (by omega), g1]; rfl
        exact Or.inr (Or.inr ⟨g3, by rw [g2, ps_gr_none (by omega) g3]⟩)
theorem ps_MI_close {so a : Nat → Int32} {i d k : Nat} {st sk wa re : Nat → Int32} (h : ps_MI so a i d k st sk wa re) (hs : so i = 3) (hd : 0 < d) : ps_MI so a (i + 1) (d - 1) (k + 1) st sk (upd wa k (sk (d - 1))) re := by
  obtain ⟨h1, h2, h3, h4, h5, h6⟩ := h
  have hst : ∀ L, ps_st (so i) L = some (L - 1) := fun L => by simp [ps_st, hs]
  have ne : ∀ p, so p = 2 → p < i + 1 → p < i := fun p e hp => by
    by_cases q : p = i
    · rw [q, hs] at e; exact absurd e (by decide)
    · omega
  refine ⟨by rw [ps_dp_s3 hs, h1], by omega, fun p hp e => h3 p (ne p e hp) e, fun j hj => ?_, fun j hj => ?_, fun p hp e => ?_⟩
  · obtain ⟨p, g1, g2, g3, g4⟩ := h4 j (by omega)
    refine ⟨p, by omega, g2, g3, ?_⟩
    rw [ps_gl_some g1 g4, hst, show d - j - 1 = d - 1 - j by omega]
  · by_cases q : j = k
    · obtain ⟨p, g1, g2, g3, g4⟩ := h4 (d - 1) (by omega)
      refine ⟨p, by omega, by rw [q, pk_us]; exact g2, g3, ?_⟩
      rw [ps_gl_some g1 g4, hst, show d - (d - 1) - 1 = 0 by omega]
    · obtain ⟨p, g1, g2, g3, g4⟩ := h5 j (by omega)
      refine ⟨p, by omega, by rw [pk_un q]; exact g2, g3, ?_⟩
      rw [ps_gl_some g1 g4, hst]
  · have hp' := ne p e hp
    rcases h6 p hp' e with ⟨j, g1, g2⟩ | ⟨j, g1, g2⟩ | ⟨g1, g2⟩
    · by_cases q : j = d - 1
      · exact Or.inr (Or.inl ⟨k, by omega, by rw [pk_us, ← q]; exact g2⟩)
      · exact Or.inl ⟨j, by omega, g2⟩
    · exact Or.inr (Or.inl ⟨j, by omega, by rw [pk_un (by omega)]; exact g2⟩)
    · have g3 : ps_gl so p (i + 1) = none := by rw [ps_gl_step so hp', g1]; rfl
      exact Or.inr (Or.inr ⟨g3, by rw [g2, ps_gr_none hp' g3]⟩)
theorem ps_MI_word {so a : Nat → Int32} {i d k : Nat} {st sk wa re : Nat → Int32} (h : ps_MI so a i d k st sk wa re) (hs : so i = 0) : ps_MI so a (i + 1) d k st sk wa re := by
  obtain ⟨h1, h2, h3, h4, h5, h6⟩ := h
  have hst : ∀ L, ps_st (so i) L = some L := fun L => by simp [ps_st, hs]
  have ne : ∀ p, so p = 2 → p < i + 1 → p < i := fun p e hp => by
    by_cases q : p = i
    · rw [q, hs] at e; exact absurd e (by decide)
    · omega
  refine ⟨by rw [ps_dp_s0 hs, h1], by omega, fun p hp e => h3 p (ne p e hp) e, fun j hj => ?_, fun j hj => ?_, fun p hp e => ?_⟩
  · obtain ⟨p, g1, g2, g3, g4⟩ := h4 j hj
    exact ⟨p, by omega, g2, g3, by rw [ps_gl_some g1 g4, hst]⟩
  · obtain ⟨p, g1, g2, g3, g4⟩ := h5 j hj
    exact ⟨p, by omega, g2, g3, by rw [ps_gl_some g1 g4, hst]⟩
  · have hp' := ne p e hp
    rcases h6 p hp' e with g | g | ⟨g1, g2⟩
    · exact Or.inl g
    · exact Or.inr (Or.inl g)
    · have g3 : ps_gl so p (i + 1) = none := by rw [ps_gl_step so hp', g1]; rfl
      exact Or.inr (Or.inr ⟨g3, by rw [g2, ps_gr_none hp' g3]⟩)
theorem ps_MI_break {so a : Nat → Int32} {i d k : Nat} {st sk wa re re' : Nat → Int32} (h : ps_MI so a i d k st sk wa re) (hs : so i = 1) (hi : i < 60) (hS : ps_SL wa k (ps_tt so a i) st re re') : ps_MI so a (i + 1) d 0 st sk wa re' := by
  obtain ⟨h1, h2, h3, h4, h5, h6⟩ := h
  have hst : ∀ L, ps_st (so i) L = if L = 0 then none else some L := fun L => by simp [ps_st, hs]
  have ne : ∀ p, so p = 2 → p < i + 1 → p < i := fun p e hp => by
    by_cases q : p = i
    · rw [q, hs] at e; exact absurd e (by decide)
    · omega
  refine ⟨by rw [ps_dp_s1 hs, h1], by omega, fun p hp e => h3 p (ne p e hp) e, fun j hj => ?_, fun j hj => absurd hj (Nat.not_lt_zero j), fun p hp e => ?_⟩
  · obtain ⟨p, g1, g2, g3, g4⟩ := h4 j hj
    exact ⟨p, by omega, g2, g3, by rw [ps_gl_some g1 g4, hst, if_neg (by omega)]⟩
  · have hp' := ne p e hp
    by_cases hw : ∃ j, j < k ∧ wa j = nI p
    · obtain ⟨j, g1, g2⟩ := hw
      obtain ⟨p', f1, f2, f3, f4⟩ := h5 j g1
      have hpp : p' = p := ps_nI (by omega) (by omega) (f2.symm.trans g2)
      subst hpp
      have g3 : ps_gl so p' (i + 1) = none := by rw [ps_gl_some f1 f4, hst, if_pos rfl]
      refine Or.inr (Or.inr ⟨g3, ?_⟩)
      rw [hS.1 p' (by omega) ⟨j, g1, g2⟩, ps_gr_none hp' g3, ps_gr_run so a p' e i 0 hp' f4, h3 p' hp' e]
    · have hk : re' p = re p := hS.2 p (by omega) (fun j hj z => hw ⟨j, hj, z⟩)
      rcases h6 p hp' e with g | g | ⟨g1, g2⟩
      · exact Or.inl g
      · exact absurd g hw
      · have g3 : ps_gl so p (i + 1) = none := by rw [ps_gl_step so hp', g1]; rfl
        exact Or.inr (Or.inr ⟨g3, by rw [hk, g2, ps_gr_none hp' g3]⟩)
theorem ps_MI_end {so a : Nat → Int32} {n d k : Nat} {st sk wa re re1 re2 : Nat → Int32} (h : ps_MI so a n d k st sk wa re) (hn : n ≤ 60) (hS : ps_SL wa k (ps_tt so a n) st re re1) (hT : ps_SL sk d (ps_tt so a n) st re1 re2) : ∀ p, p < n → so p = 2 → re2 p = ps_gr so a p n := by
  obtain ⟨h1, h2, h3, h4, h5, h6⟩ := h
  intro p hp e
  by_cases ht : ∃ j, j < d ∧ sk j = nI p
  · obtain ⟨j, g1, g2⟩ := ht
    obtain ⟨p', f1, f2, f3, f4⟩ := h4 j g1
    have hpp : p' = p := ps_nI (by omega) (by omega) (f2.symm.trans g2)
    subst hpp
    rw [hT.1 p' (by omega) ⟨j, g1, g2⟩, ps_gr_run so a p' e n _ hp f4, h3 p' hp e]
  · rw [hT.2 p (by omega) (fun j hj z => ht ⟨j, hj, z⟩)]
    by_cases hw : ∃ j, j < k ∧ wa j = nI p
    · obtain ⟨j, g1, g2⟩ := hw
      obtain ⟨p', f1, f2, f3, f4⟩ := h5 j g1
      have hpp : p' = p := ps_nI (by omega) (by omega) (f2.symm.trans g2)
      subst hpp
      rw [hS.1 p' (by omega) ⟨j, g1, g2⟩, ps_gr_run so a p' e n _ hp f4, h3 p' hp e]
    · rw [hS.2 p (by omega) (fun j hj z => hw ⟨j, hj, z⟩)]
      rcases h6 p hp e with g | g | ⟨-, g2⟩
      · exact absurd g ht
      · exact absurd g hw
      · exact g2
end
section
/-! THE LAYOUT, pure: row, column, greatest column, and of the groups that a piece is inside whether they are flat and their margins -/
def ps_tp (d : Nat) (F : Nat → Int32) : Int32 := if d = 0 then 0 else F (d - 1)
abbrev ps_L : Type := Int32 × Int32 × Int32 × (Nat → Int32) × (Nat → Int32)
/-- the flag of a group: flat within a flat one, or its reach fits -/
def ps_en (d : Nat) (F : Nat → Int32) (col g w : Int32) : Int32 := if ps_tp d F ≠ 0 ∨ col + g ≤ w then 1 else 0
def ps_cl (so a : Nat → Int32) (i : Nat) (t : ps_L) : Int32 := if so i = 0 then t.2.1 + a i else if so i = 1 then (if ps_tp (ps_dp so i) t.2.2.2.1 = 0 then ps_tp (ps_dp so i) t.2.2.2.2 else t.2.1 + 1) else t.2.1
def ps_rw (so : Nat → Int32) (i : Nat) (t : ps_L) : Int32 := if so i = 1 ∧ ps_tp (ps_dp so i) t.2.2.2.1 = 0 then t.1 + 1 else t.1
def ps_fg (so a : Nat → Int32) (n : Nat) (w : Int32) (i : Nat) (t : ps_L) : Int32 := ps_en (ps_dp so i) t.2.2.2.1 t.2.1 (ps_gr so a i n) w
def ps_mx (g c : Int32) : Int32 := if g < c then c else g
def ps_ly (so a : Nat → Int32) (n : Nat) (w : Int32) : Nat → ps_L
  | 0 => (0, 0, 0, fun _ => 0, fun _ => 0)
  | i + 1 => (ps_rw so i (ps_ly so a n w i), ps_cl so a i (ps_ly so a n w i), ps_mx (ps_ly so a n w i).2.2.1 (ps_cl so a i (ps_ly so a n w i)),
      if so i = 2 then upd (ps_ly so a n w i).2.2.2.1 (ps_dp so i) (ps_fg so a n w i (ps_ly so a n w i)) else (ps_ly so a n w i).2.2.2.1,
      if so i = 2 then upd (ps_ly so a n w i).2.2.2.2 (ps_dp so i) (ps_tp (ps_dp so i) (ps_ly so a n w i).2.2.2.2 + a i) else (ps_ly so a n w i).2.2.2.2)
def ps_R (so a : Nat → Int32) (n : Nat) (w : Int32) (i : Nat) : Int32 := (ps_ly so a n w i).1
def ps_C (so a : Nat → Int32) (n : Nat) (w : Int32) (i : Nat) : Int32 := (ps_ly so a n w i).2.1
def ps_G (so a : Nat → Int32) (n : Nat) (w : Int32) (i : Nat) : Int32 := (ps_ly so a n w i).2.2.1
def ps_F (so a : Nat → Int32) (n : Nat) (w : Int32) (i : Nat) : Nat → Int32 := (ps_ly so a n w i).2.2.2.1
def ps_M (so a : Nat → Int32) (n : Nat) (w : Int32) (i : Nat) : Nat → Int32 := (ps_ly so a n w i).2.2.2.2
/-- the flag of the group that opens at i -/
def ps_Z (so a : Nat → Int32) (n : Nat) (w : Int32) (i : Nat) : Int32 := ps_en (ps_dp so i) (ps_F so a n w i) (ps_C so a n w i) (ps_gr so a i n) w
/-- what is asked of a layout: row and column of each piece ahead of i, and the flag of each open -/
def ps_Q (so a : Nat → Int32) (n : Nat) (w : Int32) (i : Nat) (ro co fl : Nat → Int32) : Prop := ∀ p, p < i → ro p = ps_R so a n w p ∧ co p = ps_C so a n w p ∧ (so p = 2 → fl p = ps_Z so a n w p)
theorem ps_R_s {so a : Nat → Int32} {n : Nat} {w : Int32} {i : Nat} : ps_R so a n w (i + 1) = if so i = 1 ∧ ps_tp (ps_dp so i) (ps_F so a n w i) = 0 then ps_R so a n w i + 1 else ps_R so a n w i := rfl
theorem ps_C_s {so a : Nat → Int32} {n : Nat} {w : Int32} {i : Nat} : ps_C so a n w (i + 1) = if so i = 0 then ps_C so a n w i + a i else if so i = 1 then (if ps_tp (ps_dp so i) (ps_F so a n w i) = 0 then ps_tp (ps_dp so i) (ps_M so a n w i) else ps_C so a n w i + 1) else ps_C so a n w i := rfl
theorem ps_G_s {so a : Nat → Int32} {n : Nat} {w : Int32} {i : Nat} : ps_G so a n w (i + 1) = ps_mx (ps_G so a n w i) (ps_C so a n w (i + 1)) := rfl
theorem ps_F_s {so a : Nat → Int32} {n : Nat} {w : Int32} {i : Nat} : ps_F so a n w (i + 1) = if so i = 2 then upd (ps_F so a n w i) (ps_dp so i) (ps_Z so a n w i) else ps_F so a n w i := rfl
theorem ps_M_s {so a : Nat → Int32} {n : Nat} {w : Int32} {i : Nat} : ps_M so a n w (i + 1) = if so i = 2 then upd (ps_M so a n w i) (ps_dp so i) (ps_tp (ps_dp so i) (ps_M so a n w i) + a i) else ps_M so a n w i := rfl
theorem ps_en01 (d : Nat) (F : Nat → Int32) (col g w : Int32) : ps_en d F col g w = 0 ∨ ps_en d F col g w = 1 := by
  unfold ps_en
  split
  · exact Or.inr rfl
  · exact Or.inl rfl
theorem ps_Q_s {so a : Nat → Int32} {n : Nat} {w : Int32} {i : Nat} {ro co fl fl' : Nat → Int32} (h : ps_Q so a n w i ro co fl) (hf : ∀ p, p < i → so p = 2 → fl' p = fl p) (hi : so i = 2 → fl' i = ps_Z so a n w i) : ps_Q so a n w (i + 1) (upd ro i (ps_R so a n w i)) (upd co i (ps_C so a n w i)) fl' := by
  intro p hp
  by_cases e : p = i
  · subst e
    exact ⟨pk_us, pk_us, hi⟩
  · obtain ⟨h1, h2, h3⟩ := h p (by omega)
    exact ⟨(pk_un e).trans h1, (pk_un e).trans h2, fun z => (hf p (by omega) z).trans (h3 z)⟩
theorem ps_dp_ns {so : Nat → Int32} {i : Nat} (hs : ¬ so i = 2) : ps_dp so (i + 1) ≤ ps_dp so i := by
  simp only [ps_dp, hs, if_false]
  split
  · exact Nat.sub_le _ _
  · exact Nat.le_refl _
/-! the class's layout pass, ahead of piece i -/
def ps_LX (so a : Nat → Int32) (n : Nat) (w : Int32) (i : Nat) (row col gr : Int32) (sk ro co fl ma : Nat → Int32) : Prop := row = ps_R so a n w i ∧ col = ps_C so a n w i ∧ gr = ps_G so a n w i ∧ ps_Q so a n w i ro co fl ∧ ∀ j, j < ps_dp so i → ∃ p, p < i ∧ sk j = nI p ∧ fl p = ps_F so a n w i j ∧ ma p = ps_M so a n w i j
theorem ps_LX_0 (so a : Nat → Int32) (n : Nat) (w : Int32) (sk ro co fl ma : Nat → Int32) : ps_LX so a n w 0 0 0 0 sk ro co fl ma := ⟨rfl, rfl, rfl, fun p h => absurd h (Nat.not_lt_zero p), fun p h => absurd h (Nat.not_lt_zero p)⟩
theorem ps_LX_open {so a : Nat → Int32} {n : Nat} {w : Int32} {i : Nat} {row col gr : Int32} {sk ro co fl ma : Nat → Int32} (h : ps_LX so a n w i row col gr sk ro co fl ma) (hs : so i = 2) {fz mz : Int32} (hf : fz = ps_Z so a n w i) (hm : mz = ps_tp (ps_dp so i) (ps_M so a n w i) + a i) : ps_LX so a n w (i + 1) row col (ps_mx gr col) (upd sk (ps_dp so i) (nI i)) (upd ro i row) (upd co i col) (upd fl i fz) (upd ma i mz) := by
  obtain ⟨h1, h2, h3, h4, h5⟩ := h
  have e1 : ps_C so a n w (i + 1) = col := by rw [ps_C_s, h2]; simp [hs]
  refine ⟨by rw [ps_R_s, h1]; simp [hs], e1.symm, by rw [ps_G_s, e1, h3], ?_, fun j hj => ?_⟩
  · rw [h1, h2]
    exact ps_Q_s h4 (fun p hp _ => pk_un (by omega)) (fun _ => by rw [pk_us]; exact hf)
  · rw [ps_dp_s2 hs] at hj
    rw [ps_F_s, ps_M_s, if_pos hs, if_pos hs]
    by_cases q : j = ps_dp so i
    · exact ⟨i, by omega, by rw [q, pk_us], by rw [q, pk_us, pk_us]; exact hf, by rw [q, pk_us, pk_us]; exact hm⟩
    · obtain ⟨p, g1, g2, g3, g4⟩ := h5 j (by omega)
      exact ⟨p, by omega, by rw [pk_un q]; exact g2, by rw [pk_un (by omega), pk_un q]; exact g3, by rw [pk_un (by omega), pk_un q]; exact g4⟩
theorem ps_LX_keep {so a : Nat → Int32} {n : Nat} {w : Int32} {i : Nat} {row col gr : Int32} {sk ro co fl ma : Nat → Int32} (h : ps_LX so a n w i row col gr sk ro co fl ma) (hs : ¬ so i = 2) {row' col' : Int32} (hr : row' = ps_R so a n w (i + 1)) (hc : col' = ps_C so a n w (i + 1)) : ps_LX so a n w (i + 1) row' col' (ps_mx gr col') sk (upd ro i row) (upd co i col) fl ma := by
  obtain ⟨h1, h2, h3, h4, h5⟩ := h
  refine ⟨hr, hc, by rw [ps_G_s, hc, h3], ?_, fun j hj => ?_⟩
  · rw [h1, h2]
    exact ps_Q_s h4 (fun p hp _ => rfl) (fun z => absurd z hs)
  · have hd := ps_dp_ns hs
    rw [ps_F_s, ps_M_s, if_neg hs, if_neg hs]
    obtain ⟨p, g1, g2, g3, g4⟩ := h5 j (by omega)
    exact ⟨p, by omega, g2, g3, g4⟩
theorem ps_LX_close {so a : Nat → Int32} {n : Nat} {w : Int32} {i : Nat} {row col gr : Int32} {sk ro co fl ma : Nat → Int32} (h : ps_LX so a n w i row col gr sk ro co fl ma) (hs : so i = 3) : ps_LX so a n w (i + 1) row col (ps_mx gr col) sk (upd ro i row) (upd co i col) fl ma :=
  ps_LX_keep h (by rw [hs]; decide) (by rw [ps_R_s, h.1]; simp [hs]) (by rw [ps_C_s, h.2.1]; simp [hs])
theorem ps_LX_word {so a : Nat → Int32} {n : Nat} {w : Int32} {i : Nat} {row col gr : Int32} {sk ro co fl ma : Nat → Int32} (h : ps_LX so a n w i row col gr sk ro co fl ma) (hs : so i = 0) : ps_LX so a n w (i + 1) row (col + a i) (ps_mx gr (col + a i)) sk (upd ro i row) (upd co i col) fl ma :=
  ps_LX_keep h (by rw [hs]; decide) (by rw [ps_R_s, h.1]; simp [hs]) (by rw [ps_C_s, h.2.1]; simp [hs])
theorem ps_LX_flat {so a : Nat → Int32} {n : Nat} {w : Int32} {i : Nat} {row col gr : Int32} {sk ro co fl ma : Nat → Int32} (h : ps_LX so a n w i row col gr sk ro co fl ma) (hs : so i = 1) (hf : ¬ ps_tp (ps_dp so i) (ps_F so a n w i) = 0) : ps_LX so a n w (i + 1) row (col + 1) (ps_mx gr (col + 1)) sk (upd ro i row) (upd co i col) fl ma :=
  ps_LX_keep h (by rw [hs]; decide) (by rw [ps_R_s, h.1]; simp [hs, hf]) (by rw [ps_C_s, h.2.1]; simp [hs, hf])
theorem ps_LX_line {so a : Nat → Int32} {n : Nat} {w : Int32} {i : Nat} {row col gr : Int32} {sk ro co fl ma : Nat → Int32} (h : ps_LX so a n w i row col gr sk ro co fl ma) (hs : so i = 1) (hf : ps_tp (ps_dp so i) (ps_F so a n w i) = 0) {mz : Int32} (hm : mz = ps_tp (ps_dp so i) (ps_M so a n w i)) : ps_LX so a n w (i + 1) (row + 1) mz (ps_mx gr mz) sk (upd ro i row) (upd co i col) fl ma :=
  ps_LX_keep h (by rw [hs]; decide) (by rw [ps_R_s, h.1]; simp [hs, hf]) (by rw [ps_C_s, hm]; simp [hs, hf])
/-! the reference's layout pass, ahead of piece i -/
def ps_LM (so a : Nat → Int32) (n : Nat) (w : Int32) (i : Nat) (row col gr : Int32) (fs mg ro co fl : Nat → Int32) : Prop := row = ps_R so a n w i ∧ col = ps_C so a n w i ∧ gr = ps_G so a n w i ∧ ps_Q so a n w i ro co fl ∧ ∀ j, j < ps_dp so i → fs j = ps_F so a n w i j ∧ mg j = ps_M so a n w i j
theorem ps_LM_0 (so a : Nat → Int32) (n : Nat) (w : Int32) (fs mg ro co fl : Nat → Int32) : ps_LM so a n w 0 0 0 0 fs mg ro co fl := ⟨rfl, rfl, rfl, fun p h => absurd h (Nat.not_lt_zero p), fun p h => absurd h (Nat.not_lt_zero p)⟩
theorem ps_LM_tp {so a : Nat → Int32} {n : Nat} {w : Int32} {i : Nat} {row col gr : Int32} {fs mg ro co fl : Nat → Int32} (h : ps_LM so a n w i row col gr fs mg ro co fl) : ps_tp (ps_dp so i) fs = ps_tp (ps_dp so i) (ps_F so a n w i) ∧ ps_tp (ps_dp so i) mg = ps_tp (ps_dp so i) (ps_M so a n w i) := by
  unfold ps_tp
  by_cases e : ps_dp so i = 0
  · rw [if_pos e, if_pos e, if_pos e, if_pos e]; exact ⟨rfl, rfl⟩
  · rw [if_neg e, if_neg e, if_neg e, if_neg e]; exact h.2.2.2.2 _ (by omega)
theorem ps_LM_open {so a : Nat → Int32} {n : Nat} {w : Int32} {i : Nat} {row col gr : Int32} {fs mg ro co fl : Nat → Int32} (h : ps_LM so a n w i row col gr fs mg ro co fl) (hs : so i = 2) {fz mz : Int32} (hf : fz = ps_en (ps_dp so i) fs col (ps_gr so a i n) w) (hm : mz = ps_tp (ps_dp so i) mg + a i) : ps_LM so a n w (i + 1) row col (ps_mx gr col) (upd fs (ps_dp so i) fz) (upd mg (ps_dp so i) mz) (upd ro i row) (upd co i col) (upd fl i fz) := by
  have ht := ps_LM_tp h
  obtain ⟨h1, h2, h3, h4, h5⟩ := h
  have e1 : ps_C so a n w (i + 1) = col := by rw [ps_C_s, h2]; simp [hs]
  have hf2 : fz = ps_Z so a n w i := by rw [hf, h2]; unfold ps_Z ps_en; rw [ht.1]
  have hm2 : mz = ps_tp (ps_dp so i) (ps_M so a n w i) + a i := by rw [hm, ht.2]
  refine ⟨by rw [ps_R_s, h1]; simp [hs], e1.symm, by rw [ps_G_s, e1, h3], ?_, fun j hj => ?_⟩
  · rw [h1, h2]
    exact ps_Q_s h4 (fun p hp _ => pk_un (by omega)) (fun _ => by rw [pk_us]; exact hf2)
  · rw [ps_dp_s2 hs] at hj
    rw [ps_F_s, ps_M_s, if_pos hs, if_pos hs]
    by_cases q : j = ps_dp so i
    · rw [q, pk_us, pk_us, pk_us, pk_us]; exact ⟨hf2, hm2⟩
    · rw [pk_un q, pk_un q, pk_un q, pk_un q]; exact h5 j (by omega)
theorem ps_LM_keep {so a : Nat → Int32} {n : Nat} {w : Int32} {i : Nat} {row col gr : Int32} {fs mg ro co fl : Nat → Int32} (h : ps_LM so a n w i row col gr fs mg ro co fl) (hs : ¬ so i = 2) {row' col' : Int32} (hr : row' = ps_R so a n w (i + 1)) (hc : col' = ps_C so a n w (i + 1)) : ps_LM so a n w (i + 1) row' col' (ps_mx gr col') fs mg (upd ro i row) (upd co i col) fl := by
  obtain ⟨h1, h2, h3, h4, h5⟩ := h
  refine ⟨hr, hc, by rw [ps_G_s, hc, h3], ?_, fun j hj => ?_⟩
  · rw [h1, h2]
    exact ps_Q_s h4 (fun p hp _ => rfl) (fun z => absurd z hs)
  · have hd := ps_dp_ns hs
    rw [ps_F_s, ps_M_s, if_neg hs, if_neg hs]
    exact h5 j (by omega)
theorem ps_LM_close {so a : Nat → Int32} {n : Nat} {w : Int32} {i : Nat} {row col gr : Int32} {fs mg ro co fl : Nat → Int32} (h : ps_LM so a n w i row col gr fs mg ro co fl) (hs : so i = 3) : ps_LM so a n w (i + 1) row col (ps_mx gr col) fs mg (upd ro i row) (upd co i col) fl :=
  ps_LM_keep h (by rw [hs]; decide) (by rw [ps_R_s, h.1]; simp [hs]) (by rw [ps_C_s, h.2.1]; simp [hs])
theorem ps_LM_word {so a : Nat → Int32} {n : Nat} {w : Int32} {i : Nat} {row col gr : Int32} {fs mg ro co fl : Nat → Int32} (h : ps_LM so a n w i row col gr fs mg ro co fl) (hs : so i = 0) : ps_LM so a n w (i + 1) row (col + a i) (ps_mx gr (col + a i)) fs mg (upd ro i row) (upd co i col) fl :=
  ps_LM_keep h (by rw [hs]; decide) (by rw [ps_R_s, h.1]; simp [hs]) (by rw [ps_C_s, h.2.1]; simp [hs])
theorem ps_LM_flat {so a : Nat → Int32} {n : Nat} {w : Int32} {i : Nat} {row col gr : Int32} {fs mg ro co fl : Nat → Int32} (h : ps_LM so a n w i row col gr fs mg ro co fl) (hs : so i = 1) (hf : ¬ ps_tp (ps_dp so i) fs = 0) : ps_LM so a n w (i + 1) row (col + 1) (ps_mx gr (col + 1)) fs mg (upd ro i row) (upd co i col) fl := by
  rw [(ps_LM_tp h).1] at hf
  exact ps_LM_keep h (by rw [hs]; decide) (by rw [ps_R_s, h.1]; simp [hs, hf]) (by rw [ps_C_s, h.2.1]; simp [hs, hf])
theorem ps_LM_line {so a : Nat → Int32} {n : Nat} {w : Int32} {i : Nat} {row col gr : Int32} {fs mg ro co fl : Nat → Int32} (h : ps_LM so a n w i row col gr fs mg ro co fl) (hs : so i = 1) (hf : ps_tp (ps_dp so i) fs = 0) {mz : Int32} (hm : mz = ps_tp (ps_dp so i) mg) : ps_LM so a n w (i + 1) (row + 1) mz (ps_mx gr mz) fs mg (upd ro i row) (upd co i col) fl := by
  rw [(ps_LM_tp h).1] at hf
  rw [(ps_LM_tp h).2] at hm
  exact ps_LM_keep h (by rw [hs]; decide) (by rw [ps_R_s, h.1]; simp [hs, hf]) (by rw [ps_C_s, hm]; simp [hs, hf])
/-! the least width: of the widths 101 - k .. 100 the first whose layout has at most so many rows -/
def ps_lw (so a : Nat → Int32) (n : Nat) (rows : Int32) : Nat → Int32
  | 0 => 101
  | k + 1 => if ps_R so a n (nI (100 - k)) n + 1 ≤ rows then nI (100 - k) else ps_lw so a n rows k
def ps_wd (x : Int32) : Int32 := if x < 1 then 1 else if 100 < x then 100 else x
/-- what the class holds: its sizes, and what its two marks promise -/
def ps_me (n : Nat) (so a re : Nat → Int32) : Prop := ∀ p, p < n → so p = 2 → re p = ps_gr so a p n
def ps_la (n : Nat) (so a : Nat → Int32) (w lr gc : Int32) (ro co fl : Nat → Int32) : Prop := lr = ps_R so a n w n ∧ gc = ps_G so a n w n ∧ ps_Q so a n w n ro co fl
def ps_si (n : Nat) (so a si : Nat → Int32) : Prop := ∀ i, i < n → si i = if so i = 1 then 1 else a i
theorem ps_si_add {n : Nat} {so a si : Nat → Int32} {x y z : Int32} (h : ps_si n so a si) (hz : z = if x = 1 then 1 else y) : ps_si (n + 1) (upd so n x) (upd a n y) (upd si n z) := by
  intro i hi
  by_cases e : i = n
  · rw [e, pk_us, pk_us, pk_us]; exact hz
  · rw [pk_un e, pk_un e, pk_un e]; exact h i (by omega)
end
section
/-! OWN ROWS over the kit: the worlds of the two classes, calls within a class, loops and joins, array rows at an index that is a number -/
set_option maxRecDepth 100000
abbrev vwCl : List vw_C := [(RX1, TX1, 17), (RX2, TX2, 12)]
abbrev wX (h : Nat) (qa : Nat → Nat) (cI cZ : ClassId) (pw pn un : Int32) (so si : Nat → Int32) (mb : Int32) (re st sk wa : Nat → Int32) (lb : Int32) (ro co fl ma : Nat → Int32) (lr gc : Int32) : va_W :=
  [(h, .inr (0, [.int pw, .int pn, .int un, .ref (qa 0), .ref (qa 1), .int mb, .ref (qa 2), .ref (qa 3), .ref (qa 4), .ref (qa 5), .int lb, .ref (qa 6), .ref (qa 7), .ref (qa 8), .ref (qa 9), .int lr, .int gc])), (qa 0, .inl (cI, 60, .inl so)), (qa 1, .inl (cI, 60, .inl si)), (qa 2, .inl (cI, 60, .inl re)), (qa 3, .inl (cI, 60, .inl st)), (qa 4, .inl (cI, 12, .inl sk)), (qa 5, .inl (cI, 60, .inl wa)), (qa 6, .inl (cI, 60, .inl ro)), (qa 7, .inl (cI, 60, .inl co)), (qa 8, .inl (cZ, 60, .inl fl)), (qa 9, .inl (cI, 60, .inl ma))]
abbrev wM (h : Nat) (qa : Nat → Nat) (cI cZ : ClassId) (pw pn : Int32) (so a : Nat → Int32) (dp : Int32) (fs mg ro co fl : Nat → Int32) (lr gc : Int32) : va_W :=
  [(h, .inr (1, [.int pw, .int pn, .ref (qa 0), .ref (qa 1), .int dp, .ref (qa 2), .ref (qa 3), .ref (qa 4), .ref (qa 5), .ref (qa 6), .int lr, .int gc])), (qa 0, .inl (cI, 60, .inl so)), (qa 1, .inl (cI, 60, .inl a)), (qa 2, .inl (cZ, 60, .inl fs)), (qa 3, .inl (cI, 60, .inl mg)), (qa 4, .inl (cI, 60, .inl ro)), (qa 5, .inl (cI, 60, .inl co)), (qa 6, .inl (cZ, 60, .inl fl))]
abbrev tyA (cI cZ : ClassId) : List (ClassId × FieldType) := [(cI, .int), (cZ, .boolean)]
abbrev preW (dC : Nat → ClassId) (dI : Nat → Nat → Nat) (cI cZ : ClassId) (sz : Nat) (w : va_W) (U : State) : Prop := U.heap.size = sz ∧ va_P (dC, dI) vwCl w U.heap ∧ va_K (dC, dI) vwCl (tyA cI cZ) U ∧ va_D (fun _ => True) w
abbrev posW (dC : Nat → ClassId) (dI : Nat → Nat → Nat) (cI cZ : ClassId) (A : Nat → Prop) (w : va_W) (t : State) : Prop := va_P (dC, dI) vwCl w t.heap ∧ va_K (dC, dI) vwCl (tyA cI cZ) t ∧ va_D A w
theorem zb_pre {dC : Nat → ClassId} {dI : Nat → Nat → Nat} {cI cZ : ClassId} {sz : Nat} {w : va_W} {av : List Value} : FrameBlind (va_Pc av (preW dC dI cI cZ sz w)) := fun a U g mk q => by
  obtain ⟨q0, q1, qP, qK, qD⟩ := q
  exact ⟨q0, q1, qP, va_K.moved (u := U) (U := U.calling g mk a) (Vm.Alike.refl U.vm) qK, qD⟩
theorem zb_free {A : Nat → Prop} {w : va_W} {H0 H : Heap} {locs : List Loc} (hD : va_D A w) (hS : va_S A H0 H locs) (hA : ∀ q, H0.size ≤ q → A q) : ∀ q, va_A w H.size q → A q := by
  intro q h
  rcases h with ⟨k, e, h⟩ | h
  · exact hD.2 k (q, e) h
  · exact hA q (Nat.le_trans hS.1 h)
theorem zb_pick {D : va_G} {cl : List vw_C} {w0 w : va_W} {H : Heap} (hP : va_P D cl w0 H) (is : List Nat) (hs : is.map (fun i => w0[i]?) = w.map some) : va_P D cl w H := by
  intro k q hk
  have h1 : (is.map (fun i => w0[i]?))[k]? = some (some q) := by rw [hs, List.getElem?_map, hk]; rfl
  rw [List.getElem?_map] at h1
  cases hi : is[k]? with
  | none => rw [hi] at h1; cases h1
  | some i => rw [hi] at h1; exact hP i q (Option.some.inj h1)
section ZC
variable {p : Program} {l : Launch} {e : Env} {R : Room} {s : State} {m : MethodId} {args : Array Value} {below : List Frame} {meth : Method} {c : Code} {H : Heap} {locs : List Loc} {cells slots : Nat} {Q : State → Prop}
variable {cc bytes : ByteArray} {pc nL maxL n index ci N : Nat} {ls : Array Slot} {st0 rest As : List Value} {own C : String} {y : MethodName} {ret : Option FieldType} {ws : List Cond} {rm : Room} {A : Nat → Prop} {H0 : Heap} {b : Nat} {w w0 wr : va_W} {fs : List Value} {T : u_T} {dC : Nat → ClassId} {dI : Nat → Nat → Nat} {cI cZ : ClassId} {Ts : List Cond}
theorem zc_i {S : Type} {post : Int32 → S → Prop} {wf : S → va_W} (S0 : CallFix p m c cc nL s args Ts own)
    (hM : Met l y ws rm (va_Pc (.ref b :: As) (preW dC dI cI cZ H.size w)) (va_Qi post (fun u t => posW dC dI cI cZ (va_A w H.size) (wf u) t) (va_A w H.size)) 0 0 (va_A w H.size))
    (cw : CallW R s args own C index y bytes maxL ret ws rm 0 0 n) (hc : vwCl[ci]? = some (C, T, N)) (he : w[0]? = some (b, .inr (ci, fs)))
    (hK : va_K (dC, dI) vwCl (tyA cI cZ) s) (hP : va_P (dC, dI) vwCl w H) (hD : va_D A w) (hS : va_S A H0 H locs) (hA : ∀ q, H0.size ≤ q → A q)
    (hn : As.length = n) (hsize : ls.size = nL) (hstack : st0 = As.reverse ++ .ref b :: rest) (hr : (rest.map fun v => v.category).sum ≤ 8) (hdg : decode cc pc = .ok (.invokevirtual index, 3)) (hf : cells ≤ R.cells ∧ slots ≤ R.slots)
    (kk : ∀ (r : Int32) (u : S) (H1 : Heap) (locs1 : List Loc), post r u → va_P (dC, dI) vwCl (wf u) H1 → va_D A (wf u) → va_S A H0 H1 locs1 → W p l e R s m args below meth c H1 locs1 cells slots Q (F0 m (pc + 3) ls (.int r :: rest))) : W p l e R s m args below meth c H locs cells slots Q (F0 m pc ls st0) := by
  have hFc := zb_free hD hS hA
  refine va_calli (va_runV (As := As) (rest := rest) (b := b) (g := F0 m pc ls st0) S0 hM cw ⟨zb_pre, va_recv hK hP hc he, fun U hU hW => ⟨rfl, by rw [hU], by rw [hU]; exact hP, va_K.moved hW.alike hK, hD.weaken (fun _ _ _ _ => trivial)⟩⟩ rfl hn hsize hstack (lv_room hr) hdg hf) hS (fun q _ h => hFc q h) hFc (fun r u t H1 locs1 ht hvm hw hB hz hk hS1 => ?_)
  obtain ⟨hP1, -, hD1⟩ := hB
  rw [ht] at hP1
  exact kk r u H1 locs1 hw hP1 (hD1.weaken (fun k q _ h => hFc q.1 h)) hS1
theorem zc_v {S : Type} {post : S → Prop} {wf : S → va_W} (S0 : CallFix p m c cc nL s args Ts own)
    (hM : Met l y ws rm (va_Pc (.ref b :: As) (preW dC dI cI cZ H.size w)) (va_Qv post (fun u t => posW dC dI cI cZ (va_A w H.size) (wf u) t) (va_A w H.size)) 0 0 (va_A w H.size))
    (cw : CallW R s args own C index y bytes maxL ret ws rm 0 0 n) (hc : vwCl[ci]? = some (C, T, N)) (he : w[0]? = some (b, .inr (ci, fs)))
    (hK : va_K (dC, dI) vwCl (tyA cI cZ) s) (hP : va_P (dC, dI) vwCl w H) (hD : va_D A w) (hS : va_S A H0 H locs) (hA : ∀ q, H0.size ≤ q → A q)
    (hn : As.length = n) (hsize : ls.size = nL) (hstack : st0 = As.reverse ++ .ref b :: rest) (hr : (rest.map fun v => v.category).sum ≤ 8) (hdg : decode cc pc = .ok (.invokevirtual index, 3)) (hf : cells ≤ R.cells ∧ slots ≤ R.slots)
    (kk : ∀ (u : S) (H1 : Heap) (locs1 : List Loc), post u → va_P (dC, dI) vwCl (wf u) H1 → va_D A (wf u) → va_S A H0 H1 locs1 → W p l e R s m args below meth c H1 locs1 cells slots Q (F0 m (pc + 3) ls rest)) : W p l e R s m args below meth c H locs cells slots Q (F0 m pc ls st0) := by
  have hFc := zb_free hD hS hA
  refine va_callv (va_runV (As := As) (rest := rest) (b := b) (g := F0 m pc ls st0) S0 hM cw ⟨zb_pre, va_recv hK hP hc he, fun U hU hW => ⟨rfl, by rw [hU], by rw [hU]; exact hP, va_K.moved hW.alike hK, hD.weaken (fun _ _ _ _ => trivial)⟩⟩ rfl hn hsize hstack (lv_room hr) hdg hf) hS (fun q _ h => hFc q h) hFc (fun u t H1 locs1 ht hvm hw hB hz hk hS1 => ?_)
  obtain ⟨hP1, -, hD1⟩ := hB
  rw [ht] at hP1
  exact kk u H1 locs1 hw hP1 (hD1.weaken (fun k q _ h => hFc q.1 h)) hS1
/-- a call from outside: the callee's cells are a part of the caller's world; behind it the rest stands first -/
theorem zd_i {S : Type} {post : Int32 → S → Prop} {wf : S → va_W} (S0 : CallFix p m c cc nL s args Ts own)
    (hM : Met l y ws rm (va_Pc (.ref b :: As) (preW dC dI cI cZ H.size w)) (va_Qi post (fun u t => posW dC dI cI cZ (va_A w H.size) (wf u) t) (va_A w H.size)) 0 0 (va_A w H.size))
    (cw : CallW R s args own C index y bytes maxL ret ws rm 0 0 n) (hc : vwCl[ci]? = some (C, T, N)) (he : w[0]? = some (b, .inr (ci, fs)))
    (hK : va_K (dC, dI) vwCl (tyA cI cZ) s) (hP : va_P (dC, dI) vwCl w0 H) (hD : va_D A w0) (hS : va_S A H0 H locs) (hA : ∀ q, H0.size ≤ q → A q)
    (isC isR : List Nat) (hC : isC.map (fun i => w0[i]?) = w.map some) (hR : isR.map (fun i => w0[i]?) = wr.map some) (hnC : va_nd isC = true) (hnR : va_nd isR = true) (hdis : ∀ i ∈ isR, i ∉ isC)
    (hn : As.length = n) (hsize : ls.size = nL) (hstack : st0 = As.reverse ++ .ref b :: rest) (hr : (rest.map fun v => v.category).sum ≤ 8) (hdg : decode cc pc = .ok (.invokevirtual index, 3)) (hf : cells ≤ R.cells ∧ slots ≤ R.slots)
    (kk : ∀ (r : Int32) (u : S) (H1 : Heap) (locs1 : List Loc), post r u → va_P (dC, dI) vwCl (wr ++ wf u) H1 → va_D A (wr ++ wf u) → va_S A H0 H1 locs1 → W p l e R s m args below meth c H1 locs1 cells slots Q (F0 m (pc + 3) ls (.int r :: rest))) : W p l e R s m args below meth c H locs cells slots Q (F0 m pc ls st0) := by
  have hPc := zb_pick hP isC hC
  have hDc := hD.sub isC hnC hC
  have hFc := zb_free hDc hS hA
  refine va_calli (va_runV (As := As) (rest := rest) (b := b) (g := F0 m pc ls st0) S0 hM cw ⟨zb_pre, va_recv hK hPc hc he, fun U hU hW => ⟨rfl, by rw [hU], by rw [hU]; exact hPc, va_K.moved hW.alike hK, hDc.weaken (fun _ _ _ _ => trivial)⟩⟩ rfl hn hsize hstack (lv_room hr) hdg hf) hS (fun q _ h => hFc q h) hFc (fun r u t H1 locs1 ht hvm hw hB hz hk hS1 => ?_)
  obtain ⟨hP1, -, hD1⟩ := hB
  rw [ht] at hP1
  obtain ⟨hP2, hD2⟩ := va_join hP hD isC isR hC hR hnR hdis hk hFc hP1 hD1
  exact kk r u H1 locs1 hw hP2 hD2 hS1
theorem zd_v {S : Type} {post : S → Prop} {wf : S → va_W} (S0 : CallFix p m c cc nL s args Ts own)
    (hM : Met l y ws rm (va_Pc (.ref b :: As) (preW dC dI cI cZ H.size w)) (va_Qv post (fun u t => posW dC dI cI cZ (va_A w H.size) (wf u) t) (va_A w H.size)) 0 0 (va_A w H.size))
    (cw : CallW R s args own C index y bytes maxL ret ws rm 0 0 n) (hc : vwCl[ci]? = some (C, T, N)) (he : w[0]? = some (b, .inr (ci, fs)))
    (hK : va_K (dC, dI) vwCl (tyA cI cZ) s) (hP : va_P (dC, dI) vwCl w0 H) (hD : va_D A w0) (hS : va_S A H0 H locs) (hA : ∀ q, H0.size ≤ q → A q)
    (isC isR : List Nat) (hC : isC.map (fun i => w0[i]?) = w.map some) (hR : isR.map (fun i => w0[i]?) = wr.map some) (hnC : va_nd isC = true) (hnR : va_nd isR = true) (hdis : ∀ i ∈ isR, i ∉ isC)
    (hn : As.length = n) (hsize : ls.size = nL) (hstack : st0 = As.reverse ++ .ref b :: rest) (hr : (rest.map fun v => v.category).sum ≤ 8) (hdg : decode cc pc = .ok (.invokevirtual index, 3)) (hf : cells ≤ R.cells ∧ slots ≤ R.slots)
    (kk : ∀ (u : S) (H1 : Heap) (locs1 : List Loc), post u → va_P (dC, dI) vwCl (wr ++ wf u) H1 → va_D A (wr ++ wf u) → va_S A H0 H1 locs1 → W p l e R s m args below meth c H1 locs1 cells slots Q (F0 m (pc + 3) ls rest)) : W p l e R s m args below meth c H locs cells slots Q (F0 m pc ls st0) := by
  have hPc := zb_pick hP isC hC
  have hDc := hD.sub isC hnC hC
  have hFc := zb_free hDc hS hA
  refine va_callv (va_runV (As := As) (rest := rest) (b := b) (g := F0 m pc ls st0) S0 hM cw ⟨zb_pre, va_recv hK hPc hc he, fun U hU hW => ⟨rfl, by rw [hU], by rw [hU]; exact hPc, va_K.moved hW.alike hK, hDc.weaken (fun _ _ _ _ => trivial)⟩⟩ rfl hn hsize hstack (lv_room hr) hdg hf) hS (fun q _ h => hFc q h) hFc (fun u t H1 locs1 ht hvm hw hB hz hk hS1 => ?_)
  obtain ⟨hP1, -, hD1⟩ := hB
  rw [ht] at hP1
  obtain ⟨hP2, hD2⟩ := va_join hP hD isC isR hC hR hnR hdis hk hFc hP1 hD1
  exact kk u H1 locs1 hw hP2 hD2 hS1
/-- a loop: I k .. is what holds at its head, k falls -/
theorem zl_loop {st : List Value} {I : Nat → Heap → List Loc → Array Slot → Prop} (stp : ∀ (k : Nat) (H : Heap) (locs : List Loc) (ls : Array Slot), I k H locs ls → (∀ (k' : Nat) (H1 : Heap) (locs1 : List Loc) (ls1 : Array Slot), k' < k → I k' H1 locs1 ls1 → W p l e R s m args below meth c H1 locs1 cells slots Q (F0 m pc ls1 st)) → W p l e R s m args below meth c H locs cells slots Q (F0 m pc ls st)) (k : Nat) (H : Heap) (locs : List Loc) (ls : Array Slot) (h : I k H locs ls) : W p l e R s m args below meth c H locs cells slots Q (F0 m pc ls st) := by
  induction k using Nat.strongRecOn generalizing H locs ls with
  | ind k ih => exact stp k H locs ls h (fun k' H1 locs1 ls1 hk h1 => ih k' hk H1 locs1 ls1 h1)
/-- a join: what holds at pc, whatever way led there -/
theorem zl_cut {pc0 : Nat} {ls0 : Array Slot} {I : Heap → List Loc → Array Slot → List Value → Prop} (after : ∀ (H : Heap) (locs : List Loc) (ls : Array Slot) (st : List Value), I H locs ls st → W p l e R s m args below meth c H locs cells slots Q (F0 m pc ls st)) (before : (∀ (H : Heap) (locs : List Loc) (ls : Array Slot) (st : List Value), I H locs ls st → W p l e R s m args below meth c H locs cells slots Q (F0 m pc ls st)) → W p l e R s m args below meth c H locs cells slots Q (F0 m pc0 ls0 st0)) : W p l e R s m args below meth c H locs cells slots Q (F0 m pc0 ls0 st0) := before after
theorem zi_ald {D : va_G} {cl : List vw_C} {tys : List (ClassId × FieldType)} {a : Nat} (hexec : p.tables.exec = Jvm.exec) (hb : c.code = cc) (hK : va_K D cl tys s) (hP : va_P D cl w H) (q0 t0 : Nat) {cA : ClassId} {f : Nat → Int32} (ha : w[q0]? = some (a, .inl (cA, n, .inl f))) (ht : tys[t0]? = some (cA, .int)) {j : Nat} (hj : j < n) (hn : n < 2 ^ 31) {v : Int32} (hv : f j = v) (hdg : decode cc pc = .ok (.iaload, 1))
    (kk : W p l e R s m args below meth c H locs cells slots Q (F0 m (pc + 1) ls (.int v :: rest))) : W p l e R s m args below meth c H locs cells slots Q (F0 m pc ls (.int (nI j) :: .ref a :: rest)) := by
  refine va_iald hexec hb hK hP q0 t0 ha ht (vp_in_nI hj hn) hdg ?_
  rw [nI_clamp (Nat.lt_trans hj hn), hv]
  exact kk
theorem zz_ald {D : va_G} {cl : List vw_C} {tys : List (ClassId × FieldType)} {a : Nat} (hexec : p.tables.exec = Jvm.exec) (hb : c.code = cc) (hK : va_K D cl tys s) (hP : va_P D cl w H) (q0 t0 : Nat) {cA : ClassId} {f : Nat → Int32} (ha : w[q0]? = some (a, .inl (cA, n, .inl f))) (ht : tys[t0]? = some (cA, .boolean)) {j : Nat} (hj : j < n) (hn : n < 2 ^ 31) {v : Int32} (hv : f j = v) (hdg : decode cc pc = .ok (.baload, 1))
    (kk : W p l e R s m args below meth c H locs cells slots Q (F0 m (pc + 1) ls (.int v :: rest))) : W p l e R s m args below meth c H locs cells slots Q (F0 m pc ls (.int (nI j) :: .ref a :: rest)) := by
  refine va_zald hexec hb hK hP q0 t0 ha ht (vp_in_nI hj hn) hdg ?_
  rw [nI_clamp (Nat.lt_trans hj hn), hv]
  exact kk
theorem zi_ast {D : va_G} {cl : List vw_C} {tys : List (ClassId × FieldType)} {a : Nat} (hexec : p.tables.exec = Jvm.exec) (hb : c.code = cc) (hK : va_K D cl tys s) (hP : va_P D cl w H) (hD : va_D A w) (hS : va_S A H0 H locs) (q0 t0 : Nat) {cA : ClassId} {f : Nat → Int32} (ha : w[q0]? = some (a, .inl (cA, n, .inl f))) (ht : tys[t0]? = some (cA, .int)) {j : Nat} {x : Int32} (hj : j < n) (hn : n < 2 ^ 31) (hdg : decode cc pc = .ok (.iastore, 1))
    (kk : ∀ (H1 : Heap) (locs1 : List Loc), va_P D cl (w.set q0 (a, .inl (cA, n, .inl (upd f j x)))) H1 → va_D A (w.set q0 (a, .inl (cA, n, .inl (upd f j x)))) → va_S A H0 H1 locs1 → W p l e R s m args below meth c H1 locs1 cells slots Q (F0 m (pc + 1) ls rest)) : W p l e R s m args below meth c H locs cells slots Q (F0 m pc ls (.int x :: .int (nI j) :: .ref a :: rest)) := by
  refine va_iast hexec hb hK hP hD hS q0 t0 ha ht (vp_in_nI hj hn) hdg ?_
  rw [nI_clamp (Nat.lt_trans hj hn)]
  exact kk
theorem zz_ast {D : va_G} {cl : List vw_C} {tys : List (ClassId × FieldType)} {a : Nat} (hexec : p.tables.exec = Jvm.exec) (hb : c.code = cc) (hK : va_K D cl tys s) (hP : va_P D cl w H) (hD : va_D A w) (hS : va_S A H0 H locs) (q0 t0 : Nat) {cA : ClassId} {f : Nat → Int32} (ha : w[q0]? = some (a, .inl (cA, n, .inl f))) (ht : tys[t0]? = some (cA, .boolean)) {j : Nat} {x : Int32} (hj : j < n) (hn : n < 2 ^ 31) (hx01 : x = 0 ∨ x = 1) (hdg : decode cc pc = .ok (.bastore, 1))
    (kk : ∀ (H1 : Heap) (locs1 : List Loc), va_P D cl (w.set q0 (a, .inl (cA, n, .inl (upd f j x)))) H1 → va_D A (w.set q0 (a, .inl (cA, n, .inl (upd f j x)))) → va_S A H0 H1 locs1 → W p l e R s m args below meth c H1 locs1 cells slots Q (F0 m (pc + 1) ls rest)) : W p l e R s m args below meth c H locs cells slots Q (F0 m pc ls (.int x :: .int (nI j) :: .ref a :: rest)) := by
  have hv : vp_nar .boolean x = x := by
    rcases hx01 with h | h
    · rw [h]; rfl
    · rw [h]; rfl
  refine va_zast hexec hb hK hP hD hS q0 t0 ha ht (vp_in_nI hj hn) hdg ?_
  rw [nI_clamp (Nat.lt_trans hj hn), hv]
  exact kk
end ZC
/-! the classes' own states; what the law keeps of them -/
abbrev SX : Type := Int32 × (Nat → Int32) × Int32 × (Nat → Int32) × (Nat → Int32) × (Nat → Int32) × (Nat → Int32) × Int32 × (Nat → Int32) × (Nat → Int32) × (Nat → Int32) × (Nat → Int32) × Int32 × Int32
abbrev wXt (h : Nat) (qa : Nat → Nat) (cI cZ : ClassId) (pw : Int32) (n : Nat) (so : Nat → Int32) (u : SX) : va_W := wX h qa cI cZ pw (nI n) u.1 so u.2.1 u.2.2.1 u.2.2.2.1 u.2.2.2.2.1 u.2.2.2.2.2.1 u.2.2.2.2.2.2.1 u.2.2.2.2.2.2.2.1 u.2.2.2.2.2.2.2.2.1 u.2.2.2.2.2.2.2.2.2.1 u.2.2.2.2.2.2.2.2.2.2.1 u.2.2.2.2.2.2.2.2.2.2.2.1 u.2.2.2.2.2.2.2.2.2.2.2.2.1 u.2.2.2.2.2.2.2.2.2.2.2.2.2
abbrev SM : Type := Int32 × (Nat → Int32) × (Nat → Int32) × (Nat → Int32) × (Nat → Int32) × (Nat → Int32) × Int32 × Int32
abbrev wMt (h : Nat) (qa : Nat → Nat) (cI cZ : ClassId) (pw : Int32) (n : Nat) (so a : Nat → Int32) (u : SM) : va_W := wM h qa cI cZ pw (nI n) so a u.1 u.2.1 u.2.2.1 u.2.2.2.1 u.2.2.2.2.1 u.2.2.2.2.2.1 u.2.2.2.2.2.2.1 u.2.2.2.2.2.2.2
/-- the class's cells say what they should: un, si, the two marks -/
def ps_XI (n : Nat) (so a : Nat → Int32) (pw : Int32) (un : Int32) (si : Nat → Int32) (mb : Int32) (re : Nat → Int32) (lb : Int32) (ro co fl : Nat → Int32) (lr gc : Int32) : Prop := ps_ok n so ∧ un = nI (ps_dp so n) ∧ ps_si n so a si ∧ (mb = 0 ∨ (mb = 1 ∧ ps_me n so a re)) ∧ (lb = 0 ∨ (lb = 1 ∧ ps_la n so a pw lr gc ro co fl))
abbrev ps_XIt (n : Nat) (so a : Nat → Int32) (pw : Int32) (u : SX) : Prop := ps_XI n so a pw u.1 u.2.1 u.2.2.1 u.2.2.2.1 u.2.2.2.2.2.2.2.1 u.2.2.2.2.2.2.2.2.1 u.2.2.2.2.2.2.2.2.2.1 u.2.2.2.2.2.2.2.2.2.2.1 u.2.2.2.2.2.2.2.2.2.2.2.2.1 u.2.2.2.2.2.2.2.2.2.2.2.2.2
/-- a piece taken (b) or refused -/
def ps_n (b : Bool) (n : Nat) : Nat := if b = true then n + 1 else n
def ps_u (b : Bool) (n : Nat) (f : Nat → Int32) (x : Int32) : Nat → Int32 := if b = true then upd f n x else f
def ps_r (b : Bool) (n : Nat) : Int32 := if b = true then nI (n + 1) else -1
def ps_z (b : Bool) (x : Int32) : Int32 := if b = true then 0 else x
end
section
/-! pure rows between the picture and the walks -/
theorem ps_tt_0 {so a : Nat → Int32} {i : Nat} (h : so i = 0) : ps_tt so a (i + 1) = ps_tt so a i + a i := by simp [ps_tt, ps_ln, h]
theorem ps_tt_1 {so a : Nat → Int32} {i : Nat} (h : so i = 1) : ps_tt so a (i + 1) = ps_tt so a i + 1 := by simp [ps_tt, ps_ln, h]
theorem ps_tt_2 {so a : Nat → Int32} {i : Nat} (h : so i = 2) : ps_tt so a (i + 1) = ps_tt so a i := by simp [ps_tt, ps_ln, h]
theorem ps_tt_3 {so a : Nat → Int32} {i : Nat} (h : so i = 3) : ps_tt so a (i + 1) = ps_tt so a i := by simp [ps_tt, ps_ln, h]
theorem ps_MI_op {so a : Nat → Int32} {i d k : Nat} {st sk wa re : Nat → Int32} {tt : Int32} (h : ps_MI so a i d k st sk wa re) (hs : so i = 2) (ht : tt = ps_tt so a i) : ps_MI so a (i + 1) (d + 1) k (upd st i tt) (upd sk d (nI i)) wa re := by
  rw [ht]; exact ps_MI_open h hs
theorem ps_ne23 {x y : Int32} {so : Nat → Int32} {i : Nat} (h : so i = x) (hxy : x ≠ y) : ¬ so i = y := by rw [h]; exact hxy
theorem ps_m1 {d : Nat} (h : 0 < d) : nI d + Int32.ofInt (-1) = nI (d - 1) := by
  rw [show Int32.ofInt (-1) = (-1 : Int32) by decide]; exact sb_m1 h
theorem ps_s1 {d : Nat} (h : 0 < d) : nI d - 1 = nI (d - 1) := pk_sub (b := 1) (by omega)
theorem ps_XI_add {n : Nat} {so a : Nat → Int32} {pw un : Int32} {si : Nat → Int32} {mb : Int32} {re : Nat → Int32} {lb : Int32} {ro co fl : Nat → Int32} {lr gc : Int32} (h : ps_XI n so a pw un si mb re lb ro co fl lr gc) {b : Bool} (hb : b = decide (n < 60)) {x y z un' : Int32} (hz : z = if x = 1 then 1 else y) (hx : x = 0 ∨ x = 1 ∨ x = 2 ∨ x = 3) (h3 : x = 3 → 0 < ps_dp so n) (h2 : x = 2 → ps_dp so n < 12) (hu : un' = nI (ps_dp (ps_u b n so x) (ps_n b n))) : ps_XI (ps_n b n) (ps_u b n so x) (ps_u b n a y) pw un' (ps_u b n si z) (ps_z b mb) re (ps_z b lb) ro co fl lr gc := by
  obtain ⟨g1, g2, g3, g4, g5⟩ := h
  subst hb
  by_cases h60 : n < 60
  · simp only [ps_n, ps_u, ps_z, decide_eq_true h60, if_true] at hu ⊢
    exact ⟨ps_ok_add g1 h60 hx h3 h2, hu, ps_si_add g3 hz, Or.inl rfl, Or.inl rfl⟩
  · simp only [ps_n, ps_u, ps_z, decide_eq_false h60, Bool.false_eq_true, if_false] at hu ⊢
    exact ⟨g1, hu, g3, g4, g5⟩
theorem ps_dp_01 {n : Nat} {so : Nat → Int32} {b : Bool} {x : Int32} (hx : x = 0 ∨ x = 1) : ps_dp (ps_u b n so x) (ps_n b n) = ps_dp so n := by
  cases b with
  | false => rfl
  | true =>
    show ps_dp (upd so n x) (n + 1) = _
    rw [ps_dp_add]
    rcases hx with h | h
    · rw [h]; rfl
    · rw [h]; rfl
theorem ps_dp_2 {n : Nat} {so : Nat → Int32} {b : Bool} : ps_dp (ps_u b n so 2) (ps_n b n) = if b = true then ps_dp so n + 1 else ps_dp so n := by
  cases b with
  | false => rfl
  | true =>
    show ps_dp (upd so n 2) (n + 1) = _
    rw [ps_dp_add]; rfl
theorem ps_dp_3 {n : Nat} {so : Nat → Int32} {b : Bool} : ps_dp (ps_u b n so 3) (ps_n b n) = if b = true then ps_dp so n - 1 else ps_dp so n := by
  cases b with
  | false => rfl
  | true =>
    show ps_dp (upd so n 3) (n + 1) = _
    rw [ps_dp_add]; rfl
/-- a question about piece x -/
def ps_q (n : Nat) (x : Int32) (f : Nat → Int32) : Int32 := if x < 0 ∨ nI n ≤ x then -1 else f x.toNatClampNeg
theorem ps_q_no {n : Nat} {x : Int32} {f : Nat → Int32} (h : x < 0 ∨ nI n ≤ x) : ps_q n x f = -1 := if_pos h
theorem ps_q_in {n j : Nat} {f : Nat → Int32} (h : j < n) (hn : n ≤ 60) : ps_q n (nI j) f = f j := by
  unfold ps_q
  rw [if_neg, nI_clamp (by omega)]
  rintro (z | z)
  · exact nI_pos (by omega) z
  · exact absurd ((nI_leI (by omega) (by omega)).mp z) (by omega)
theorem ps_tp0 {d : Nat} {F : Nat → Int32} (h : d = 0) : ps_tp d F = 0 := if_pos h
theorem ps_tp1 {d : Nat} {F : Nat → Int32} (h : ¬ d = 0) : ps_tp d F = F (d - 1) := if_neg h
theorem ps_en1 {d : Nat} {F : Nat → Int32} {col g w : Int32} (h : ps_tp d F ≠ 0 ∨ col + g ≤ w) : 1 = ps_en d F col g w := (if_pos h).symm
theorem ps_en0 {d : Nat} {F : Nat → Int32} {col g w : Int32} (h1 : ps_tp d F = 0) (h2 : ¬ col + g ≤ w) : 0 = ps_en d F col g w := (if_neg (fun z => z.elim (fun y => y h1) h2)).symm
theorem ps_mx_le {g c : Int32} (h : c ≤ g) : ps_mx g c = g := if_neg (Int32.not_lt.mpr h)
theorem ps_mx_gt {g c : Int32} (h : ¬ c ≤ g) : ps_mx g c = c := if_pos (Int32.not_le.mp h)
/-- the reach loop's step -/
theorem ps_gl_next {so : Nat → Int32} {p i L L1 L2 : Nat} (h : p < i) (hg : ps_gl so p i = some L) (h1 : L1 = if 0 < L ∧ so i = 2 then L + 1 else L) (h2 : L2 = if 0 < L1 ∧ so i = 3 then L1 - 1 else L1) : ps_gl so p (i + 1) = if L2 = 0 ∧ so i = 1 then none else some L2 := by
  rw [ps_gl_some h hg]
  subst h2
  subst h1
  unfold ps_st
  by_cases e2 : so i = 2
  · by_cases eL : L = 0
    · simp [e2, eL]
    · simp [e2, eL, Nat.pos_of_ne_zero eL]
  · by_cases e3 : so i = 3
    · by_cases eL : L = 0
      · simp [e3, eL]
      · simp [e3, eL, Nat.pos_of_ne_zero eL]
    · by_cases e1 : so i = 1
      · by_cases eL : L = 0
        · simp [e1, eL]
        · simp [e1, eL]
      · simp [e1, e2, e3]
end
section
set_option maxHeartbeats 4000000 in
set_option maxRecDepth 100000 in
/-- width(x): the width, held to 1 .. 100 -/
theorem mX_width (l : Launch) (dC : Nat → ClassId) (dI : Nat → Nat → Nat) (cI cZ : ClassId) (h0 sz : Nat) (qa : Nat → Nat) (pw pn un : Int32) (so si : Nat → Int32) (mb : Int32) (re st sk wa : Nat → Int32) (lb : Int32) (ro co fl ma : Nat → Int32) (lr gc : Int32) (x : Int32) : Met l yX1_width (ws_ yX1_width cX1_width 2 none) ({ frames := 0, cells := 0, slots := 0, locals := 0 }) (va_Pc [.ref h0, .int x] (preW dC dI cI cZ sz (wX h0 qa cI cZ pw pn un so si mb re st sk wa lb ro co fl ma lr gc))) (va_Qv (fun _ : Unit => True) (fun u t => posW dC dI cI cZ (va_A (wX h0 qa cI cZ pw pn un so si mb re st sk wa lb ro co fl ma lr gc) sz) (wX h0 qa cI cZ (ps_wd x) pn un so si mb re st sk wa 0 ro co fl ma lr gc) t) (va_A (wX h0 qa cI cZ pw pn un so si mb re st sk wa lb ro co fl ma lr gc) sz)) 0 0 (va_A (wX h0 qa cI cZ pw pn un so si mb re st sk wa lb ro co fl ma lr gc) sz) := by
  refine Met.ofW (cc := cX1_width) (maxL := 2) (ret := none) (by decide) rfl ?_
  intro p e s m args below meth c s₁ B hml hv
  obtain ⟨rfl, hsz, hP, hK, hD0⟩ := hv
  have hx := B.exec
  have hb := B.bytes
  have hr := B.returns
  have hts := atoms_spec (ws := ws_ yX1_width cX1_width 2 none) B.pre
  have hts : ∀ w ∈ lw_all, w.before _ s = true := fun w h => hts w (List.mem_cons_of_mem _ h)
  have hown : s.vm.findClass RX1 = some m.cls := findClass_of_methodNamed B.named
  have hlocks := B.notSynchronized
  subst hsz
  have hD := hD0.self (sz := s.heap.size)
  generalize hAe : va_A (wX h0 qa cI cZ pw pn un so si mb re st sk wa lb ro co fl ma lr gc) s.heap.size = A at hD ⊢
  have hA : ∀ q : Nat, s.heap.size ≤ q → A q := fun q h => by rw [← hAe]; exact Or.inr h
  have hS : va_S A s.heap s.heap [] := va_S.rf
  have hl := lv_entry ([.ref h0, .int x]) (n := 2) (Nat.le_of_ble_eq_true rfl)
  rw [lg_entry_eq]
  generalize (lg_sl ([.ref h0, .int x]) ++ List.replicate (2 - (lg_sl ([.ref h0, .int x])).length) Slot.unset).toArray = ls at hl ⊢
  have hl : lv_has ls 2 [(0, .ref h0), (1, .int x)] := hl
  refine zl_cut (pc := 22) (I := fun H locs ls stk => ∃ (v : Int32), v = ps_wd x ∧ stk = [.int v, .ref h0] ∧ va_P (dC, dI) vwCl (wX h0 qa cI cZ pw pn un so si mb re st sk wa lb ro co fl ma lr gc) H ∧ va_D A (wX h0 qa cI cZ pw pn un so si mb re st sk wa lb ro co fl ma lr gc) ∧ va_S A s.heap H locs ∧ lv_has ls 2 [(0, .ref h0), (1, .int x)]) ?_ (fun J => ?_)
  · intro H locs ls stk hI
    obtain ⟨v, hv, rfl, hP, hD, hS, hl⟩ := hI
    subst hv
    refine va_put (D := (dC, dI)) (ci := 0) (v := .int (ps_wd x)) (ty := .int) (C := RX1) (T := TX1) (N := 17) hx hb hts in_X1 tyX1 tyX1_ok nmX1 hown hK hP hD hS 0 rfl rfl 0 (by decide) (hts _ q26) (fun _ h9 => h9) rfl (by decide +kernel) rfl rfl (Nat.le_of_ble_eq_true rfl) dX1_width_22 (fun H locs hP hD hS => ?_)
    have hP : va_P (dC, dI) vwCl (wX h0 qa cI cZ (ps_wd x) pn un so si mb re st sk wa lb ro co fl ma lr gc) H := hP
    have hD : va_D A (wX h0 qa cI cZ (ps_wd x) pn un so si mb re st sk wa lb ro co fl ma lr gc) := hD
    refine lv_aload_n hx hb dX1_width_25 rfl (lv_at hl 0 rfl) ?_
    refine lv_iconst (v := 0) hx hb dX1_width_26 (by decide) ?_
    refine va_put (D := (dC, dI)) (ci := 0) (v := .int 0) (ty := .boolean) (C := RX1) (T := TX1) (N := 17) hx hb hts in_X1 tyX1 tyX1_ok nmX1 hown hK hP hD hS 0 rfl rfl 10 (by decide) (hts _ q36) (fun _ h9 => h9) rfl (by decide +kernel) rfl rfl (Nat.le_of_ble_eq_true rfl) dX1_width_27 (fun H locs hP hD hS => ?_)
    have hP : va_P (dC, dI) vwCl (wX h0 qa cI cZ (ps_wd x) pn un so si mb re st sk wa 0 ro co fl ma lr gc) H := hP
    have hD : va_D A (wX h0 qa cI cZ (ps_wd x) pn un so si mb re st sk wa 0 ro co fl ma lr gc) := hD
    exact W.vret hx hb hr (fun t ht hW => ⟨⟨(), rfl, trivial, by rw [ht]; exact hP, va_K.moved hW.alike hK, hD⟩, hS.F ht⟩) hS.2.2 dX1_width_30
  refine lv_aload_n hx hb dX1_width_0 rfl (lv_at hl 0 rfl) ?_
  refine lv_iload_n hx hb dX1_width_1 rfl (lv_at hl 1 rfl) ?_
  refine lv_iconst (v := 1) hx hb dX1_width_2 (by decide) ?_
  refine lv_icmp_ge (tgt := 10) hx hb dX1_width_3 (by decide) (fun c_3 => ?_) (fun c_3 => ?_)
  · refine lv_iload_n hx hb dX1_width_10 rfl (lv_at hl 1 rfl) ?_
    refine lv_bipush (v := 100) hx hb dX1_width_11 (by decide) ?_
    refine lv_icmp_le (tgt := 21) hx hb dX1_width_13 (by decide) (fun c_13 => ?_) (fun c_13 => ?_)
    · refine lv_iload_n hx hb dX1_width_21 rfl (lv_at hl 1 rfl) ?_
      exact J _ _ _ _ ⟨x, by unfold ps_wd; rw [if_neg (Int32.not_lt.mpr c_3), if_neg (Int32.not_lt.mpr c_13)], rfl, hP, hD, hS, lv_sub hl [0, 1] rfl⟩
    · refine lv_bipush (v := 100) hx hb dX1_width_16 (by decide) ?_
      refine lv_goto (tgt := 22) hx hb dX1_width_18 (by decide) ?_
      exact J _ _ _ _ ⟨100, by unfold ps_wd; rw [if_neg (Int32.not_lt.mpr c_3), if_pos (Int32.not_le.mp c_13)], rfl, hP, hD, hS, lv_sub hl [0, 1] rfl⟩
  · refine lv_iconst (v := 1) hx hb dX1_width_6 (by decide) ?_
    refine lv_goto (tgt := 22) hx hb dX1_width_7 (by decide) ?_
    exact J _ _ _ _ ⟨1, by unfold ps_wd; rw [if_pos (by rw [Int32.not_le] at c_3; exact c_3)], rfl, hP, hD, hS, lv_sub hl [0, 1] rfl⟩
set_option maxHeartbeats 4000000 in
set_option maxRecDepth 100000 in
/-- width(x): the width, held to 1 .. 100 -/
theorem mM_width (l : Launch) (dC : Nat → ClassId) (dI : Nat → Nat → Nat) (cI cZ : ClassId) (h0 sz : Nat) (qa : Nat → Nat) (pw pn : Int32) (so a : Nat → Int32) (dp : Int32) (fs mg ro co fl : Nat → Int32) (lr gc : Int32) (x : Int32) : Met l yX2_width (ws_ yX2_width cX2_width 2 none) ({ frames := 0, cells := 0, slots := 0, locals := 0 }) (va_Pc [.ref h0, .int x] (preW dC dI cI cZ sz (wM h0 qa cI cZ pw pn so a dp fs mg ro co fl lr gc))) (va_Qv (fun _ : Unit => True) (fun u t => posW dC dI cI cZ (va_A (wM h0 qa cI cZ pw pn so a dp fs mg ro co fl lr gc) sz) (wM h0 qa cI cZ (ps_wd x) pn so a dp fs mg ro co fl lr gc) t) (va_A (wM h0 qa cI cZ pw pn so a dp fs mg ro co fl lr gc) sz)) 0 0 (va_A (wM h0 qa cI cZ pw pn so a dp fs mg ro co fl lr gc) sz) := by
  refine Met.ofW (cc := cX2_width) (maxL := 2) (ret := none) (by decide) rfl ?_
  intro p e s m args below meth c s₁ B hml hv
  obtain ⟨rfl, hsz, hP, hK, hD0⟩ := hv
  have hx := B.exec
  have hb := B.bytes
  have hr := B.returns
  have hts := atoms_spec (ws := ws_ yX2_width cX2_width 2 none) B.pre
  have hts : ∀ w ∈ lw_all, w.before _ s = true := fun w h => hts w (List.mem_cons_of_mem _ h)
  have hown : s.vm.findClass RX2 = some m.cls := findClass_of_methodNamed B.named
  have hlocks := B.notSynchronized
  subst hsz
  have hD := hD0.self (sz := s.heap.size)
  generalize hAe : va_A (wM h0 qa cI cZ pw pn so a dp fs mg ro co fl lr gc) s.heap.size = A at hD ⊢
  have hA : ∀ q : Nat, s.heap.size ≤ q → A q := fun q h => by rw [← hAe]; exact Or.inr h
  have hS : va_S A s.heap s.heap [] := va_S.rf
  have hl := lv_entry ([.ref h0, .int x]) (n := 2) (Nat.le_of_ble_eq_true rfl)
  rw [lg_entry_eq]
  generalize (lg_sl ([.ref h0, .int x]) ++ List.replicate (2 - (lg_sl ([.ref h0, .int x])).length) Slot.unset).toArray = ls at hl ⊢
  have hl : lv_has ls 2 [(0, .ref h0), (1, .int x)] := hl
  refine zl_cut (pc := 22) (I := fun H locs ls stk => ∃ (v : Int32), v = ps_wd x ∧ stk = [.int v, .ref h0] ∧ va_P (dC, dI) vwCl (wM h0 qa cI cZ pw pn so a dp fs mg ro co fl lr gc) H ∧ va_D A (wM h0 qa cI cZ pw pn so a dp fs mg ro co fl lr gc) ∧ va_S A s.heap H locs ∧ lv_has ls 2 [(0, .ref h0), (1, .int x)]) ?_ (fun J => ?_)
  · intro H locs ls stk hI
    obtain ⟨v, hv, rfl, hP, hD, hS, hl⟩ := hI
    subst hv
    refine va_put (D := (dC, dI)) (ci := 1) (v := .int (ps_wd x)) (ty := .int) (C := RX2) (T := TX2) (N := 12) hx hb hts in_X2 tyX2 tyX2_ok nmX2 hown hK hP hD hS 0 rfl rfl 0 (by decide) (hts _ q154) (fun _ h9 => h9) rfl (by decide +kernel) rfl rfl (Nat.le_of_ble_eq_true rfl) dX2_width_22 (fun H locs hP hD hS => ?_)
    have hP : va_P (dC, dI) vwCl (wM h0 qa cI cZ (ps_wd x) pn so a dp fs mg ro co fl lr gc) H := hP
    have hD : va_D A (wM h0 qa cI cZ (ps_wd x) pn so a dp fs mg ro co fl lr gc) := hD
    exact W.vret hx hb hr (fun t ht hW => ⟨⟨(), rfl, trivial, by rw [ht]; exact hP, va_K.moved hW.alike hK, hD⟩, hS.F ht⟩) hS.2.2 dX2_width_25
  refine lv_aload_n hx hb dX2_width_0 rfl (lv_at hl 0 rfl) ?_
  refine lv_iload_n hx hb dX2_width_1 rfl (lv_at hl 1 rfl) ?_
  refine lv_iconst (v := 1) hx hb dX2_width_2 (by decide) ?_
  refine lv_icmp_ge (tgt := 10) hx hb dX2_width_3 (by decide) (fun c_3 => ?_) (fun c_3 => ?_)
  · refine lv_iload_n hx hb dX2_width_10 rfl (lv_at hl 1 rfl) ?_
    refine lv_bipush (v := 100) hx hb dX2_width_11 (by decide) ?_
    refine lv_icmp_le (tgt := 21) hx hb dX2_width_13 (by decide) (fun c_13 => ?_) (fun c_13 => ?_)
    · refine lv_iload_n hx hb dX2_width_21 rfl (lv_at hl 1 rfl) ?_
      exact J _ _ _ _ ⟨x, by unfold ps_wd; rw [if_neg (Int32.not_lt.mpr c_3), if_neg (Int32.not_lt.mpr c_13)], rfl, hP, hD, hS, lv_sub hl [0, 1] rfl⟩
    · refine lv_bipush (v := 100) hx hb dX2_width_16 (by decide) ?_
      refine lv_goto (tgt := 22) hx hb dX2_width_18 (by decide) ?_
      exact J _ _ _ _ ⟨100, by unfold ps_wd; rw [if_neg (Int32.not_lt.mpr c_3), if_pos (Int32.not_le.mp c_13)], rfl, hP, hD, hS, lv_sub hl [0, 1] rfl⟩
  · refine lv_iconst (v := 1) hx hb dX2_width_6 (by decide) ?_
    refine lv_goto (tgt := 22) hx hb dX2_width_7 (by decide) ?_
    exact J _ _ _ _ ⟨1, by unfold ps_wd; rw [if_pos (by rw [Int32.not_le] at c_3; exact c_3)], rfl, hP, hD, hS, lv_sub hl [0, 1] rfl⟩
set_option maxHeartbeats 4000000 in
set_option maxRecDepth 100000 in
/-- addPiece: the piece is taken if there is room -/
theorem mX_addPiece (l : Launch) (dC : Nat → ClassId) (dI : Nat → Nat → Nat) (cI cZ : ClassId) (h0 sz : Nat) (qa : Nat → Nat) (pw : Int32) (n : Nat) (un : Int32) (so si : Nat → Int32) (mb : Int32) (re st sk wa : Nat → Int32) (lb : Int32) (ro co fl ma : Nat → Int32) (lr gc : Int32) (x y : Int32) (hn : n ≤ 60) : Met l yX1_addPiece (ws_ yX1_addPiece cX1_addPiece 3 (some .int)) ({ frames := 0, cells := 0, slots := 0, locals := 0 }) (va_Pc [.ref h0, .int x, .int y] (preW dC dI cI cZ sz (wX h0 qa cI cZ pw (nI n) un so si mb re st sk wa lb ro co fl ma lr gc))) (va_Qi (fun (r : Int32) (_ : Unit) => r = ps_r (decide (n < 60)) n) (fun u t => posW dC dI cI cZ (va_A (wX h0 qa cI cZ pw (nI n) un so si mb re st sk wa lb ro co fl ma lr gc) sz) (wX h0 qa cI cZ pw (nI (ps_n (decide (n < 60)) n)) un (ps_u (decide (n < 60)) n so x) (ps_u (decide (n < 60)) n si y) (ps_z (decide (n < 60)) mb) re st sk wa (ps_z (decide (n < 60)) lb) ro co fl ma lr gc) t) (va_A (wX h0 qa cI cZ pw (nI n) un so si mb re st sk wa lb ro co fl ma lr gc) sz)) 0 0 (va_A (wX h0 qa cI cZ pw (nI n) un so si mb re st sk wa lb ro co fl ma lr gc) sz) := by
  refine Met.ofW (cc := cX1_addPiece) (maxL := 3) (ret := (some .int)) (by decide) rfl ?_
  intro p e s m args below meth c s₁ B hml hv
  obtain ⟨rfl, hsz, hP, hK, hD0⟩ := hv
  have hx := B.exec
  have hb := B.bytes
  have hr := B.returns
  have hts := atoms_spec (ws := ws_ yX1_addPiece cX1_addPiece 3 (some .int)) B.pre
  have hts : ∀ w ∈ lw_all, w.before _ s = true := fun w h => hts w (List.mem_cons_of_mem _ h)
  have hown : s.vm.findClass RX1 = some m.cls := findClass_of_methodNamed B.named
  have hlocks := B.notSynchronized
  subst hsz
  have hD := hD0.self (sz := s.heap.size)
  generalize hAe : va_A (wX h0 qa cI cZ pw (nI n) un so si mb re st sk wa lb ro co fl ma lr gc) s.heap.size = A at hD ⊢
  have hA : ∀ q : Nat, s.heap.size ≤ q → A q := fun q h => by rw [← hAe]; exact Or.inr h
  have hS : va_S A s.heap s.heap [] := va_S.rf
  have hl := lv_entry ([.ref h0, .int x, .int y]) (n := 3) (Nat.le_of_ble_eq_true rfl)
  rw [lg_entry_eq]
  generalize (lg_sl ([.ref h0, .int x, .int y]) ++ List.replicate (3 - (lg_sl ([.ref h0, .int x, .int y])).length) Slot.unset).toArray = ls at hl ⊢
  have hl : lv_has ls 3 [(0, .ref h0), (1, .int x), (2, .int y)] := hl
  by_cases h60 : n < 60
  · have hd : (decide (n < 60)) = true := decide_eq_true h60
    simp only [hd, ps_n, ps_u, ps_r, ps_z, if_true]
    refine lv_aload_n hx hb dX1_addPiece_0 rfl (lv_at hl 0 rfl) ?_
    refine va_get (D := (dC, dI)) (ci := 0) (v := .int (nI n)) (C := RX1) (T := TX1) (N := 17) hx hb hts in_X1 hown hK hP 0 rfl rfl 1 (by decide) (hts _ q27) (fun _ h9 => h9) rfl dX1_addPiece_1 ?_
    refine lv_bipush (v := 60) hx hb dX1_addPiece_4 (by decide) ?_
    refine lv_icmp_lt (tgt := 11) hx hb dX1_addPiece_6 (by decide) (fun c_6 => ?_) (fun c_6 => absurd ((nI_ltI (a := n) (b := 60) (by omega) (by omega)).mpr h60) c_6)
    refine lv_aload_n hx hb dX1_addPiece_11 rfl (lv_at hl 0 rfl) ?_
    refine va_get (D := (dC, dI)) (ci := 0) (v := .ref (qa 0)) (C := RX1) (T := TX1) (N := 17) hx hb hts in_X1 hown hK hP 0 rfl rfl 3 (by decide) (hts _ q29) (fun _ h9 => h9) rfl dX1_addPiece_12 ?_
    refine lv_aload_n hx hb dX1_addPiece_15 rfl (lv_at hl 0 rfl) ?_
    refine va_get (D := (dC, dI)) (ci := 0) (v := .int (nI n)) (C := RX1) (T := TX1) (N := 17) hx hb hts in_X1 hown hK hP 0 rfl rfl 1 (by decide) (hts _ q27) (fun _ h9 => h9) rfl dX1_addPiece_16 ?_
    refine lv_iload_n hx hb dX1_addPiece_19 rfl (lv_at hl 1 rfl) ?_
    refine zi_ast hx hb hK hP hD hS 1 0 rfl rfl (h60) (by decide) dX1_addPiece_20 (fun H locs hP hD hS => ?_)
    have hP : va_P (dC, dI) vwCl (wX h0 qa cI cZ pw (nI n) un (upd so n x) si mb re st sk wa lb ro co fl ma lr gc) H := hP
    have hD : va_D A (wX h0 qa cI cZ pw (nI n) un (upd so n x) si mb re st sk wa lb ro co fl ma lr gc) := hD
    refine lv_aload_n hx hb dX1_addPiece_21 rfl (lv_at hl 0 rfl) ?_
    refine va_get (D := (dC, dI)) (ci := 0) (v := .ref (qa 1)) (C := RX1) (T := TX1) (N := 17) hx hb hts in_X1 hown hK hP 0 rfl rfl 4 (by decide) (hts _ q30) (fun _ h9 => h9) rfl dX1_addPiece_22 ?_
    refine lv_aload_n hx hb dX1_addPiece_25 rfl (lv_at hl 0 rfl) ?_
    refine va_get (D := (dC, dI)) (ci := 0) (v := .int (nI n)) (C := RX1) (T := TX1) (N := 17) hx hb hts in_X1 hown hK hP 0 rfl rfl 1 (by decide) (hts _ q27) (fun _ h9 => h9) rfl dX1_addPiece_26 ?_
    refine lv_iload_n hx hb dX1_addPiece_29 rfl (lv_at hl 2 rfl) ?_
    refine zi_ast hx hb hK hP hD hS 2 0 rfl rfl (h60) (by decide) dX1_addPiece_30 (fun H locs hP hD hS => ?_)
    have hP : va_P (dC, dI) vwCl (wX h0 qa cI cZ pw (nI n) un (upd so n x) (upd si n y) mb re st sk wa lb ro co fl ma lr gc) H := hP
    have hD : va_D A (wX h0 qa cI cZ pw (nI n) un (upd so n x) (upd si n y) mb re st sk wa lb ro co fl ma lr gc) := hD
    refine lv_aload_n hx hb dX1_addPiece_31 rfl (lv_at hl 0 rfl) ?_
    refine lv_dup hx hb dX1_addPiece_32 rfl ?_
    refine va_get (D := (dC, dI)) (ci := 0) (v := .int (nI n)) (C := RX1) (T := TX1) (N := 17) hx hb hts in_X1 hown hK hP 0 rfl rfl 1 (by decide) (hts _ q27) (fun _ h9 => h9) rfl dX1_addPiece_33 ?_
    refine lv_iconst (v := 1) hx hb dX1_addPiece_36 (by decide) ?_
    refine lv_iadd hx hb dX1_addPiece_37 ?_
    rw [show (nI n) + 1 = nI (n + 1) from nI_1 n]
    refine va_put (D := (dC, dI)) (ci := 0) (v := .int (nI (n + 1))) (ty := .int) (C := RX1) (T := TX1) (N := 17) hx hb hts in_X1 tyX1 tyX1_ok nmX1 hown hK hP hD hS 0 rfl rfl 1 (by decide) (hts _ q27) (fun _ h9 => h9) rfl (by decide +kernel) rfl rfl (Nat.le_of_ble_eq_true rfl) dX1_addPiece_38 (fun H locs hP hD hS => ?_)
    have hP : va_P (dC, dI) vwCl (wX h0 qa cI cZ pw (nI (n + 1)) un (upd so n x) (upd si n y) mb re st sk wa lb ro co fl ma lr gc) H := hP
    have hD : va_D A (wX h0 qa cI cZ pw (nI (n + 1)) un (upd so n x) (upd si n y) mb re st sk wa lb ro co fl ma lr gc) := hD
    refine lv_aload_n hx hb dX1_addPiece_41 rfl (lv_at hl 0 rfl) ?_
    refine lv_iconst (v := 0) hx hb dX1_addPiece_42 (by decide) ?_
    refine va_put (D := (dC, dI)) (ci := 0) (v := .int 0) (ty := .boolean) (C := RX1) (T := TX1) (N := 17) hx hb hts in_X1 tyX1 tyX1_ok nmX1 hown hK hP hD hS 0 rfl rfl 5 (by decide) (hts _ q31) (fun _ h9 => h9) rfl (by decide +kernel) rfl rfl (Nat.le_of_ble_eq_true rfl) dX1_addPiece_43 (fun H locs hP hD hS => ?_)
    have hP : va_P (dC, dI) vwCl (wX h0 qa cI cZ pw (nI (n + 1)) un (upd so n x) (upd si n y) 0 re st sk wa lb ro co fl ma lr gc) H := hP
    have hD : va_D A (wX h0 qa cI cZ pw (nI (n + 1)) un (upd so n x) (upd si n y) 0 re st sk wa lb ro co fl ma lr gc) := hD
    refine lv_aload_n hx hb dX1_addPiece_46 rfl (lv_at hl 0 rfl) ?_
    refine lv_iconst (v := 0) hx hb dX1_addPiece_47 (by decide) ?_
    refine va_put (D := (dC, dI)) (ci := 0) (v := .int 0) (ty := .boolean) (C := RX1) (T := TX1) (N := 17) hx hb hts in_X1 tyX1 tyX1_ok nmX1 hown hK hP hD hS 0 rfl rfl 10 (by decide) (hts _ q36) (fun _ h9 => h9) rfl (by decide +kernel) rfl rfl (Nat.le_of_ble_eq_true rfl) dX1_addPiece_48 (fun H locs hP hD hS => ?_)
    have hP : va_P (dC, dI) vwCl (wX h0 qa cI cZ pw (nI (n + 1)) un (upd so n x) (upd si n y) 0 re st sk wa 0 ro co fl ma lr gc) H := hP
    have hD : va_D A (wX h0 qa cI cZ pw (nI (n + 1)) un (upd so n x) (upd si n y) 0 re st sk wa 0 ro co fl ma lr gc) := hD
    refine lv_aload_n hx hb dX1_addPiece_51 rfl (lv_at hl 0 rfl) ?_
    refine va_get (D := (dC, dI)) (ci := 0) (v := .int (nI (n + 1))) (C := RX1) (T := TX1) (N := 17) hx hb hts in_X1 hown hK hP 0 rfl rfl 1 (by decide) (hts _ q27) (fun _ h9 => h9) rfl dX1_addPiece_52 ?_
    exact W.iret (v := nI (n + 1)) hx hb hr (fun t ht hW => ⟨⟨nI (n + 1), (), rfl, rfl, by rw [ht]; exact hP, va_K.moved hW.alike hK, hD⟩, hS.F ht⟩) hS.2.2 dX1_addPiece_55
  · have hd : (decide (n < 60)) = false := decide_eq_false h60
    simp only [hd, ps_n, ps_u, ps_r, ps_z, Bool.false_eq_true, if_false]
    refine lv_aload_n hx hb dX1_addPiece_0 rfl (lv_at hl 0 rfl) ?_
    refine va_get (D := (dC, dI)) (ci := 0) (v := .int (nI n)) (C := RX1) (T := TX1) (N := 17) hx hb hts in_X1 hown hK hP 0 rfl rfl 1 (by decide) (hts _ q27) (fun _ h9 => h9) rfl dX1_addPiece_1 ?_
    refine lv_bipush (v := 60) hx hb dX1_addPiece_4 (by decide) ?_
    refine lv_icmp_lt (tgt := 11) hx hb dX1_addPiece_6 (by decide) (fun c_6 => absurd c_6 (fun z => absurd ((nI_ltI (a := n) (b := 60) (by omega) (by omega)).mp z) h60)) (fun c_6 => ?_)
    refine lv_iconst (v := -1) hx hb dX1_addPiece_9 (by decide) ?_
    exact W.iret (v := (-1)) hx hb hr (fun t ht hW => ⟨⟨(-1), (), rfl, rfl, by rw [ht]; exact hP, va_K.moved hW.alike hK, hD⟩, hS.F ht⟩) hS.2.2 dX1_addPiece_10
set_option maxHeartbeats 4000000 in
set_option maxRecDepth 100000 in
/-- add: the piece is taken if there is room -/
theorem mM_add (l : Launch) (dC : Nat → ClassId) (dI : Nat → Nat → Nat) (cI cZ : ClassId) (h0 sz : Nat) (qa : Nat → Nat) (pw : Int32) (n : Nat) (so a : Nat → Int32) (dp : Int32) (fs mg ro co fl : Nat → Int32) (lr gc : Int32) (x y : Int32) (hn : n ≤ 60) : Met l yX2_add (ws_ yX2_add cX2_add 3 (some .int)) ({ frames := 0, cells := 0, slots := 0, locals := 0 }) (va_Pc [.ref h0, .int x, .int y] (preW dC dI cI cZ sz (wM h0 qa cI cZ pw (nI n) so a dp fs mg ro co fl lr gc))) (va_Qi (fun (r : Int32) (_ : Unit) => r = ps_r (decide (n < 60)) n) (fun u t => posW dC dI cI cZ (va_A (wM h0 qa cI cZ pw (nI n) so a dp fs mg ro co fl lr gc) sz) (wM h0 qa cI cZ pw (nI (ps_n (decide (n < 60)) n)) (ps_u (decide (n < 60)) n so x) (ps_u (decide (n < 60)) n a y) dp fs mg ro co fl lr gc) t) (va_A (wM h0 qa cI cZ pw (nI n) so a dp fs mg ro co fl lr gc) sz)) 0 0 (va_A (wM h0 qa cI cZ pw (nI n) so a dp fs mg ro co fl lr gc) sz) := by
  refine Met.ofW (cc := cX2_add) (maxL := 3) (ret := (some .int)) (by decide) rfl ?_
  intro p e s m args below meth c s₁ B hml hv
  obtain ⟨rfl, hsz, hP, hK, hD0⟩ := hv
  have hx := B.exec
  have hb := B.bytes
  have hr := B.returns
  have hts := atoms_spec (ws := ws_ yX2_add cX2_add 3 (some .int)) B.pre
  have hts : ∀ w ∈ lw_all, w.before _ s = true := fun w h => hts w (List.mem_cons_of_mem _ h)
  have hown : s.vm.findClass RX2 = some m.cls := findClass_of_methodNamed B.named
  have hlocks := B.notSynchronized
  subst hsz
  have hD := hD0.self (sz := s.heap.size)
  generalize hAe : va_A (wM h0 qa cI cZ pw (nI n) so a dp fs mg ro co fl lr gc) s.heap.size = A at hD ⊢
  have hA : ∀ q : Nat, s.heap.size ≤ q → A q := fun q h => by rw [← hAe]; exact Or.inr h
  have hS : va_S A s.heap s.heap [] := va_S.rf
  have hl := lv_entry ([.ref h0, .int x, .int y]) (n := 3) (Nat.le_of_ble_eq_true rfl)
  rw [lg_entry_eq]
  generalize (lg_sl ([.ref h0, .int x, .int y]) ++ List.replicate (3 - (lg_sl ([.ref h0, .int x, .int y])).length) Slot.unset).toArray = ls at hl ⊢
  have hl : lv_has ls 3 [(0, .ref h0), (1, .int x), (2, .int y)] := hl
  by_cases h60 : n < 60
  · have hd : (decide (n < 60)) = true := decide_eq_true h60
    simp only [hd, ps_n, ps_u, ps_r, if_true]
    refine lv_aload_n hx hb dX2_add_0 rfl (lv_at hl 0 rfl) ?_
    refine va_get (D := (dC, dI)) (ci := 1) (v := .int (nI n)) (C := RX2) (T := TX2) (N := 12) hx hb hts in_X2 hown hK hP 0 rfl rfl 1 (by decide) (hts _ q155) (fun _ h9 => h9) rfl dX2_add_1 ?_
    refine lv_bipush (v := 60) hx hb dX2_add_4 (by decide) ?_
    refine lv_icmp_ne (tgt := 11) hx hb dX2_add_6 (by decide) (fun c_6 => ?_) (fun c_6 => absurd c_6 (fun z => absurd ((nI_eq (a := n) (b := 60) (by omega) (by omega)).mp z) (by omega)))
    refine lv_aload_n hx hb dX2_add_11 rfl (lv_at hl 0 rfl) ?_
    refine va_get (D := (dC, dI)) (ci := 1) (v := .ref (qa 0)) (C := RX2) (T := TX2) (N := 12) hx hb hts in_X2 hown hK hP 0 rfl rfl 2 (by decide) (hts _ q156) (fun _ h9 => h9) rfl dX2_add_12 ?_
    refine lv_aload_n hx hb dX2_add_15 rfl (lv_at hl 0 rfl) ?_
    refine va_get (D := (dC, dI)) (ci := 1) (v := .int (nI n)) (C := RX2) (T := TX2) (N := 12) hx hb hts in_X2 hown hK hP 0 rfl rfl 1 (by decide) (hts _ q155) (fun _ h9 => h9) rfl dX2_add_16 ?_
    refine lv_iload_n hx hb dX2_add_19 rfl (lv_at hl 1 rfl) ?_
    refine zi_ast hx hb hK hP hD hS 1 0 rfl rfl (h60) (by decide) dX2_add_20 (fun H locs hP hD hS => ?_)
    have hP : va_P (dC, dI) vwCl (wM h0 qa cI cZ pw (nI n) (upd so n x) a dp fs mg ro co fl lr gc) H := hP
    have hD : va_D A (wM h0 qa cI cZ pw (nI n) (upd so n x) a dp fs mg ro co fl lr gc) := hD
    refine lv_aload_n hx hb dX2_add_21 rfl (lv_at hl 0 rfl) ?_
    refine va_get (D := (dC, dI)) (ci := 1) (v := .ref (qa 1)) (C := RX2) (T := TX2) (N := 12) hx hb hts in_X2 hown hK hP 0 rfl rfl 3 (by decide) (hts _ q157) (fun _ h9 => h9) rfl dX2_add_22 ?_
    refine lv_aload_n hx hb dX2_add_25 rfl (lv_at hl 0 rfl) ?_
    refine va_get (D := (dC, dI)) (ci := 1) (v := .int (nI n)) (C := RX2) (T := TX2) (N := 12) hx hb hts in_X2 hown hK hP 0 rfl rfl 1 (by decide) (hts _ q155) (fun _ h9 => h9) rfl dX2_add_26 ?_
    refine lv_iload_n hx hb dX2_add_29 rfl (lv_at hl 2 rfl) ?_
    refine zi_ast hx hb hK hP hD hS 2 0 rfl rfl (h60) (by decide) dX2_add_30 (fun H locs hP hD hS => ?_)
    have hP : va_P (dC, dI) vwCl (wM h0 qa cI cZ pw (nI n) (upd so n x) (upd a n y) dp fs mg ro co fl lr gc) H := hP
    have hD : va_D A (wM h0 qa cI cZ pw (nI n) (upd so n x) (upd a n y) dp fs mg ro co fl lr gc) := hD
    refine lv_aload_n hx hb dX2_add_31 rfl (lv_at hl 0 rfl) ?_
    refine lv_dup hx hb dX2_add_32 rfl ?_
    refine va_get (D := (dC, dI)) (ci := 1) (v := .int (nI n)) (C := RX2) (T := TX2) (N := 12) hx hb hts in_X2 hown hK hP 0 rfl rfl 1 (by decide) (hts _ q155) (fun _ h9 => h9) rfl dX2_add_33 ?_
    refine lv_iconst (v := 1) hx hb dX2_add_36 (by decide) ?_
    refine lv_iadd hx hb dX2_add_37 ?_
    rw [show (nI n) + 1 = nI (n + 1) from nI_1 n]
    refine va_put (D := (dC, dI)) (ci := 1) (v := .int (nI (n + 1))) (ty := .int) (C := RX2) (T := TX2) (N := 12) hx hb hts in_X2 tyX2 tyX2_ok nmX2 hown hK hP hD hS 0 rfl rfl 1 (by decide) (hts _ q155) (fun _ h9 => h9) rfl (by decide +kernel) rfl rfl (Nat.le_of_ble_eq_true rfl) dX2_add_38 (fun H locs hP hD hS => ?_)
    have hP : va_P (dC, dI) vwCl (wM h0 qa cI cZ pw (nI (n + 1)) (upd so n x) (upd a n y) dp fs mg ro co fl lr gc) H := hP
    have hD : va_D A (wM h0 qa cI cZ pw (nI (n + 1)) (upd so n x) (upd a n y) dp fs mg ro co fl lr gc) := hD
    refine lv_aload_n hx hb dX2_add_41 rfl (lv_at hl 0 rfl) ?_
    refine va_get (D := (dC, dI)) (ci := 1) (v := .int (nI (n + 1))) (C := RX2) (T := TX2) (N := 12) hx hb hts in_X2 hown hK hP 0 rfl rfl 1 (by decide) (hts _ q155) (fun _ h9 => h9) rfl dX2_add_42 ?_
    exact W.iret (v := nI (n + 1)) hx hb hr (fun t ht hW => ⟨⟨nI (n + 1), (), rfl, rfl, by rw [ht]; exact hP, va_K.moved hW.alike hK, hD⟩, hS.F ht⟩) hS.2.2 dX2_add_45
  · have hd : (decide (n < 60)) = false := decide_eq_false h60
    simp only [hd, ps_n, ps_u, ps_r, Bool.false_eq_true, if_false]
    refine lv_aload_n hx hb dX2_add_0 rfl (lv_at hl 0 rfl) ?_
    refine va_get (D := (dC, dI)) (ci := 1) (v := .int (nI n)) (C := RX2) (T := TX2) (N := 12) hx hb hts in_X2 hown hK hP 0 rfl rfl 1 (by decide) (hts _ q155) (fun _ h9 => h9) rfl dX2_add_1 ?_
    refine lv_bipush (v := 60) hx hb dX2_add_4 (by decide) ?_
    refine lv_icmp_ne (tgt := 11) hx hb dX2_add_6 (by decide) (fun c_6 => absurd (congrArg nI (show n = 60 by omega) : nI n = nI 60) c_6) (fun c_6 => ?_)
    refine lv_iconst (v := -1) hx hb dX2_add_9 (by decide) ?_
    exact W.iret (v := (-1)) hx hb hr (fun t ht hW => ⟨⟨(-1), (), rfl, rfl, by rw [ht]; exact hP, va_K.moved hW.alike hK, hD⟩, hS.F ht⟩) hS.2.2 dX2_add_10
set_option maxHeartbeats 4000000 in
set_option maxRecDepth 100000 in
/-- missing -/
theorem mM_missing (l : Launch) (dC : Nat → ClassId) (dI : Nat → Nat → Nat) (cI cZ : ClassId) (h0 sz : Nat) (qa : Nat → Nat) (pw : Int32) (n : Nat) (so a : Nat → Int32) (dp : Int32) (fs mg ro co fl : Nat → Int32) (lr gc : Int32) (x : Int32) : Met l yX2_missing (ws_ yX2_missing cX2_missing 2 (some .boolean)) ({ frames := 0, cells := 0, slots := 0, locals := 0 }) (va_Pc [.ref h0, .int x] (preW dC dI cI cZ sz (wM h0 qa cI cZ pw (nI n) so a dp fs mg ro co fl lr gc))) (va_Qi (fun (r : Int32) (_ : Unit) => r = if x < 0 ∨ nI n ≤ x then 1 else 0) (fun u t => posW dC dI cI cZ (va_A (wM h0 qa cI cZ pw (nI n) so a dp fs mg ro co fl lr gc) sz) (wM h0 qa cI cZ pw (nI n) so a dp fs mg ro co fl lr gc) t) (va_A (wM h0 qa cI cZ pw (nI n) so a dp fs mg ro co fl lr gc) sz)) 0 0 (va_A (wM h0 qa cI cZ pw (nI n) so a dp fs mg ro co fl lr gc) sz) := by
  refine Met.ofW (cc := cX2_missing) (maxL := 2) (ret := (some .boolean)) (by decide) rfl ?_
  intro p e s m args below meth c s₁ B hml hv
  obtain ⟨rfl, hsz, hP, hK, hD0⟩ := hv
  have hx := B.exec
  have hb := B.bytes
  have hr := B.returns
  have hts := atoms_spec (ws := ws_ yX2_missing cX2_missing 2 (some .boolean)) B.pre
  have hts : ∀ w ∈ lw_all, w.before _ s = true := fun w h => hts w (List.mem_cons_of_mem _ h)
  have hown : s.vm.findClass RX2 = some m.cls := findClass_of_methodNamed B.named
  have hlocks := B.notSynchronized
  subst hsz
  have hD := hD0.self (sz := s.heap.size)
  generalize hAe : va_A (wM h0 qa cI cZ pw (nI n) so a dp fs mg ro co fl lr gc) s.heap.size = A at hD ⊢
  have hA : ∀ q : Nat, s.heap.size ≤ q → A q := fun q h => by rw [← hAe]; exact Or.inr h
  have hS : va_S A s.heap s.heap [] := va_S.rf
  have hl := lv_entry ([.ref h0, .int x]) (n := 2) (Nat.le_of_ble_eq_true rfl)
  rw [lg_entry_eq]
  generalize (lg_sl ([.ref h0, .int x]) ++ List.replicate (2 - (lg_sl ([.ref h0, .int x])).length) Slot.unset).toArray = ls at hl ⊢
  have hl : lv_has ls 2 [(0, .ref h0), (1, .int x)] := hl
  refine lv_iload_n hx hb dX2_missing_0 rfl (lv_at hl 1 rfl) ?_
  refine lv_if_lt (tgt := 12) hx hb dX2_missing_1 (by decide) (fun c_1 => ?_) (fun c_1 => ?_)
  · refine lv_iconst (v := 1) hx hb dX2_missing_12 (by decide) ?_
    refine lv_goto (tgt := 17) hx hb dX2_missing_13 (by decide) ?_
    exact W.zret (v := 1) hx hb hr rfl (fun t ht hW => ⟨⟨1, (), rfl, (if_pos (Or.inl c_1)).symm, by rw [ht]; exact hP, va_K.moved hW.alike hK, hD⟩, hS.F ht⟩) hS.2.2 dX2_missing_17
  · refine lv_iload_n hx hb dX2_missing_4 rfl (lv_at hl 1 rfl) ?_
    refine lv_aload_n hx hb dX2_missing_5 rfl (lv_at hl 0 rfl) ?_
    refine va_get (D := (dC, dI)) (ci := 1) (v := .int (nI n)) (C := RX2) (T := TX2) (N := 12) hx hb hts in_X2 hown hK hP 0 rfl rfl 1 (by decide) (hts _ q155) (fun _ h9 => h9) rfl dX2_missing_6 ?_
    refine lv_icmp_lt (tgt := 16) hx hb dX2_missing_9 (by decide) (fun c_9 => ?_) (fun c_9 => ?_)
    · refine lv_iconst (v := 0) hx hb dX2_missing_16 (by decide) ?_
      exact W.zret (v := 0) hx hb hr rfl (fun t ht hW => ⟨⟨0, (), rfl, (if_neg (fun z => z.elim c_1 (Int32.not_le.mpr c_9))).symm, by rw [ht]; exact hP, va_K.moved hW.alike hK, hD⟩, hS.F ht⟩) hS.2.2 dX2_missing_17
    · refine lv_iconst (v := 1) hx hb dX2_missing_12 (by decide) ?_
      refine lv_goto (tgt := 17) hx hb dX2_missing_13 (by decide) ?_
      exact W.zret (v := 1) hx hb hr rfl (fun t ht hW => ⟨⟨1, (), rfl, (if_pos (Or.inr (Int32.not_lt.mp c_9))).symm, by rw [ht]; exact hP, va_K.moved hW.alike hK, hD⟩, hS.F ht⟩) hS.2.2 dX2_missing_17
set_option maxHeartbeats 4000000 in
set_option maxRecDepth 100000 in
/-- waiting: the groups without a close -/
theorem mM_waiting (l : Launch) (dC : Nat → ClassId) (dI : Nat → Nat → Nat) (cI cZ : ClassId) (h0 sz : Nat) (qa : Nat → Nat) (pw : Int32) (n : Nat) (so a : Nat → Int32) (dp : Int32) (fs mg ro co fl : Nat → Int32) (lr gc : Int32) (hok : ps_ok n so) : Met l yX2_waiting (ws_ yX2_waiting cX2_waiting 3 (some .int)) ({ frames := 0, cells := 0, slots := 0, locals := 0 }) (va_Pc [.ref h0] (preW dC dI cI cZ sz (wM h0 qa cI cZ pw (nI n) so a dp fs mg ro co fl lr gc))) (va_Qi (fun (r : Int32) (_ : Unit) => r = nI (ps_dp so n)) (fun u t => posW dC dI cI cZ (va_A (wM h0 qa cI cZ pw (nI n) so a dp fs mg ro co fl lr gc) sz) (wM h0 qa cI cZ pw (nI n) so a dp fs mg ro co fl lr gc) t) (va_A (wM h0 qa cI cZ pw (nI n) so a dp fs mg ro co fl lr gc) sz)) 0 0 (va_A (wM h0 qa cI cZ pw (nI n) so a dp fs mg ro co fl lr gc) sz) := by
  refine Met.ofW (cc := cX2_waiting) (maxL := 3) (ret := (some .int)) (by decide) rfl ?_
  intro p e s m args below meth c s₁ B hml hv
  obtain ⟨rfl, hsz, hP, hK, hD0⟩ := hv
  have hx := B.exec
  have hb := B.bytes
  have hr := B.returns
  have hts := atoms_spec (ws := ws_ yX2_waiting cX2_waiting 3 (some .int)) B.pre
  have hts : ∀ w ∈ lw_all, w.before _ s = true := fun w h => hts w (List.mem_cons_of_mem _ h)
  have hown : s.vm.findClass RX2 = some m.cls := findClass_of_methodNamed B.named
  have hlocks := B.notSynchronized
  subst hsz
  have hD := hD0.self (sz := s.heap.size)
  generalize hAe : va_A (wM h0 qa cI cZ pw (nI n) so a dp fs mg ro co fl lr gc) s.heap.size = A at hD ⊢
  have hA : ∀ q : Nat, s.heap.size ≤ q → A q := fun q h => by rw [← hAe]; exact Or.inr h
  have hS : va_S A s.heap s.heap [] := va_S.rf
  have hl := lv_entry ([.ref h0]) (n := 3) (Nat.le_of_ble_eq_true rfl)
  rw [lg_entry_eq]
  generalize (lg_sl ([.ref h0]) ++ List.replicate (3 - (lg_sl ([.ref h0])).length) Slot.unset).toArray = ls at hl ⊢
  have hl : lv_has ls 3 [(0, .ref h0)] := hl
  refine lv_iconst (v := nI 0) hx hb dX2_waiting_0 (by decide) ?_
  refine lv_istore_n (lv' := [(1, .int (nI 0)), (0, .ref h0)]) hx hb dX2_waiting_1 rfl hl (by decide) rfl (fun ls hl => ?_)
  refine lv_iconst (v := nI 0) hx hb dX2_waiting_2 (by decide) ?_
  refine lv_istore_n (lv' := [(2, .int (nI 0)), (1, .int (nI 0)), (0, .ref h0)]) hx hb dX2_waiting_3 rfl hl (by decide) rfl (fun ls hl => ?_)
  refine zl_loop (I := fun k H locs ls => ∃ (i : Nat), k = n - i ∧ i ≤ n ∧ va_P (dC, dI) vwCl (wM h0 qa cI cZ pw (nI n) so a dp fs mg ro co fl lr gc) H ∧ va_D A (wM h0 qa cI cZ pw (nI n) so a dp fs mg ro co fl lr gc) ∧ va_S A s.heap H locs ∧ lv_has ls 3 [(0, .ref h0), (1, .int (nI (ps_dp so i))), (2, .int (nI i))]) ?_ n _ _ _ ⟨0, rfl, Nat.zero_le n, hP, hD, hS, lv_sub hl [2, 1, 0] rfl⟩
  intro k H locs ls hI ih
  obtain ⟨i, hk, hi, hP, hD, hS, hl⟩ := hI
  have hn : n ≤ 60 := hok.1
  refine lv_iload_n hx hb dX2_waiting_4 rfl (lv_at hl 2 rfl) ?_
  refine lv_aload_n hx hb dX2_waiting_5 rfl (lv_at hl 0 rfl) ?_
  refine va_get (D := (dC, dI)) (ci := 1) (v := .int (nI n)) (C := RX2) (T := TX2) (N := 12) hx hb hts in_X2 hown hK hP 0 rfl rfl 1 (by decide) (hts _ q155) (fun _ h9 => h9) rfl dX2_waiting_6 ?_
  refine lv_icmp_ge (tgt := 44) hx hb dX2_waiting_9 (by decide) (fun c_9 => ?_) (fun c_9 => ?_)
  · have hin : i = n := by have := (nI_leI (by omega) (by omega)).mp c_9; omega
    subst hin
    refine lv_iload_n hx hb dX2_waiting_44 rfl (lv_at hl 1 rfl) ?_
    exact W.iret (v := nI (ps_dp so i)) hx hb hr (fun t ht hW => ⟨⟨nI (ps_dp so i), (), rfl, rfl, by rw [ht]; exact hP, va_K.moved hW.alike hK, hD⟩, hS.F ht⟩) hS.2.2 dX2_waiting_45
  · have hin : i < n := by
      rcases Nat.lt_or_ge i n with z | z
      · exact z
      · exact absurd (nI_le z (by omega)) c_9
    rcases hok.2.1 i hin with h | h | h | h
    · rw [← ps_dp_s0 h] at hl
      refine lv_aload_n hx hb dX2_waiting_12 rfl (lv_at hl 0 rfl) ?_
      refine va_get (D := (dC, dI)) (ci := 1) (v := .ref (qa 0)) (C := RX2) (T := TX2) (N := 12) hx hb hts in_X2 hown hK hP 0 rfl rfl 2 (by decide) (hts _ q156) (fun _ h9 => h9) rfl dX2_waiting_13 ?_
      refine lv_iload_n hx hb dX2_waiting_16 rfl (lv_at hl 2 rfl) ?_
      refine zi_ald (v := so i) hx hb hK hP 1 0 rfl rfl (by omega) (by decide) (rfl) dX2_waiting_17 ?_
      refine lv_iconst (v := 2) hx hb dX2_waiting_18 (by decide) ?_
      refine lv_icmp_ne (tgt := 25) hx hb dX2_waiting_19 (by decide) (fun c_19 => ?_) (fun c_19 => absurd c_19 (ps_ne23 h (by decide)))
      refine lv_aload_n hx hb dX2_waiting_25 rfl (lv_at hl 0 rfl) ?_
      refine va_get (D := (dC, dI)) (ci := 1) (v := .ref (qa 0)) (C := RX2) (T := TX2) (N := 12) hx hb hts in_X2 hown hK hP 0 rfl rfl 2 (by decide) (hts _ q156) (fun _ h9 => h9) rfl dX2_waiting_26 ?_
      refine lv_iload_n hx hb dX2_waiting_29 rfl (lv_at hl 2 rfl) ?_
      refine zi_ald (v := so i) hx hb hK hP 1 0 rfl rfl (by omega) (by decide) (rfl) dX2_waiting_30 ?_
      refine lv_iconst (v := 3) hx hb dX2_waiting_31 (by decide) ?_
      refine lv_icmp_ne (tgt := 38) hx hb dX2_waiting_32 (by decide) (fun c_32 => ?_) (fun c_32 => absurd c_32 (ps_ne23 h (by decide)))
      refine lv_iinc (v := nI (i + 1)) (lv' := [(2, .int (nI (i + 1))), (0, .ref h0), (1, .int (nI (ps_dp so (i + 1))))]) hx hb dX2_waiting_38 hl (k := 2) rfl (nI_1 _) (by decide) rfl (fun ls hl => ?_)
      refine lv_goto (tgt := 4) hx hb dX2_waiting_41 (by decide) ?_
      exact ih (n - (i + 1)) _ _ _ (by omega) ⟨i + 1, rfl, by omega, hP, hD, hS, lv_sub hl [1, 2, 0] rfl⟩
    · rw [← ps_dp_s1 h] at hl
      refine lv_aload_n hx hb dX2_waiting_12 rfl (lv_at hl 0 rfl) ?_
      refine va_get (D := (dC, dI)) (ci := 1) (v := .ref (qa 0)) (C := RX2) (T := TX2) (N := 12) hx hb hts in_X2 hown hK hP 0 rfl rfl 2 (by decide) (hts _ q156) (fun _ h9 => h9) rfl dX2_waiting_13 ?_
      refine lv_iload_n hx hb dX2_waiting_16 rfl (lv_at hl 2 rfl) ?_
      refine zi_ald (v := so i) hx hb hK hP 1 0 rfl rfl (by omega) (by decide) (rfl) dX2_waiting_17 ?_
      refine lv_iconst (v := 2) hx hb dX2_waiting_18 (by decide) ?_
      refine lv_icmp_ne (tgt := 25) hx hb dX2_waiting_19 (by decide) (fun c_19 => ?_) (fun c_19 => absurd c_19 (ps_ne23 h (by decide)))
      refine lv_aload_n hx hb dX2_waiting_25 rfl (lv_at hl 0 rfl) ?_
      refine va_get (D := (dC, dI)) (ci := 1) (v := .ref (qa 0)) (C := RX2) (T := TX2) (N := 12) hx hb hts in_X2 hown hK hP 0 rfl rfl 2 (by decide) (hts _ q156) (fun _ h9 => h9) rfl dX2_waiting_26 ?_
      refine lv_iload_n hx hb dX2_waiting_29 rfl (lv_at hl 2 rfl) ?_
      refine zi_ald (v := so i) hx hb hK hP 1 0 rfl rfl (by omega) (by decide) (rfl) dX2_waiting_30 ?_
      refine lv_iconst (v := 3) hx hb dX2_waiting_31 (by decide) ?_
      refine lv_icmp_ne (tgt := 38) hx hb dX2_waiting_32 (by decide) (fun c_32 => ?_) (fun c_32 => absurd c_32 (ps_ne23 h (by decide)))
      refine lv_iinc (v := nI (i + 1)) (lv' := [(2, .int (nI (i + 1))), (0, .ref h0), (1, .int (nI (ps_dp so (i + 1))))]) hx hb dX2_waiting_38 hl (k := 2) rfl (nI_1 _) (by decide) rfl (fun ls hl => ?_)
      refine lv_goto (tgt := 4) hx hb dX2_waiting_41 (by decide) ?_
      exact ih (n - (i + 1)) _ _ _ (by omega) ⟨i + 1, rfl, by omega, hP, hD, hS, lv_sub hl [1, 2, 0] rfl⟩
    · refine lv_aload_n hx hb dX2_waiting_12 rfl (lv_at hl 0 rfl) ?_
      refine va_get (D := (dC, dI)) (ci := 1) (v := .ref (qa 0)) (C := RX2) (T := TX2) (N := 12) hx hb hts in_X2 hown hK hP 0 rfl rfl 2 (by decide) (hts _ q156) (fun _ h9 => h9) rfl dX2_waiting_13 ?_
      refine lv_iload_n hx hb dX2_waiting_16 rfl (lv_at hl 2 rfl) ?_
      refine zi_ald (v := so i) hx hb hK hP 1 0 rfl rfl (by omega) (by decide) (rfl) dX2_waiting_17 ?_
      refine lv_iconst (v := 2) hx hb dX2_waiting_18 (by decide) ?_
      refine lv_icmp_ne (tgt := 25) hx hb dX2_waiting_19 (by decide) (fun c_19 => absurd h c_19) (fun c_19 => ?_)
      refine lv_iinc (v := nI (ps_dp so (i + 1))) (lv' := [(1, .int (nI (ps_dp so (i + 1)))), (0, .ref h0), (2, .int (nI i))]) hx hb dX2_waiting_22 hl (k := 1) rfl (by rw [ps_dp_s2 h]; exact nI_1 _) (by decide) rfl (fun ls hl => ?_)
      refine lv_aload_n hx hb dX2_waiting_25 rfl (lv_at hl 1 rfl) ?_
      refine va_get (D := (dC, dI)) (ci := 1) (v := .ref (qa 0)) (C := RX2) (T := TX2) (N := 12) hx hb hts in_X2 hown hK hP 0 rfl rfl 2 (by decide) (hts _ q156) (fun _ h9 => h9) rfl dX2_waiting_26 ?_
      refine lv_iload_n hx hb dX2_waiting_29 rfl (lv_at hl 2 rfl) ?_
      refine zi_ald (v := so i) hx hb hK hP 1 0 rfl rfl (by omega) (by decide) (rfl) dX2_waiting_30 ?_
      refine lv_iconst (v := 3) hx hb dX2_waiting_31 (by decide) ?_
      refine lv_icmp_ne (tgt := 38) hx hb dX2_waiting_32 (by decide) (fun c_32 => ?_) (fun c_32 => absurd c_32 (ps_ne23 h (by decide)))
      refine lv_iinc (v := nI (i + 1)) (lv' := [(2, .int (nI (i + 1))), (1, .int (nI (ps_dp so (i + 1)))), (0, .ref h0)]) hx hb dX2_waiting_38 hl (k := 2) rfl (nI_1 _) (by decide) rfl (fun ls hl => ?_)
      refine lv_goto (tgt := 4) hx hb dX2_waiting_41 (by decide) ?_
      exact ih (n - (i + 1)) _ _ _ (by omega) ⟨i + 1, rfl, by omega, hP, hD, hS, lv_sub hl [2, 1, 0] rfl⟩
    · refine lv_aload_n hx hb dX2_waiting_12 rfl (lv_at hl 0 rfl) ?_
      refine va_get (D := (dC, dI)) (ci := 1) (v := .ref (qa 0)) (C := RX2) (T := TX2) (N := 12) hx hb hts in_X2 hown hK hP 0 rfl rfl 2 (by decide) (hts _ q156) (fun _ h9 => h9) rfl dX2_waiting_13 ?_
      refine lv_iload_n hx hb dX2_waiting_16 rfl (lv_at hl 2 rfl) ?_
      refine zi_ald (v := so i) hx hb hK hP 1 0 rfl rfl (by omega) (by decide) (rfl) dX2_waiting_17 ?_
      refine lv_iconst (v := 2) hx hb dX2_waiting_18 (by decide) ?_
      refine lv_icmp_ne (tgt := 25) hx hb dX2_waiting_19 (by decide) (fun c_19 => ?_) (fun c_19 => absurd c_19 (ps_ne23 h (by decide)))
      refine lv_aload_n hx hb dX2_waiting_25 rfl (lv_at hl 0 rfl) ?_
      refine va_get (D := (dC, dI)) (ci := 1) (v := .ref (qa 0)) (C := RX2) (T := TX2) (N := 12) hx hb hts in_X2 hown hK hP 0 rfl rfl 2 (by decide) (hts _ q156) (fun _ h9 => h9) rfl dX2_waiting_26 ?_
      refine lv_iload_n hx hb dX2_waiting_29 rfl (lv_at hl 2 rfl) ?_
      refine zi_ald (v := so i) hx hb hK hP 1 0 rfl rfl (by omega) (by decide) (rfl) dX2_waiting_30 ?_
      refine lv_iconst (v := 3) hx hb dX2_waiting_31 (by decide) ?_
      refine lv_icmp_ne (tgt := 38) hx hb dX2_waiting_32 (by decide) (fun c_32 => absurd h c_32) (fun c_32 => ?_)
      refine lv_iinc (v := nI (ps_dp so (i + 1))) (lv' := [(1, .int (nI (ps_dp so (i + 1)))), (0, .ref h0), (2, .int (nI i))]) hx hb dX2_waiting_35 hl (k := 1) rfl (by rw [ps_dp_s3 h]; exact ps_m1 (hok.2.2.1 i hin h)) (by decide) rfl (fun ls hl => ?_)
      refine lv_iinc (v := nI (i + 1)) (lv' := [(2, .int (nI (i + 1))), (1, .int (nI (ps_dp so (i + 1)))), (0, .ref h0)]) hx hb dX2_waiting_38 hl (k := 2) rfl (nI_1 _) (by decide) rfl (fun ls hl => ?_)
      refine lv_goto (tgt := 4) hx hb dX2_waiting_41 (by decide) ?_
      exact ih (n - (i + 1)) _ _ _ (by omega) ⟨i + 1, rfl, by omega, hP, hD, hS, lv_sub hl [2, 1, 0] rfl⟩
end
section
set_option maxHeartbeats 4000000 in
set_option maxRecDepth 100000 in
/-- settle(closed, total) -/
theorem mX_settle (l : Launch) (dC : Nat → ClassId) (dI : Nat → Nat → Nat) (cI cZ : ClassId) (h0 sz : Nat) (qa : Nat → Nat) (pw pn un : Int32) (so si : Nat → Int32) (mb : Int32) (re st sk wa : Nat → Int32) (lb : Int32) (ro co fl ma : Nat → Int32) (lr gc : Int32) (kc : Nat) (tt : Int32) (hkc : kc ≤ 60) (hwa : ∀ j, j < kc → ∃ p, p < 60 ∧ wa j = nI p) : Met l yX1_settle (ws_ yX1_settle cX1_settle 4 none) ({ frames := 0, cells := 0, slots := 0, locals := 0 }) (va_Pc [.ref h0, .int (nI kc), .int tt] (preW dC dI cI cZ sz (wX h0 qa cI cZ pw pn un so si mb re st sk wa lb ro co fl ma lr gc))) (va_Qv (fun u : Nat → Int32 => ps_SL wa kc tt st re u) (fun u t => posW dC dI cI cZ (va_A (wX h0 qa cI cZ pw pn un so si mb re st sk wa lb ro co fl ma lr gc) sz) (wX h0 qa cI cZ pw pn un so si mb u st sk wa lb ro co fl ma lr gc) t) (va_A (wX h0 qa cI cZ pw pn un so si mb re st sk wa lb ro co fl ma lr gc) sz)) 0 0 (va_A (wX h0 qa cI cZ pw pn un so si mb re st sk wa lb ro co fl ma lr gc) sz) := by
  refine Met.ofW (cc := cX1_settle) (maxL := 4) (ret := none) (by decide) rfl ?_
  intro p e s m args below meth c s₁ B hml hv
  obtain ⟨rfl, hsz, hP, hK, hD0⟩ := hv
  have hx := B.exec
  have hb := B.bytes
  have hr := B.returns
  have hts := atoms_spec (ws := ws_ yX1_settle cX1_settle 4 none) B.pre
  have hts : ∀ w ∈ lw_all, w.before _ s = true := fun w h => hts w (List.mem_cons_of_mem _ h)
  have hown : s.vm.findClass RX1 = some m.cls := findClass_of_methodNamed B.named
  have hlocks := B.notSynchronized
  subst hsz
  have hD := hD0.self (sz := s.heap.size)
  generalize hAe : va_A (wX h0 qa cI cZ pw pn un so si mb re st sk wa lb ro co fl ma lr gc) s.heap.size = A at hD ⊢
  have hA : ∀ q : Nat, s.heap.size ≤ q → A q := fun q h => by rw [← hAe]; exact Or.inr h
  have hS : va_S A s.heap s.heap [] := va_S.rf
  have hl := lv_entry ([.ref h0, .int (nI kc), .int tt]) (n := 4) (Nat.le_of_ble_eq_true rfl)
  rw [lg_entry_eq]
  generalize (lg_sl ([.ref h0, .int (nI kc), .int tt]) ++ List.replicate (4 - (lg_sl ([.ref h0, .int (nI kc), .int tt])).length) Slot.unset).toArray = ls at hl ⊢
  have hl : lv_has ls 4 [(0, .ref h0), (1, .int (nI kc)), (2, .int tt)] := hl
  refine lv_iconst (v := nI 0) hx hb dX1_settle_0 (by decide) ?_
  refine lv_istore_n (lv' := [(3, .int (nI 0)), (0, .ref h0), (1, .int (nI kc)), (2, .int tt)]) hx hb dX1_settle_1 rfl hl (by decide) rfl (fun ls hl => ?_)
  refine zl_loop (I := fun k H locs ls => ∃ (j : Nat) (rf : Nat → Int32), k = kc - j ∧ j ≤ kc ∧ ps_SL wa j tt st re rf ∧ va_P (dC, dI) vwCl (wX h0 qa cI cZ pw pn un so si mb rf st sk wa lb ro co fl ma lr gc) H ∧ va_D A (wX h0 qa cI cZ pw pn un so si mb rf st sk wa lb ro co fl ma lr gc) ∧ va_S A s.heap H locs ∧ lv_has ls 4 [(0, .ref h0), (1, .int (nI kc)), (2, .int tt), (3, .int (nI j))]) ?_ kc _ _ _ ⟨0, re, rfl, Nat.zero_le _, ps_SL_0, hP, hD, hS, lv_sub hl [1, 2, 3, 0] rfl⟩
  intro k H locs ls hI ih
  obtain ⟨j, rf, hk, hj, hL, hP, hD, hS, hl⟩ := hI
  refine lv_iload_n hx hb dX1_settle_2 rfl (lv_at hl 3 rfl) ?_
  refine lv_iload_n hx hb dX1_settle_3 rfl (lv_at hl 1 rfl) ?_
  refine lv_icmp_ge (tgt := 37) hx hb dX1_settle_4 (by decide) (fun c_4 => ?_) (fun c_4 => ?_)
  · have hin : kc = j := by have := (nI_leI (a := kc) (b := j) (by omega) (by omega)).mp c_4; omega
    subst hin
    exact W.vret hx hb hr (fun t ht hW => ⟨⟨rf, rfl, hL, by rw [ht]; exact hP, va_K.moved hW.alike hK, hD⟩, hS.F ht⟩) hS.2.2 dX1_settle_37
  · have hin : j < kc := by
      rcases Nat.lt_or_ge j kc with z | z
      · exact z
      · exact absurd (nI_le z (by omega)) c_4
    obtain ⟨pz, hz1, hz2⟩ := hwa j hin
    refine lv_aload_n hx hb dX1_settle_7 rfl (lv_at hl 0 rfl) ?_
    refine va_get (D := (dC, dI)) (ci := 0) (v := .ref (qa 2)) (C := RX1) (T := TX1) (N := 17) hx hb hts in_X1 hown hK hP 0 rfl rfl 6 (by decide) (hts _ q32) (fun _ h9 => h9) rfl dX1_settle_8 ?_
    refine lv_aload_n hx hb dX1_settle_11 rfl (lv_at hl 0 rfl) ?_
    refine va_get (D := (dC, dI)) (ci := 0) (v := .ref (qa 5)) (C := RX1) (T := TX1) (N := 17) hx hb hts in_X1 hown hK hP 0 rfl rfl 9 (by decide) (hts _ q35) (fun _ h9 => h9) rfl dX1_settle_12 ?_
    refine lv_iload_n hx hb dX1_settle_15 rfl (lv_at hl 3 rfl) ?_
    refine zi_ald (v := nI pz) hx hb hK hP 6 0 rfl rfl (by omega) (by decide) (hz2) dX1_settle_16 ?_
    refine lv_iload_n hx hb dX1_settle_17 rfl (lv_at hl 2 rfl) ?_
    refine lv_aload_n hx hb dX1_settle_18 rfl (lv_at hl 0 rfl) ?_
    refine va_get (D := (dC, dI)) (ci := 0) (v := .ref (qa 3)) (C := RX1) (T := TX1) (N := 17) hx hb hts in_X1 hown hK hP 0 rfl rfl 7 (by decide) (hts _ q33) (fun _ h9 => h9) rfl dX1_settle_19 ?_
    refine lv_aload_n hx hb dX1_settle_22 rfl (lv_at hl 0 rfl) ?_
    refine va_get (D := (dC, dI)) (ci := 0) (v := .ref (qa 5)) (C := RX1) (T := TX1) (N := 17) hx hb hts in_X1 hown hK hP 0 rfl rfl 9 (by decide) (hts _ q35) (fun _ h9 => h9) rfl dX1_settle_23 ?_
    refine lv_iload_n hx hb dX1_settle_26 rfl (lv_at hl 3 rfl) ?_
    refine zi_ald (v := nI pz) hx hb hK hP 6 0 rfl rfl (by omega) (by decide) (hz2) dX1_settle_27 ?_
    refine zi_ald (v := st pz) hx hb hK hP 4 0 rfl rfl (hz1) (by decide) (rfl) dX1_settle_28 ?_
    refine lv_isub hx hb dX1_settle_29 ?_
    refine zi_ast hx hb hK hP hD hS 3 0 rfl rfl (hz1) (by decide) dX1_settle_30 (fun H locs hP hD hS => ?_)
    have hP : va_P (dC, dI) vwCl (wX h0 qa cI cZ pw pn un so si mb (upd rf pz (tt - (st pz))) st sk wa lb ro co fl ma lr gc) H := hP
    have hD : va_D A (wX h0 qa cI cZ pw pn un so si mb (upd rf pz (tt - (st pz))) st sk wa lb ro co fl ma lr gc) := hD
    refine lv_iinc (v := nI (j + 1)) (lv' := [(3, .int (nI (j + 1))), (0, .ref h0), (1, .int (nI kc)), (2, .int tt)]) hx hb dX1_settle_31 hl (k := 3) rfl (nI_1 _) (by decide) rfl (fun ls hl => ?_)
    refine lv_goto (tgt := 2) hx hb dX1_settle_34 (by decide) ?_
    exact ih (kc - (j + 1)) _ _ _ (by omega) ⟨j + 1, _, rfl, by omega, ps_SL_s hL hz1 hz2, hP, hD, hS, lv_sub hl [1, 2, 3, 0] rfl⟩
set_option maxHeartbeats 4000000 in
set_option maxRecDepth 100000 in
/-- measure: every open learns its reach -/
theorem mX_measure (l : Launch) (dC : Nat → ClassId) (dI : Nat → Nat → Nat) (cI cZ : ClassId) (h0 sz : Nat) (qa : Nat → Nat) (pw : Int32) (n : Nat) (un : Int32) (so si : Nat → Int32) (mb : Int32) (re st sk wa : Nat → Int32) (lb : Int32) (ro co fl ma : Nat → Int32) (lr gc : Int32) (a : Nat → Int32) (hok : ps_ok n so) (hsi : ps_si n so a si) (hm : mb = 0 ∨ (mb = 1 ∧ ps_me n so a re)) : Met l yX1_measure (ws_ yX1_measure cX1_measure 5 none) ({ frames := 1, cells := 0, slots := 0, locals := 23 }) (va_Pc [.ref h0] (preW dC dI cI cZ sz (wX h0 qa cI cZ pw (nI n) un so si mb re st sk wa lb ro co fl ma lr gc))) (va_Qv (fun u : (Nat → Int32) × (Nat → Int32) × (Nat → Int32) × (Nat → Int32) => ps_me n so a u.1) (fun u t => posW dC dI cI cZ (va_A (wX h0 qa cI cZ pw (nI n) un so si mb re st sk wa lb ro co fl ma lr gc) sz) (wX h0 qa cI cZ pw (nI n) un so si 1 u.1 u.2.1 u.2.2.1 u.2.2.2 lb ro co fl ma lr gc) t) (va_A (wX h0 qa cI cZ pw (nI n) un so si mb re st sk wa lb ro co fl ma lr gc) sz)) 0 0 (va_A (wX h0 qa cI cZ pw (nI n) un so si mb re st sk wa lb ro co fl ma lr gc) sz) := by
  refine Met.ofW (cc := cX1_measure) (maxL := 5) (ret := none) (by decide) rfl ?_
  intro p e s m args below meth c s₁ B hml hv
  obtain ⟨rfl, hsz, hP, hK, hD0⟩ := hv
  have hx := B.exec
  have hb := B.bytes
  have hr := B.returns
  have hts := atoms_spec (ws := ws_ yX1_measure cX1_measure 5 none) B.pre
  have hts : ∀ w ∈ lw_all, w.before _ s = true := fun w h => hts w (List.mem_cons_of_mem _ h)
  have hown : s.vm.findClass RX1 = some m.cls := findClass_of_methodNamed B.named
  have hlocks := B.notSynchronized
  subst hsz
  have hD := hD0.self (sz := s.heap.size)
  generalize hAe : va_A (wX h0 qa cI cZ pw (nI n) un so si mb re st sk wa lb ro co fl ma lr gc) s.heap.size = A at hD ⊢
  have hA : ∀ q : Nat, s.heap.size ≤ q → A q := fun q h => by rw [← hAe]; exact Or.inr h
  have hS : va_S A s.heap s.heap [] := va_S.rf
  have hl := lv_entry ([.ref h0]) (n := 5) (Nat.le_of_ble_eq_true rfl)
  rw [lg_entry_eq]
  generalize (lg_sl ([.ref h0]) ++ List.replicate (5 - (lg_sl ([.ref h0])).length) Slot.unset).toArray = ls at hl ⊢
  have hl : lv_has ls 5 [(0, .ref h0)] := hl
  have hn60 := hok.1
  rcases hm with rfl | ⟨rfl, hm⟩
  · refine lv_aload_n hx hb dX1_measure_0 rfl (lv_at hl 0 rfl) ?_
    refine va_get (D := (dC, dI)) (ci := 0) (v := .int 0) (C := RX1) (T := TX1) (N := 17) hx hb hts in_X1 hown hK hP 0 rfl rfl 5 (by decide) (hts _ q31) (fun _ h9 => h9) rfl dX1_measure_1 ?_
    refine lv_if_eq (tgt := 8) hx hb dX1_measure_4 (by decide) (fun c_4 => ?_) (fun c_4 => absurd rfl c_4)
    refine lv_aload_n hx hb dX1_measure_8 rfl (lv_at hl 0 rfl) ?_
    refine lv_iconst (v := 1) hx hb dX1_measure_9 (by decide) ?_
    refine va_put (D := (dC, dI)) (ci := 0) (v := .int 1) (ty := .boolean) (C := RX1) (T := TX1) (N := 17) hx hb hts in_X1 tyX1 tyX1_ok nmX1 hown hK hP hD hS 0 rfl rfl 5 (by decide) (hts _ q31) (fun _ h9 => h9) rfl (by decide +kernel) rfl rfl (Nat.le_of_ble_eq_true rfl) dX1_measure_10 (fun H locs hP hD hS => ?_)
    have hP : va_P (dC, dI) vwCl (wX h0 qa cI cZ pw (nI n) un so si 1 re st sk wa lb ro co fl ma lr gc) H := hP
    have hD : va_D A (wX h0 qa cI cZ pw (nI n) un so si 1 re st sk wa lb ro co fl ma lr gc) := hD
    refine lv_iconst (v := 0) hx hb dX1_measure_13 (by decide) ?_
    refine lv_istore_n (lv' := [(1, .int 0), (0, .ref h0)]) hx hb dX1_measure_14 rfl hl (by decide) rfl (fun ls hl => ?_)
    refine lv_iconst (v := nI 0) hx hb dX1_measure_15 (by decide) ?_
    refine lv_istore_n (lv' := [(2, .int (nI 0)), (1, .int 0), (0, .ref h0)]) hx hb dX1_measure_16 rfl hl (by decide) rfl (fun ls hl => ?_)
    refine lv_iconst (v := nI 0) hx hb dX1_measure_17 (by decide) ?_
    refine lv_istore_n (lv' := [(3, .int (nI 0)), (2, .int (nI 0)), (1, .int 0), (0, .ref h0)]) hx hb dX1_measure_18 rfl hl (by decide) rfl (fun ls hl => ?_)
    refine lv_iconst (v := nI 0) hx hb dX1_measure_19 (by decide) ?_
    refine lv_istore (lv' := [(4, .int (nI 0)), (3, .int (nI 0)), (2, .int (nI 0)), (1, .int 0), (0, .ref h0)]) hx hb dX1_measure_20 hl (by decide) rfl (fun ls hl => ?_)
    refine zl_loop (I := fun k H locs ls => ∃ (i : Nat) (d : Nat) (kc : Nat) (tt : Int32) (sf : Nat → Int32) (kf : Nat → Int32) (wf : Nat → Int32) (rf : Nat → Int32), k = n - i ∧ i ≤ n ∧ tt = ps_tt so a i ∧ ps_MI so a i d kc sf kf wf rf ∧ va_P (dC, dI) vwCl (wX h0 qa cI cZ pw (nI n) un so si 1 rf sf kf wf lb ro co fl ma lr gc) H ∧ va_D A (wX h0 qa cI cZ pw (nI n) un so si 1 rf sf kf wf lb ro co fl ma lr gc) ∧ va_S A s.heap H locs ∧ lv_has ls 5 [(0, .ref h0), (1, .int tt), (2, .int (nI d)), (3, .int (nI kc)), (4, .int (nI i))]) ?_ n _ _ _ ⟨0, 0, 0, 0, st, sk, wa, re, rfl, Nat.zero_le n, rfl, ps_MI_0 so a st sk wa re, hP, hD, hS, lv_sub hl [4, 3, 2, 1, 0] rfl⟩
    intro k H locs ls hI ih1
    obtain ⟨i, d, kc, tt, sf, kf, wf, rf, hk, hi, htt, hM, hP, hD, hS, hl⟩ := hI
    have hd12 : d ≤ 12 := by rw [hM.1]; exact hok.2.2.2 i hi
    have hkc := hM.2.1
    have hwa : ∀ j, j < kc → ∃ p, p < 60 ∧ wf j = nI p := fun j hj => by obtain ⟨p, g1, g2, -⟩ := hM.2.2.2.2.1 j hj; exact ⟨p, by omega, g2⟩
    refine lv_iload hx hb dX1_measure_22 (lv_at hl 4 rfl) ?_
    refine lv_aload_n hx hb dX1_measure_24 rfl (lv_at hl 0 rfl) ?_
    refine va_get (D := (dC, dI)) (ci := 0) (v := .int (nI n)) (C := RX1) (T := TX1) (N := 17) hx hb hts in_X1 hown hK hP 0 rfl rfl 1 (by decide) (hts _ q27) (fun _ h9 => h9) rfl dX1_measure_25 ?_
    refine lv_icmp_ge (tgt := 131) hx hb dX1_measure_28 (by decide) (fun c_28 => ?_) (fun c_28 => ?_)
    · have hin : n = i := by have := (nI_leI (a := n) (b := i) (by omega) (by omega)).mp c_28; omega
      subst hin
      refine lv_aload_n hx hb dX1_measure_131 rfl (lv_at hl 0 rfl) ?_
      refine lv_iload_n hx hb dX1_measure_132 rfl (lv_at hl 3 rfl) ?_
      refine lv_iload_n hx hb dX1_measure_133 rfl (lv_at hl 1 rfl) ?_
      refine zc_v (As := [.int (nI kc), .int tt]) (rest := []) ⟨hx, hb, hml, hown, hts⟩ (mX_settle l dC dI cI cZ h0 H.size qa pw (nI n) un so si 1 rf sf kf wf lb ro co fl ma lr gc kc tt (by omega) hwa) (cwV 2 hts (lw_V q113 q115 qs3 q12 q116) rfl rfl rfl (by decide +kernel) ⟨Nat.le_of_ble_eq_true rfl, Nat.le_of_ble_eq_true rfl⟩) (ci := 0) rfl rfl hK hP hD hS hA rfl hl.1 rfl (Nat.le_of_ble_eq_true rfl) dX1_measure_134 ⟨Nat.zero_le _, Nat.zero_le _⟩ (fun u_134 H locs hw_134 hP hD hS => ?_)
      have hP : va_P (dC, dI) vwCl (wX h0 qa cI cZ pw (nI n) un so si 1 u_134 sf kf wf lb ro co fl ma lr gc) H := hP
      have hD : va_D A (wX h0 qa cI cZ pw (nI n) un so si 1 u_134 sf kf wf lb ro co fl ma lr gc) := hD
      refine lv_iconst (v := nI 0) hx hb dX1_measure_137 (by decide) ?_
      refine lv_istore (lv' := [(4, .int (nI 0)), (0, .ref h0), (1, .int tt), (2, .int (nI d)), (3, .int (nI kc))]) hx hb dX1_measure_138 hl (by decide) rfl (fun ls hl => ?_)
      refine zl_loop (I := fun k H locs ls => ∃ (j : Nat) (rg : Nat → Int32), k = d - j ∧ j ≤ d ∧ ps_SL kf j tt sf u_134 rg ∧ va_P (dC, dI) vwCl (wX h0 qa cI cZ pw (nI n) un so si 1 rg sf kf wf lb ro co fl ma lr gc) H ∧ va_D A (wX h0 qa cI cZ pw (nI n) un so si 1 rg sf kf wf lb ro co fl ma lr gc) ∧ va_S A s.heap H locs ∧ lv_has ls 5 [(0, .ref h0), (1, .int tt), (2, .int (nI d)), (4, .int (nI j))]) ?_ d _ _ _ ⟨0, u_134, rfl, Nat.zero_le _, ps_SL_0, hP, hD, hS, lv_sub hl [1, 2, 3, 0] rfl⟩
      intro k H locs ls hI ih2
      obtain ⟨j, rg, hk, hj, hL, hP, hD, hS, hl⟩ := hI
      refine lv_iload hx hb dX1_measure_140 (lv_at hl 3 rfl) ?_
      refine lv_iload_n hx hb dX1_measure_142 rfl (lv_at hl 2 rfl) ?_
      refine lv_icmp_ge (tgt := 178) hx hb dX1_measure_143 (by decide) (fun c_143 => ?_) (fun c_143 => ?_)
      · have hin : d = j := by have := (nI_leI (a := d) (b := j) (by omega) (by omega)).mp c_143; omega
        subst hin
        exact W.vret hx hb hr (fun t ht hW => ⟨⟨(rg, sf, kf, wf), rfl, ps_MI_end hM hok.1 (by rw [← htt]; exact hw_134) (by rw [← htt]; exact hL), by rw [ht]; exact hP, va_K.moved hW.alike hK, hD⟩, hS.F ht⟩) hS.2.2 dX1_measure_178
      · have hin : j < d := by
          rcases Nat.lt_or_ge j d with z | z
          · exact z
          · exact absurd (nI_le z (by omega)) c_143
        obtain ⟨pz, hz0, hz2, -⟩ := hM.2.2.2.1 j hin
        have hn60 := hok.1
        have hz1 : pz < 60 := by omega
        refine lv_aload_n hx hb dX1_measure_146 rfl (lv_at hl 0 rfl) ?_
        refine va_get (D := (dC, dI)) (ci := 0) (v := .ref (qa 2)) (C := RX1) (T := TX1) (N := 17) hx hb hts in_X1 hown hK hP 0 rfl rfl 6 (by decide) (hts _ q32) (fun _ h9 => h9) rfl dX1_measure_147 ?_
        refine lv_aload_n hx hb dX1_measure_150 rfl (lv_at hl 0 rfl) ?_
        refine va_get (D := (dC, dI)) (ci := 0) (v := .ref (qa 4)) (C := RX1) (T := TX1) (N := 17) hx hb hts in_X1 hown hK hP 0 rfl rfl 8 (by decide) (hts _ q34) (fun _ h9 => h9) rfl dX1_measure_151 ?_
        refine lv_iload hx hb dX1_measure_154 (lv_at hl 3 rfl) ?_
        refine zi_ald (v := nI pz) hx hb hK hP 5 0 rfl rfl (by omega) (by decide) (hz2) dX1_measure_156 ?_
        refine lv_iload_n hx hb dX1_measure_157 rfl (lv_at hl 1 rfl) ?_
        refine lv_aload_n hx hb dX1_measure_158 rfl (lv_at hl 0 rfl) ?_
        refine va_get (D := (dC, dI)) (ci := 0) (v := .ref (qa 3)) (C := RX1) (T := TX1) (N := 17) hx hb hts in_X1 hown hK hP 0 rfl rfl 7 (by decide) (hts _ q33) (fun _ h9 => h9) rfl dX1_measure_159 ?_
        refine lv_aload_n hx hb dX1_measure_162 rfl (lv_at hl 0 rfl) ?_
        refine va_get (D := (dC, dI)) (ci := 0) (v := .ref (qa 4)) (C := RX1) (T := TX1) (N := 17) hx hb hts in_X1 hown hK hP 0 rfl rfl 8 (by decide) (hts _ q34) (fun _ h9 => h9) rfl dX1_measure_163 ?_
        refine lv_iload hx hb dX1_measure_166 (lv_at hl 3 rfl) ?_
        refine zi_ald (v := nI pz) hx hb hK hP 5 0 rfl rfl (by omega) (by decide) (hz2) dX1_measure_168 ?_
        refine zi_ald (v := sf pz) hx hb hK hP 4 0 rfl rfl (hz1) (by decide) (rfl) dX1_measure_169 ?_
        refine lv_isub hx hb dX1_measure_170 ?_
        refine zi_ast hx hb hK hP hD hS 3 0 rfl rfl (hz1) (by decide) dX1_measure_171 (fun H locs hP hD hS => ?_)
        have hP : va_P (dC, dI) vwCl (wX h0 qa cI cZ pw (nI n) un so si 1 (upd rg pz (tt - (sf pz))) sf kf wf lb ro co fl ma lr gc) H := hP
        have hD : va_D A (wX h0 qa cI cZ pw (nI n) un so si 1 (upd rg pz (tt - (sf pz))) sf kf wf lb ro co fl ma lr gc) := hD
        refine lv_iinc (v := nI (j + 1)) (lv' := [(4, .int (nI (j + 1))), (0, .ref h0), (1, .int tt), (2, .int (nI d))]) hx hb dX1_measure_172 hl (k := 3) rfl (nI_1 _) (by decide) rfl (fun ls hl => ?_)
        refine lv_goto (tgt := 140) hx hb dX1_measure_175 (by decide) ?_
        exact ih2 (d - (j + 1)) _ _ _ (by omega) ⟨j + 1, _, rfl, by omega, ps_SL_s hL hz1 hz2, hP, hD, hS, lv_sub hl [1, 2, 3, 0] rfl⟩
    · have hin : i < n := by
        rcases Nat.lt_or_ge i n with z | z
        · exact z
        · exact absurd (nI_le z (by omega)) c_28
      have hi60 : i < 60 := by omega
      rcases hok.2.1 i hin with h | h | h | h
      · have hsz : si i = a i := by rw [hsi i hin, if_neg (ps_ne23 h (by decide))]
        refine lv_aload_n hx hb dX1_measure_31 rfl (lv_at hl 0 rfl) ?_
        refine va_get (D := (dC, dI)) (ci := 0) (v := .ref (qa 0)) (C := RX1) (T := TX1) (N := 17) hx hb hts in_X1 hown hK hP 0 rfl rfl 3 (by decide) (hts _ q29) (fun _ h9 => h9) rfl dX1_measure_32 ?_
        refine lv_iload hx hb dX1_measure_35 (lv_at hl 4 rfl) ?_
        refine zi_ald (v := so i) hx hb hK hP 1 0 rfl rfl (hi60) (by decide) (rfl) dX1_measure_37 ?_
        refine lv_iconst (v := 2) hx hb dX1_measure_38 (by decide) ?_
        refine lv_icmp_ne (tgt := 64) hx hb dX1_measure_39 (by decide) (fun c_39 => ?_) (fun c_39 => absurd c_39 (ps_ne23 h (by decide)))
        refine lv_aload_n hx hb dX1_measure_64 rfl (lv_at hl 0 rfl) ?_
        refine va_get (D := (dC, dI)) (ci := 0) (v := .ref (qa 0)) (C := RX1) (T := TX1) (N := 17) hx hb hts in_X1 hown hK hP 0 rfl rfl 3 (by decide) (hts _ q29) (fun _ h9 => h9) rfl dX1_measure_65 ?_
        refine lv_iload hx hb dX1_measure_68 (lv_at hl 4 rfl) ?_
        refine zi_ald (v := so i) hx hb hK hP 1 0 rfl rfl (hi60) (by decide) (rfl) dX1_measure_70 ?_
        refine lv_iconst (v := 3) hx hb dX1_measure_71 (by decide) ?_
        refine lv_icmp_ne (tgt := 96) hx hb dX1_measure_72 (by decide) (fun c_72 => ?_) (fun c_72 => absurd c_72 (ps_ne23 h (by decide)))
        refine lv_aload_n hx hb dX1_measure_96 rfl (lv_at hl 0 rfl) ?_
        refine va_get (D := (dC, dI)) (ci := 0) (v := .ref (qa 0)) (C := RX1) (T := TX1) (N := 17) hx hb hts in_X1 hown hK hP 0 rfl rfl 3 (by decide) (hts _ q29) (fun _ h9 => h9) rfl dX1_measure_97 ?_
        refine lv_iload hx hb dX1_measure_100 (lv_at hl 4 rfl) ?_
        refine zi_ald (v := so i) hx hb hK hP 1 0 rfl rfl (hi60) (by decide) (rfl) dX1_measure_102 ?_
        refine lv_iconst (v := 1) hx hb dX1_measure_103 (by decide) ?_
        refine lv_icmp_ne (tgt := 115) hx hb dX1_measure_104 (by decide) (fun c_104 => ?_) (fun c_104 => absurd c_104 (ps_ne23 h (by decide)))
        refine lv_iload_n hx hb dX1_measure_115 rfl (lv_at hl 1 rfl) ?_
        refine lv_aload_n hx hb dX1_measure_116 rfl (lv_at hl 0 rfl) ?_
        refine va_get (D := (dC, dI)) (ci := 0) (v := .ref (qa 1)) (C := RX1) (T := TX1) (N := 17) hx hb hts in_X1 hown hK hP 0 rfl rfl 4 (by decide) (hts _ q30) (fun _ h9 => h9) rfl dX1_measure_117 ?_
        refine lv_iload hx hb dX1_measure_120 (lv_at hl 4 rfl) ?_
        refine zi_ald (v := a i) hx hb hK hP 2 0 rfl rfl (hi60) (by decide) (hsz) dX1_measure_122 ?_
        refine lv_iadd hx hb dX1_measure_123 ?_
        refine lv_istore_n (lv' := [(1, .int (tt + (a i))), (0, .ref h0), (2, .int (nI d)), (3, .int (nI kc)), (4, .int (nI i))]) hx hb dX1_measure_124 rfl hl (by decide) rfl (fun ls hl => ?_)
        refine lv_iinc (v := nI (i + 1)) (lv' := [(4, .int (nI (i + 1))), (1, .int (tt + (a i))), (0, .ref h0), (2, .int (nI d)), (3, .int (nI kc))]) hx hb dX1_measure_125 hl (k := 4) rfl (nI_1 _) (by decide) rfl (fun ls hl => ?_)
        refine lv_goto (tgt := 22) hx hb dX1_measure_128 (by decide) ?_
        exact ih1 (n - (i + 1)) _ _ _ (by omega) ⟨i + 1, d, kc, _, _, _, _, _, rfl, by omega, by rw [htt, ps_tt_0 h], ps_MI_word hM h, hP, hD, hS, lv_sub hl [2, 1, 3, 4, 0] rfl⟩
      · have hsz : si i = 1 := by rw [hsi i hin, if_pos h]
        refine lv_aload_n hx hb dX1_measure_31 rfl (lv_at hl 0 rfl) ?_
        refine va_get (D := (dC, dI)) (ci := 0) (v := .ref (qa 0)) (C := RX1) (T := TX1) (N := 17) hx hb hts in_X1 hown hK hP 0 rfl rfl 3 (by decide) (hts _ q29) (fun _ h9 => h9) rfl dX1_measure_32 ?_
        refine lv_iload hx hb dX1_measure_35 (lv_at hl 4 rfl) ?_
        refine zi_ald (v := so i) hx hb hK hP 1 0 rfl rfl (hi60) (by decide) (rfl) dX1_measure_37 ?_
        refine lv_iconst (v := 2) hx hb dX1_measure_38 (by decide) ?_
        refine lv_icmp_ne (tgt := 64) hx hb dX1_measure_39 (by decide) (fun c_39 => ?_) (fun c_39 => absurd c_39 (ps_ne23 h (by decide)))
        refine lv_aload_n hx hb dX1_measure_64 rfl (lv_at hl 0 rfl) ?_
        refine va_get (D := (dC, dI)) (ci := 0) (v := .ref (qa 0)) (C := RX1) (T := TX1) (N := 17) hx hb hts in_X1 hown hK hP 0 rfl rfl 3 (by decide) (hts _ q29) (fun _ h9 => h9) rfl dX1_measure_65 ?_
        refine lv_iload hx hb dX1_measure_68 (lv_at hl 4 rfl) ?_
        refine zi_ald (v := so i) hx hb hK hP 1 0 rfl rfl (hi60) (by decide) (rfl) dX1_measure_70 ?_
        refine lv_iconst (v := 3) hx hb dX1_measure_71 (by decide) ?_
        refine lv_icmp_ne (tgt := 96) hx hb dX1_measure_72 (by decide) (fun c_72 => ?_) (fun c_72 => absurd c_72 (ps_ne23 h (by decide)))
        refine lv_aload_n hx hb dX1_measure_96 rfl (lv_at hl 0 rfl) ?_
        refine va_get (D := (dC, dI)) (ci := 0) (v := .ref (qa 0)) (C := RX1) (T := TX1) (N := 17) hx hb hts in_X1 hown hK hP 0 rfl rfl 3 (by decide) (hts _ q29) (fun _ h9 => h9) rfl dX1_measure_97 ?_
        refine lv_iload hx hb dX1_measure_100 (lv_at hl 4 rfl) ?_
        refine zi_ald (v := so i) hx hb hK hP 1 0 rfl rfl (hi60) (by decide) (rfl) dX1_measure_102 ?_
        refine lv_iconst (v := 1) hx hb dX1_measure_103 (by decide) ?_
        refine lv_icmp_ne (tgt := 115) hx hb dX1_measure_104 (by decide) (fun c_104 => absurd h c_104) (fun c_104 => ?_)
        refine lv_aload_n hx hb dX1_measure_107 rfl (lv_at hl 0 rfl) ?_
        refine lv_iload_n hx hb dX1_measure_108 rfl (lv_at hl 3 rfl) ?_
        refine lv_iload_n hx hb dX1_measure_109 rfl (lv_at hl 1 rfl) ?_
        refine zc_v (As := [.int (nI kc), .int tt]) (rest := []) ⟨hx, hb, hml, hown, hts⟩ (mX_settle l dC dI cI cZ h0 H.size qa pw (nI n) un so si 1 rf sf kf wf lb ro co fl ma lr gc kc tt (by omega) hwa) (cwV 2 hts (lw_V q113 q115 qs3 q12 q116) rfl rfl rfl (by decide +kernel) ⟨Nat.le_of_ble_eq_true rfl, Nat.le_of_ble_eq_true rfl⟩) (ci := 0) rfl rfl hK hP hD hS hA rfl hl.1 rfl (Nat.le_of_ble_eq_true rfl) dX1_measure_110 ⟨Nat.zero_le _, Nat.zero_le _⟩ (fun u_110 H locs hw_110 hP hD hS => ?_)
        have hP : va_P (dC, dI) vwCl (wX h0 qa cI cZ pw (nI n) un so si 1 u_110 sf kf wf lb ro co fl ma lr gc) H := hP
        have hD : va_D A (wX h0 qa cI cZ pw (nI n) un so si 1 u_110 sf kf wf lb ro co fl ma lr gc) := hD
        refine lv_iconst (v := nI 0) hx hb dX1_measure_113 (by decide) ?_
        refine lv_istore_n (lv' := [(3, .int (nI 0)), (0, .ref h0), (1, .int tt), (2, .int (nI d)), (4, .int (nI i))]) hx hb dX1_measure_114 rfl hl (by decide) rfl (fun ls hl => ?_)
        refine lv_iload_n hx hb dX1_measure_115 rfl (lv_at hl 2 rfl) ?_
        refine lv_aload_n hx hb dX1_measure_116 rfl (lv_at hl 1 rfl) ?_
        refine va_get (D := (dC, dI)) (ci := 0) (v := .ref (qa 1)) (C := RX1) (T := TX1) (N := 17) hx hb hts in_X1 hown hK hP 0 rfl rfl 4 (by decide) (hts _ q30) (fun _ h9 => h9) rfl dX1_measure_117 ?_
        refine lv_iload hx hb dX1_measure_120 (lv_at hl 4 rfl) ?_
        refine zi_ald (v := 1) hx hb hK hP 2 0 rfl rfl (hi60) (by decide) (hsz) dX1_measure_122 ?_
        refine lv_iadd hx hb dX1_measure_123 ?_
        refine lv_istore_n (lv' := [(1, .int (tt + 1)), (3, .int (nI 0)), (0, .ref h0), (2, .int (nI d)), (4, .int (nI i))]) hx hb dX1_measure_124 rfl hl (by decide) rfl (fun ls hl => ?_)
        refine lv_iinc (v := nI (i + 1)) (lv' := [(4, .int (nI (i + 1))), (1, .int (tt + 1)), (3, .int (nI 0)), (0, .ref h0), (2, .int (nI d))]) hx hb dX1_measure_125 hl (k := 4) rfl (nI_1 _) (by decide) rfl (fun ls hl => ?_)
        refine lv_goto (tgt := 22) hx hb dX1_measure_128 (by decide) ?_
        exact ih1 (n - (i + 1)) _ _ _ (by omega) ⟨i + 1, d, 0, _, _, _, _, _, rfl, by omega, by rw [htt, ps_tt_1 h], ps_MI_break hM h hi60 (by rw [← htt]; exact hw_110), hP, hD, hS, lv_sub hl [3, 1, 4, 2, 0] rfl⟩
      · have hd12s : d < 12 := by
          have h1 := hok.2.2.2 (i + 1) (by omega)
          rw [ps_dp_s2 h, ← hM.1] at h1
          omega
        refine lv_aload_n hx hb dX1_measure_31 rfl (lv_at hl 0 rfl) ?_
        refine va_get (D := (dC, dI)) (ci := 0) (v := .ref (qa 0)) (C := RX1) (T := TX1) (N := 17) hx hb hts in_X1 hown hK hP 0 rfl rfl 3 (by decide) (hts _ q29) (fun _ h9 => h9) rfl dX1_measure_32 ?_
        refine lv_iload hx hb dX1_measure_35 (lv_at hl 4 rfl) ?_
        refine zi_ald (v := so i) hx hb hK hP 1 0 rfl rfl (hi60) (by decide) (rfl) dX1_measure_37 ?_
        refine lv_iconst (v := 2) hx hb dX1_measure_38 (by decide) ?_
        refine lv_icmp_ne (tgt := 64) hx hb dX1_measure_39 (by decide) (fun c_39 => absurd h c_39) (fun c_39 => ?_)
        refine lv_aload_n hx hb dX1_measure_42 rfl (lv_at hl 0 rfl) ?_
        refine va_get (D := (dC, dI)) (ci := 0) (v := .ref (qa 3)) (C := RX1) (T := TX1) (N := 17) hx hb hts in_X1 hown hK hP 0 rfl rfl 7 (by decide) (hts _ q33) (fun _ h9 => h9) rfl dX1_measure_43 ?_
        refine lv_iload hx hb dX1_measure_46 (lv_at hl 4 rfl) ?_
        refine lv_iload_n hx hb dX1_measure_48 rfl (lv_at hl 1 rfl) ?_
        refine zi_ast hx hb hK hP hD hS 4 0 rfl rfl (hi60) (by decide) dX1_measure_49 (fun H locs hP hD hS => ?_)
        have hP : va_P (dC, dI) vwCl (wX h0 qa cI cZ pw (nI n) un so si 1 rf (upd sf i tt) kf wf lb ro co fl ma lr gc) H := hP
        have hD : va_D A (wX h0 qa cI cZ pw (nI n) un so si 1 rf (upd sf i tt) kf wf lb ro co fl ma lr gc) := hD
        refine lv_aload_n hx hb dX1_measure_50 rfl (lv_at hl 0 rfl) ?_
        refine va_get (D := (dC, dI)) (ci := 0) (v := .ref (qa 4)) (C := RX1) (T := TX1) (N := 17) hx hb hts in_X1 hown hK hP 0 rfl rfl 8 (by decide) (hts _ q34) (fun _ h9 => h9) rfl dX1_measure_51 ?_
        refine lv_iload_n hx hb dX1_measure_54 rfl (lv_at hl 2 rfl) ?_
        refine lv_iload hx hb dX1_measure_55 (lv_at hl 4 rfl) ?_
        refine zi_ast hx hb hK hP hD hS 5 0 rfl rfl (hd12s) (by decide) dX1_measure_57 (fun H locs hP hD hS => ?_)
        have hP : va_P (dC, dI) vwCl (wX h0 qa cI cZ pw (nI n) un so si 1 rf (upd sf i tt) (upd kf d (nI i)) wf lb ro co fl ma lr gc) H := hP
        have hD : va_D A (wX h0 qa cI cZ pw (nI n) un so si 1 rf (upd sf i tt) (upd kf d (nI i)) wf lb ro co fl ma lr gc) := hD
        refine lv_iinc (v := nI (d + 1)) (lv' := [(2, .int (nI (d + 1))), (0, .ref h0), (1, .int tt), (3, .int (nI kc)), (4, .int (nI i))]) hx hb dX1_measure_58 hl (k := 2) rfl (nI_1 _) (by decide) rfl (fun ls hl => ?_)
        refine lv_goto (tgt := 125) hx hb dX1_measure_61 (by decide) ?_
        refine lv_iinc (v := nI (i + 1)) (lv' := [(4, .int (nI (i + 1))), (2, .int (nI (d + 1))), (0, .ref h0), (1, .int tt), (3, .int (nI kc))]) hx hb dX1_measure_125 hl (k := 4) rfl (nI_1 _) (by decide) rfl (fun ls hl => ?_)
        refine lv_goto (tgt := 22) hx hb dX1_measure_128 (by decide) ?_
        exact ih1 (n - (i + 1)) _ _ _ (by omega) ⟨i + 1, d + 1, kc, _, _, _, _, _, rfl, by omega, by rw [htt, ps_tt_2 h], ps_MI_op hM h htt, hP, hD, hS, lv_sub hl [2, 3, 1, 4, 0] rfl⟩
      · have hd0 : 0 < d := by rw [hM.1]; exact hok.2.2.1 i hin h
        refine lv_aload_n hx hb dX1_measure_31 rfl (lv_at hl 0 rfl) ?_
        refine va_get (D := (dC, dI)) (ci := 0) (v := .ref (qa 0)) (C := RX1) (T := TX1) (N := 17) hx hb hts in_X1 hown hK hP 0 rfl rfl 3 (by decide) (hts _ q29) (fun _ h9 => h9) rfl dX1_measure_32 ?_
        refine lv_iload hx hb dX1_measure_35 (lv_at hl 4 rfl) ?_
        refine zi_ald (v := so i) hx hb hK hP 1 0 rfl rfl (hi60) (by decide) (rfl) dX1_measure_37 ?_
        refine lv_iconst (v := 2) hx hb dX1_measure_38 (by decide) ?_
        refine lv_icmp_ne (tgt := 64) hx hb dX1_measure_39 (by decide) (fun c_39 => ?_) (fun c_39 => absurd c_39 (ps_ne23 h (by decide)))
        refine lv_aload_n hx hb dX1_measure_64 rfl (lv_at hl 0 rfl) ?_
        refine va_get (D := (dC, dI)) (ci := 0) (v := .ref (qa 0)) (C := RX1) (T := TX1) (N := 17) hx hb hts in_X1 hown hK hP 0 rfl rfl 3 (by decide) (hts _ q29) (fun _ h9 => h9) rfl dX1_measure_65 ?_
        refine lv_iload hx hb dX1_measure_68 (lv_at hl 4 rfl) ?_
        refine zi_ald (v := so i) hx hb hK hP 1 0 rfl rfl (hi60) (by decide) (rfl) dX1_measure_70 ?_
        refine lv_iconst (v := 3) hx hb dX1_measure_71 (by decide) ?_
        refine lv_icmp_ne (tgt := 96) hx hb dX1_measure_72 (by decide) (fun c_72 => absurd h c_72) (fun c_72 => ?_)
        refine lv_iinc (v := nI (d - 1)) (lv' := [(2, .int (nI (d - 1))), (0, .ref h0), (1, .int tt), (3, .int (nI kc)), (4, .int (nI i))]) hx hb dX1_measure_75 hl (k := 2) rfl (ps_m1 hd0) (by decide) rfl (fun ls hl => ?_)
        refine lv_aload_n hx hb dX1_measure_78 rfl (lv_at hl 1 rfl) ?_
        refine va_get (D := (dC, dI)) (ci := 0) (v := .ref (qa 5)) (C := RX1) (T := TX1) (N := 17) hx hb hts in_X1 hown hK hP 0 rfl rfl 9 (by decide) (hts _ q35) (fun _ h9 => h9) rfl dX1_measure_79 ?_
        refine lv_iload_n hx hb dX1_measure_82 rfl (lv_at hl 3 rfl) ?_
        refine lv_aload_n hx hb dX1_measure_83 rfl (lv_at hl 1 rfl) ?_
        refine va_get (D := (dC, dI)) (ci := 0) (v := .ref (qa 4)) (C := RX1) (T := TX1) (N := 17) hx hb hts in_X1 hown hK hP 0 rfl rfl 8 (by decide) (hts _ q34) (fun _ h9 => h9) rfl dX1_measure_84 ?_
        refine lv_iload_n hx hb dX1_measure_87 rfl (lv_at hl 0 rfl) ?_
        refine zi_ald (v := kf (d - 1)) hx hb hK hP 5 0 rfl rfl (by omega) (by decide) (rfl) dX1_measure_88 ?_
        refine zi_ast hx hb hK hP hD hS 6 0 rfl rfl (by omega) (by decide) dX1_measure_89 (fun H locs hP hD hS => ?_)
        have hP : va_P (dC, dI) vwCl (wX h0 qa cI cZ pw (nI n) un so si 1 rf sf kf (upd wf kc (kf (d - 1))) lb ro co fl ma lr gc) H := hP
        have hD : va_D A (wX h0 qa cI cZ pw (nI n) un so si 1 rf sf kf (upd wf kc (kf (d - 1))) lb ro co fl ma lr gc) := hD
        refine lv_iinc (v := nI (kc + 1)) (lv' := [(3, .int (nI (kc + 1))), (2, .int (nI (d - 1))), (0, .ref h0), (1, .int tt), (4, .int (nI i))]) hx hb dX1_measure_90 hl (k := 3) rfl (nI_1 _) (by decide) rfl (fun ls hl => ?_)
        refine lv_goto (tgt := 125) hx hb dX1_measure_93 (by decide) ?_
        refine lv_iinc (v := nI (i + 1)) (lv' := [(4, .int (nI (i + 1))), (3, .int (nI (kc + 1))), (2, .int (nI (d - 1))), (0, .ref h0), (1, .int tt)]) hx hb dX1_measure_125 hl (k := 4) rfl (nI_1 _) (by decide) rfl (fun ls hl => ?_)
        refine lv_goto (tgt := 22) hx hb dX1_measure_128 (by decide) ?_
        exact ih1 (n - (i + 1)) _ _ _ (by omega) ⟨i + 1, d - 1, kc + 1, _, _, _, _, _, rfl, by omega, by rw [htt, ps_tt_3 h], ps_MI_close hM h hd0, hP, hD, hS, lv_sub hl [3, 4, 2, 1, 0] rfl⟩
  · refine lv_aload_n hx hb dX1_measure_0 rfl (lv_at hl 0 rfl) ?_
    refine va_get (D := (dC, dI)) (ci := 0) (v := .int 1) (C := RX1) (T := TX1) (N := 17) hx hb hts in_X1 hown hK hP 0 rfl rfl 5 (by decide) (hts _ q31) (fun _ h9 => h9) rfl dX1_measure_1 ?_
    refine lv_if_eq (tgt := 8) hx hb dX1_measure_4 (by decide) (fun c_4 => absurd c_4 (by decide)) (fun c_4 => ?_)
    exact W.vret hx hb hr (fun t ht hW => ⟨⟨(re, st, sk, wa), rfl, hm, by rw [ht]; exact hP, va_K.moved hW.alike hK, hD⟩, hS.F ht⟩) hS.2.2 dX1_measure_7
end
section
set_option maxHeartbeats 4000000 in
set_option maxRecDepth 100000 in
/-- layOut(w): row, column and flag of every piece -/
theorem mX_layOut (l : Launch) (dC : Nat → ClassId) (dI : Nat → Nat → Nat) (cI cZ : ClassId) (h0 sz : Nat) (qa : Nat → Nat) (pw : Int32) (n : Nat) (un : Int32) (so si : Nat → Int32) (mb : Int32) (re st sk wa : Nat → Int32) (lb : Int32) (ro co fl ma : Nat → Int32) (lr gc : Int32) (a : Nat → Int32) (w : Int32) (hok : ps_ok n so) (hsi : ps_si n so a si) (hme : ps_me n so a re) : Met l yX1_layOut (ws_ yX1_layOut cX1_layOut 7 none) ({ frames := 0, cells := 0, slots := 0, locals := 0 }) (va_Pc [.ref h0, .int w] (preW dC dI cI cZ sz (wX h0 qa cI cZ pw (nI n) un so si mb re st sk wa lb ro co fl ma lr gc))) (va_Qv (fun u : (Nat → Int32) × (Nat → Int32) × (Nat → Int32) × (Nat → Int32) × (Nat → Int32) × Int32 × Int32 => ps_la n so a w u.2.2.2.2.2.1 u.2.2.2.2.2.2 u.2.1 u.2.2.1 u.2.2.2.1) (fun u t => posW dC dI cI cZ (va_A (wX h0 qa cI cZ pw (nI n) un so si mb re st sk wa lb ro co fl ma lr gc) sz) (wX h0 qa cI cZ pw (nI n) un so si mb re st u.1 wa lb u.2.1 u.2.2.1 u.2.2.2.1 u.2.2.2.2.1 u.2.2.2.2.2.1 u.2.2.2.2.2.2) t) (va_A (wX h0 qa cI cZ pw (nI n) un so si mb re st sk wa lb ro co fl ma lr gc) sz)) 0 0 (va_A (wX h0 qa cI cZ pw (nI n) un so si mb re st sk wa lb ro co fl ma lr gc) sz) := by
  refine Met.ofW (cc := cX1_layOut) (maxL := 7) (ret := none) (by decide) rfl ?_
  intro p e s m args below meth c s₁ B hml hv
  obtain ⟨rfl, hsz, hP, hK, hD0⟩ := hv
  have hx := B.exec
  have hb := B.bytes
  have hr := B.returns
  have hts := atoms_spec (ws := ws_ yX1_layOut cX1_layOut 7 none) B.pre
  have hts : ∀ w ∈ lw_all, w.before _ s = true := fun w h => hts w (List.mem_cons_of_mem _ h)
  have hown : s.vm.findClass RX1 = some m.cls := findClass_of_methodNamed B.named
  have hlocks := B.notSynchronized
  subst hsz
  have hD := hD0.self (sz := s.heap.size)
  generalize hAe : va_A (wX h0 qa cI cZ pw (nI n) un so si mb re st sk wa lb ro co fl ma lr gc) s.heap.size = A at hD ⊢
  have hA : ∀ q : Nat, s.heap.size ≤ q → A q := fun q h => by rw [← hAe]; exact Or.inr h
  have hS : va_S A s.heap s.heap [] := va_S.rf
  have hl := lv_entry ([.ref h0, .int w]) (n := 7) (Nat.le_of_ble_eq_true rfl)
  rw [lg_entry_eq]
  generalize (lg_sl ([.ref h0, .int w]) ++ List.replicate (7 - (lg_sl ([.ref h0, .int w])).length) Slot.unset).toArray = ls at hl ⊢
  have hl : lv_has ls 7 [(0, .ref h0), (1, .int w)] := hl
  have hn60 := hok.1
  refine lv_iconst (v := 0) hx hb dX1_layOut_0 (by decide) ?_
  refine lv_istore_n (lv' := [(2, .int 0), (0, .ref h0), (1, .int w)]) hx hb dX1_layOut_1 rfl hl (by decide) rfl (fun ls hl => ?_)
  refine lv_iconst (v := 0) hx hb dX1_layOut_2 (by decide) ?_
  refine lv_istore_n (lv' := [(3, .int 0), (2, .int 0), (0, .ref h0), (1, .int w)]) hx hb dX1_layOut_3 rfl hl (by decide) rfl (fun ls hl => ?_)
  refine lv_iconst (v := nI 0) hx hb dX1_layOut_4 (by decide) ?_
  refine lv_istore (lv' := [(4, .int (nI 0)), (3, .int 0), (2, .int 0), (0, .ref h0), (1, .int w)]) hx hb dX1_layOut_5 hl (by decide) rfl (fun ls hl => ?_)
  refine lv_aload_n hx hb dX1_layOut_7 rfl (lv_at hl 3 rfl) ?_
  refine lv_iconst (v := 0) hx hb dX1_layOut_8 (by decide) ?_
  refine va_put (D := (dC, dI)) (ci := 0) (v := .int 0) (ty := .int) (C := RX1) (T := TX1) (N := 17) hx hb hts in_X1 tyX1 tyX1_ok nmX1 hown hK hP hD hS 0 rfl rfl 16 (by decide) (hts _ q42) (fun _ h9 => h9) rfl (by decide +kernel) rfl rfl (Nat.le_of_ble_eq_true rfl) dX1_layOut_9 (fun H locs hP hD hS => ?_)
  have hP : va_P (dC, dI) vwCl (wX h0 qa cI cZ pw (nI n) un so si mb re st sk wa lb ro co fl ma lr 0) H := hP
  have hD : va_D A (wX h0 qa cI cZ pw (nI n) un so si mb re st sk wa lb ro co fl ma lr 0) := hD
  refine lv_iconst (v := nI 0) hx hb dX1_layOut_12 (by decide) ?_
  refine lv_istore (lv' := [(5, .int (nI 0)), (4, .int (nI 0)), (3, .int 0), (2, .int 0), (0, .ref h0), (1, .int w)]) hx hb dX1_layOut_13 hl (by decide) rfl (fun ls hl => ?_)
  refine zl_loop (I := fun k H locs ls => ∃ (i : Nat) (row : Int32) (col : Int32) (gr : Int32) (kf : Nat → Int32) (rf : Nat → Int32) (cf : Nat → Int32) (ff : Nat → Int32) (mf : Nat → Int32), k = n - i ∧ i ≤ n ∧ ps_LX so a n w i row col gr kf rf cf ff mf ∧ va_P (dC, dI) vwCl (wX h0 qa cI cZ pw (nI n) un so si mb re st kf wa lb rf cf ff mf lr gr) H ∧ va_D A (wX h0 qa cI cZ pw (nI n) un so si mb re st kf wa lb rf cf ff mf lr gr) ∧ va_S A s.heap H locs ∧ lv_has ls 7 [(0, .ref h0), (1, .int w), (2, .int row), (3, .int col), (4, .int (nI (ps_dp so i))), (5, .int (nI i))]) ?_ n _ _ _ ⟨0, 0, 0, 0, sk, ro, co, fl, ma, rfl, Nat.zero_le n, ps_LX_0 so a n w sk ro co fl ma, hP, hD, hS, lv_sub hl [4, 5, 3, 2, 1, 0] rfl⟩
  intro k H locs ls hI ih
  obtain ⟨i, row, col, gr, kf, rf, cf, ff, mf, hk, hi, hL, hP, hD, hS, hl⟩ := hI
  refine lv_iload hx hb dX1_layOut_15 (lv_at hl 5 rfl) ?_
  refine lv_aload_n hx hb dX1_layOut_17 rfl (lv_at hl 0 rfl) ?_
  refine va_get (D := (dC, dI)) (ci := 0) (v := .int (nI n)) (C := RX1) (T := TX1) (N := 17) hx hb hts in_X1 hown hK hP 0 rfl rfl 1 (by decide) (hts _ q27) (fun _ h9 => h9) rfl dX1_layOut_18 ?_
  refine lv_icmp_ge (tgt := 258) hx hb dX1_layOut_21 (by decide) (fun c_21 => ?_) (fun c_21 => ?_)
  · have hin : n = i := by have := (nI_leI (a := n) (b := i) (by omega) (by omega)).mp c_21; omega
    subst hin
    refine lv_aload_n hx hb dX1_layOut_258 rfl (lv_at hl 0 rfl) ?_
    refine lv_iload_n hx hb dX1_layOut_259 rfl (lv_at hl 2 rfl) ?_
    refine va_put (D := (dC, dI)) (ci := 0) (v := .int row) (ty := .int) (C := RX1) (T := TX1) (N := 17) hx hb hts in_X1 tyX1 tyX1_ok nmX1 hown hK hP hD hS 0 rfl rfl 15 (by decide) (hts _ q41) (fun _ h9 => h9) rfl (by decide +kernel) rfl rfl (Nat.le_of_ble_eq_true rfl) dX1_layOut_260 (fun H locs hP hD hS => ?_)
    have hP : va_P (dC, dI) vwCl (wX h0 qa cI cZ pw (nI n) un so si mb re st kf wa lb rf cf ff mf row gr) H := hP
    have hD : va_D A (wX h0 qa cI cZ pw (nI n) un so si mb re st kf wa lb rf cf ff mf row gr) := hD
    exact W.vret hx hb hr (fun t ht hW => ⟨⟨(kf, rf, cf, ff, mf, row, gr), rfl, ⟨hL.1, hL.2.2.1, hL.2.2.2.1⟩, by rw [ht]; exact hP, va_K.moved hW.alike hK, hD⟩, hS.F ht⟩) hS.2.2 dX1_layOut_263
  · have hin : i < n := by
      rcases Nat.lt_or_ge i n with z | z
      · exact z
      · exact absurd (nI_le z (by omega)) c_21
    have hi60 : i < 60 := by omega
    have hd12 := hok.2.2.2 i hi
    refine zl_cut (pc := 232) (I := fun H locs ls stk => ∃ (row2 : Int32) (col2 : Int32) (k2 : Nat → Int32) (f2 : Nat → Int32) (m2 : Nat → Int32), ps_LX so a n w (i + 1) row2 col2 (ps_mx gr col2) k2 (upd rf i row) (upd cf i col) f2 m2 ∧ stk = [] ∧ va_P (dC, dI) vwCl (wX h0 qa cI cZ pw (nI n) un so si mb re st k2 wa lb (upd rf i row) (upd cf i col) f2 m2 lr gr) H ∧ va_D A (wX h0 qa cI cZ pw (nI n) un so si mb re st k2 wa lb (upd rf i row) (upd cf i col) f2 m2 lr gr) ∧ va_S A s.heap H locs ∧ lv_has ls 7 [(0, .ref h0), (1, .int w), (2, .int row2), (3, .int col2), (4, .int (nI (ps_dp so (i + 1)))), (5, .int (nI i))]) ?_ (fun J => ?_)
    · intro H locs ls stk hI
      obtain ⟨row2, col2, k2, f2, m2, hL2, rfl, hP, hD, hS, hl⟩ := hI
      refine lv_aload_n hx hb dX1_layOut_232 rfl (lv_at hl 0 rfl) ?_
      refine lv_iload_n hx hb dX1_layOut_233 rfl (lv_at hl 3 rfl) ?_
      refine lv_aload_n hx hb dX1_layOut_234 rfl (lv_at hl 0 rfl) ?_
      refine va_get (D := (dC, dI)) (ci := 0) (v := .int gr) (C := RX1) (T := TX1) (N := 17) hx hb hts in_X1 hown hK hP 0 rfl rfl 16 (by decide) (hts _ q42) (fun _ h9 => h9) rfl dX1_layOut_235 ?_
      refine lv_icmp_le (tgt := 245) hx hb dX1_layOut_238 (by decide) (fun c_238 => ?_) (fun c_238 => ?_)
      · refine lv_aload_n hx hb dX1_layOut_245 rfl (lv_at hl 0 rfl) ?_
        refine va_get (D := (dC, dI)) (ci := 0) (v := .int gr) (C := RX1) (T := TX1) (N := 17) hx hb hts in_X1 hown hK hP 0 rfl rfl 16 (by decide) (hts _ q42) (fun _ h9 => h9) rfl dX1_layOut_246 ?_
        refine va_put (D := (dC, dI)) (ci := 0) (v := .int gr) (ty := .int) (C := RX1) (T := TX1) (N := 17) hx hb hts in_X1 tyX1 tyX1_ok nmX1 hown hK hP hD hS 0 rfl rfl 16 (by decide) (hts _ q42) (fun _ h9 => h9) rfl (by decide +kernel) rfl rfl (Nat.le_of_ble_eq_true rfl) dX1_layOut_249 (fun H locs hP hD hS => ?_)
        have hP : va_P (dC, dI) vwCl (wX h0 qa cI cZ pw (nI n) un so si mb re st k2 wa lb (upd rf i row) (upd cf i col) f2 m2 lr gr) H := hP
        have hD : va_D A (wX h0 qa cI cZ pw (nI n) un so si mb re st k2 wa lb (upd rf i row) (upd cf i col) f2 m2 lr gr) := hD
        refine lv_iinc (v := nI (i + 1)) (lv' := [(5, .int (nI (i + 1))), (0, .ref h0), (1, .int w), (2, .int row2), (3, .int col2), (4, .int (nI (ps_dp so (i + 1))))]) hx hb dX1_layOut_252 hl (k := 5) rfl (nI_1 _) (by decide) rfl (fun ls hl => ?_)
        refine lv_goto (tgt := 15) hx hb dX1_layOut_255 (by decide) ?_
        exact ih (n - (i + 1)) _ _ _ (by omega) ⟨i + 1, row2, col2, gr, _, _, _, _, _, rfl, by omega, by rw [← ps_mx_le c_238]; exact hL2, hP, hD, hS, lv_sub hl [1, 2, 3, 4, 5, 0] rfl⟩
      · refine lv_iload_n hx hb dX1_layOut_241 rfl (lv_at hl 3 rfl) ?_
        refine lv_goto (tgt := 249) hx hb dX1_layOut_242 (by decide) ?_
        refine va_put (D := (dC, dI)) (ci := 0) (v := .int col2) (ty := .int) (C := RX1) (T := TX1) (N := 17) hx hb hts in_X1 tyX1 tyX1_ok nmX1 hown hK hP hD hS 0 rfl rfl 16 (by decide) (hts _ q42) (fun _ h9 => h9) rfl (by decide +kernel) rfl rfl (Nat.le_of_ble_eq_true rfl) dX1_layOut_249 (fun H locs hP hD hS => ?_)
        have hP : va_P (dC, dI) vwCl (wX h0 qa cI cZ pw (nI n) un so si mb re st k2 wa lb (upd rf i row) (upd cf i col) f2 m2 lr col2) H := hP
        have hD : va_D A (wX h0 qa cI cZ pw (nI n) un so si mb re st k2 wa lb (upd rf i row) (upd cf i col) f2 m2 lr col2) := hD
        refine lv_iinc (v := nI (i + 1)) (lv' := [(5, .int (nI (i + 1))), (0, .ref h0), (1, .int w), (2, .int row2), (3, .int col2), (4, .int (nI (ps_dp so (i + 1))))]) hx hb dX1_layOut_252 hl (k := 5) rfl (nI_1 _) (by decide) rfl (fun ls hl => ?_)
        refine lv_goto (tgt := 15) hx hb dX1_layOut_255 (by decide) ?_
        exact ih (n - (i + 1)) _ _ _ (by omega) ⟨i + 1, row2, col2, col2, _, _, _, _, _, rfl, by omega, by have hq := hL2; rw [ps_mx_gt c_238] at hq; exact hq, hP, hD, hS, lv_sub hl [1, 2, 3, 4, 5, 0] rfl⟩
    refine lv_aload_n hx hb dX1_layOut_24 rfl (lv_at hl 0 rfl) ?_
    refine va_get (D := (dC, dI)) (ci := 0) (v := .ref (qa 6)) (C := RX1) (T := TX1) (N := 17) hx hb hts in_X1 hown hK hP 0 rfl rfl 11 (by decide) (hts _ q37) (fun _ h9 => h9) rfl dX1_layOut_25 ?_
    refine lv_iload hx hb dX1_layOut_28 (lv_at hl 5 rfl) ?_
    refine lv_iload_n hx hb dX1_layOut_30 rfl (lv_at hl 2 rfl) ?_
    refine zi_ast hx hb hK hP hD hS 7 0 rfl rfl (hi60) (by decide) dX1_layOut_31 (fun H locs hP hD hS => ?_)
    have hP : va_P (dC, dI) vwCl (wX h0 qa cI cZ pw (nI n) un so si mb re st kf wa lb (upd rf i row) cf ff mf lr gr) H := hP
    have hD : va_D A (wX h0 qa cI cZ pw (nI n) un so si mb re st kf wa lb (upd rf i row) cf ff mf lr gr) := hD
    refine lv_aload_n hx hb dX1_layOut_32 rfl (lv_at hl 0 rfl) ?_
    refine va_get (D := (dC, dI)) (ci := 0) (v := .ref (qa 7)) (C := RX1) (T := TX1) (N := 17) hx hb hts in_X1 hown hK hP 0 rfl rfl 12 (by decide) (hts _ q38) (fun _ h9 => h9) rfl dX1_layOut_33 ?_
    refine lv_iload hx hb dX1_layOut_36 (lv_at hl 5 rfl) ?_
    refine lv_iload_n hx hb dX1_layOut_38 rfl (lv_at hl 3 rfl) ?_
    refine zi_ast hx hb hK hP hD hS 8 0 rfl rfl (hi60) (by decide) dX1_layOut_39 (fun H locs hP hD hS => ?_)
    have hP : va_P (dC, dI) vwCl (wX h0 qa cI cZ pw (nI n) un so si mb re st kf wa lb (upd rf i row) (upd cf i col) ff mf lr gr) H := hP
    have hD : va_D A (wX h0 qa cI cZ pw (nI n) un so si mb re st kf wa lb (upd rf i row) (upd cf i col) ff mf lr gr) := hD
    by_cases hdz : ps_dp so i = 0
    · refine lv_iload hx hb dX1_layOut_40 (lv_at hl 4 rfl) ?_
      refine lv_if_ne (tgt := 49) hx hb dX1_layOut_42 (by decide) (fun c_42 => absurd (by rw [hdz]; exact nI_0) c_42) (fun c_42 => ?_)
      refine lv_iconst (v := -1) hx hb dX1_layOut_45 (by decide) ?_
      refine lv_goto (tgt := 58) hx hb dX1_layOut_46 (by decide) ?_
      refine lv_istore (lv' := [(6, .int (-1)), (0, .ref h0), (1, .int w), (2, .int row), (3, .int col), (4, .int (nI (ps_dp so i))), (5, .int (nI i))]) hx hb dX1_layOut_58 hl (by decide) rfl (fun ls hl => ?_)
      rcases hok.2.1 i hin with h | h | h | h
      · have hsz : si i = a i := by rw [hsi i hin, if_neg (ps_ne23 h (by decide))]
        rw [← ps_dp_s0 h] at hl
        refine lv_aload_n hx hb dX1_layOut_60 rfl (lv_at hl 1 rfl) ?_
        refine va_get (D := (dC, dI)) (ci := 0) (v := .ref (qa 0)) (C := RX1) (T := TX1) (N := 17) hx hb hts in_X1 hown hK hP 0 rfl rfl 3 (by decide) (hts _ q29) (fun _ h9 => h9) rfl dX1_layOut_61 ?_
        refine lv_iload hx hb dX1_layOut_64 (lv_at hl 6 rfl) ?_
        refine zi_ald (v := so i) hx hb hK hP 1 0 rfl rfl (hi60) (by decide) (rfl) dX1_layOut_66 ?_
        refine lv_iconst (v := 2) hx hb dX1_layOut_67 (by decide) ?_
        refine lv_icmp_ne (tgt := 157) hx hb dX1_layOut_68 (by decide) (fun c_68 => ?_) (fun c_68 => absurd c_68 (ps_ne23 h (by decide)))
        refine lv_aload_n hx hb dX1_layOut_157 rfl (lv_at hl 1 rfl) ?_
        refine va_get (D := (dC, dI)) (ci := 0) (v := .ref (qa 0)) (C := RX1) (T := TX1) (N := 17) hx hb hts in_X1 hown hK hP 0 rfl rfl 3 (by decide) (hts _ q29) (fun _ h9 => h9) rfl dX1_layOut_158 ?_
        refine lv_iload hx hb dX1_layOut_161 (lv_at hl 6 rfl) ?_
        refine zi_ald (v := so i) hx hb hK hP 1 0 rfl rfl (hi60) (by decide) (rfl) dX1_layOut_163 ?_
        refine lv_iconst (v := 3) hx hb dX1_layOut_164 (by decide) ?_
        refine lv_icmp_ne (tgt := 174) hx hb dX1_layOut_165 (by decide) (fun c_165 => ?_) (fun c_165 => absurd c_165 (ps_ne23 h (by decide)))
        refine lv_aload_n hx hb dX1_layOut_174 rfl (lv_at hl 1 rfl) ?_
        refine va_get (D := (dC, dI)) (ci := 0) (v := .ref (qa 0)) (C := RX1) (T := TX1) (N := 17) hx hb hts in_X1 hown hK hP 0 rfl rfl 3 (by decide) (hts _ q29) (fun _ h9 => h9) rfl dX1_layOut_175 ?_
        refine lv_iload hx hb dX1_layOut_178 (lv_at hl 6 rfl) ?_
        refine zi_ald (v := so i) hx hb hK hP 1 0 rfl rfl (hi60) (by decide) (rfl) dX1_layOut_180 ?_
        refine lv_if_eq (tgt := 199) hx hb dX1_layOut_181 (by decide) (fun c_181 => ?_) (fun c_181 => absurd h c_181)
        refine lv_iload_n hx hb dX1_layOut_199 rfl (lv_at hl 4 rfl) ?_
        refine lv_aload_n hx hb dX1_layOut_200 rfl (lv_at hl 1 rfl) ?_
        refine va_get (D := (dC, dI)) (ci := 0) (v := .ref (qa 1)) (C := RX1) (T := TX1) (N := 17) hx hb hts in_X1 hown hK hP 0 rfl rfl 4 (by decide) (hts _ q30) (fun _ h9 => h9) rfl dX1_layOut_201 ?_
        refine lv_iload hx hb dX1_layOut_204 (lv_at hl 6 rfl) ?_
        refine zi_ald (v := a i) hx hb hK hP 2 0 rfl rfl (hi60) (by decide) (hsz) dX1_layOut_206 ?_
        refine lv_iadd hx hb dX1_layOut_207 ?_
        refine lv_istore_n (lv' := [(3, .int (col + (a i))), (6, .int (-1)), (0, .ref h0), (1, .int w), (2, .int row), (4, .int (nI (ps_dp so (i + 1)))), (5, .int (nI i))]) hx hb dX1_layOut_208 rfl hl (by decide) rfl (fun ls hl => ?_)
        refine lv_goto (tgt := 232) hx hb dX1_layOut_209 (by decide) ?_
        exact J _ _ _ _ ⟨_, _, _, _, _, ps_LX_word hL h, rfl, hP, hD, hS, lv_sub hl [2, 3, 4, 0, 5, 6] rfl⟩
      · have hsz : si i = 1 := by rw [hsi i hin, if_pos h]
        rw [← ps_dp_s1 h] at hl
        refine lv_aload_n hx hb dX1_layOut_60 rfl (lv_at hl 1 rfl) ?_
        refine va_get (D := (dC, dI)) (ci := 0) (v := .ref (qa 0)) (C := RX1) (T := TX1) (N := 17) hx hb hts in_X1 hown hK hP 0 rfl rfl 3 (by decide) (hts _ q29) (fun _ h9 => h9) rfl dX1_layOut_61 ?_
        refine lv_iload hx hb dX1_layOut_64 (lv_at hl 6 rfl) ?_
        refine zi_ald (v := so i) hx hb hK hP 1 0 rfl rfl (hi60) (by decide) (rfl) dX1_layOut_66 ?_
        refine lv_iconst (v := 2) hx hb dX1_layOut_67 (by decide) ?_
        refine lv_icmp_ne (tgt := 157) hx hb dX1_layOut_68 (by decide) (fun c_68 => ?_) (fun c_68 => absurd c_68 (ps_ne23 h (by decide)))
        refine lv_aload_n hx hb dX1_layOut_157 rfl (lv_at hl 1 rfl) ?_
        refine va_get (D := (dC, dI)) (ci := 0) (v := .ref (qa 0)) (C := RX1) (T := TX1) (N := 17) hx hb hts in_X1 hown hK hP 0 rfl rfl 3 (by decide) (hts _ q29) (fun _ h9 => h9) rfl dX1_layOut_158 ?_
        refine lv_iload hx hb dX1_layOut_161 (lv_at hl 6 rfl) ?_
        refine zi_ald (v := so i) hx hb hK hP 1 0 rfl rfl (hi60) (by decide) (rfl) dX1_layOut_163 ?_
        refine lv_iconst (v := 3) hx hb dX1_layOut_164 (by decide) ?_
        refine lv_icmp_ne (tgt := 174) hx hb dX1_layOut_165 (by decide) (fun c_165 => ?_) (fun c_165 => absurd c_165 (ps_ne23 h (by decide)))
        refine lv_aload_n hx hb dX1_layOut_174 rfl (lv_at hl 1 rfl) ?_
        refine va_get (D := (dC, dI)) (ci := 0) (v := .ref (qa 0)) (C := RX1) (T := TX1) (N := 17) hx hb hts in_X1 hown hK hP 0 rfl rfl 3 (by decide) (hts _ q29) (fun _ h9 => h9) rfl dX1_layOut_175 ?_
        refine lv_iload hx hb dX1_layOut_178 (lv_at hl 6 rfl) ?_
        refine zi_ald (v := so i) hx hb hK hP 1 0 rfl rfl (hi60) (by decide) (rfl) dX1_layOut_180 ?_
        refine lv_if_eq (tgt := 199) hx hb dX1_layOut_181 (by decide) (fun c_181 => absurd c_181 (ps_ne23 h (by decide))) (fun c_181 => ?_)
        refine lv_iload hx hb dX1_layOut_184 (lv_at hl 0 rfl) ?_
        refine lv_if_lt (tgt := 212) hx hb dX1_layOut_186 (by decide) (fun c_186 => ?_) (fun c_186 => absurd (by decide) c_186)
        refine lv_iinc (v := row + 1) (lv' := [(2, .int (row + 1)), (6, .int (-1)), (0, .ref h0), (1, .int w), (3, .int col), (4, .int (nI (ps_dp so (i + 1)))), (5, .int (nI i))]) hx hb dX1_layOut_212 hl (k := 3) rfl (rfl) (by decide) rfl (fun ls hl => ?_)
        refine lv_iload hx hb dX1_layOut_215 (lv_at hl 1 rfl) ?_
        refine lv_if_ge (tgt := 224) hx hb dX1_layOut_217 (by decide) (fun c_217 => absurd c_217 (by decide)) (fun c_217 => ?_)
        refine lv_iconst (v := 0) hx hb dX1_layOut_220 (by decide) ?_
        refine lv_goto (tgt := 231) hx hb dX1_layOut_221 (by decide) ?_
        refine lv_istore_n (lv' := [(3, .int 0), (2, .int (row + 1)), (6, .int (-1)), (0, .ref h0), (1, .int w), (4, .int (nI (ps_dp so (i + 1)))), (5, .int (nI i))]) hx hb dX1_layOut_231 rfl hl (by decide) rfl (fun ls hl => ?_)
        exact J _ _ _ _ ⟨_, _, _, _, _, ps_LX_line hL h (ps_tp0 hdz) (ps_tp0 hdz).symm, rfl, hP, hD, hS, lv_sub hl [3, 4, 1, 0, 5, 6] rfl⟩
      · have hsz : si i = a i := by rw [hsi i hin, if_neg (ps_ne23 h (by decide))]
        have hre := hme i hin h
        have hd12s : ps_dp so i < 12 := by
          have h1 := hok.2.2.2 (i + 1) (by omega)
          rw [ps_dp_s2 h] at h1
          omega
        refine lv_aload_n hx hb dX1_layOut_60 rfl (lv_at hl 1 rfl) ?_
        refine va_get (D := (dC, dI)) (ci := 0) (v := .ref (qa 0)) (C := RX1) (T := TX1) (N := 17) hx hb hts in_X1 hown hK hP 0 rfl rfl 3 (by decide) (hts _ q29) (fun _ h9 => h9) rfl dX1_layOut_61 ?_
        refine lv_iload hx hb dX1_layOut_64 (lv_at hl 6 rfl) ?_
        refine zi_ald (v := so i) hx hb hK hP 1 0 rfl rfl (hi60) (by decide) (rfl) dX1_layOut_66 ?_
        refine lv_iconst (v := 2) hx hb dX1_layOut_67 (by decide) ?_
        refine lv_icmp_ne (tgt := 157) hx hb dX1_layOut_68 (by decide) (fun c_68 => absurd h c_68) (fun c_68 => ?_)
        refine lv_aload_n hx hb dX1_layOut_71 rfl (lv_at hl 1 rfl) ?_
        refine va_get (D := (dC, dI)) (ci := 0) (v := .ref (qa 8)) (C := RX1) (T := TX1) (N := 17) hx hb hts in_X1 hown hK hP 0 rfl rfl 13 (by decide) (hts _ q39) (fun _ h9 => h9) rfl dX1_layOut_72 ?_
        refine lv_iload hx hb dX1_layOut_75 (lv_at hl 6 rfl) ?_
        refine lv_iload hx hb dX1_layOut_77 (lv_at hl 0 rfl) ?_
        refine lv_if_lt (tgt := 92) hx hb dX1_layOut_79 (by decide) (fun c_79 => ?_) (fun c_79 => absurd (by decide) c_79)
        refine lv_iload_n hx hb dX1_layOut_92 rfl (lv_at hl 4 rfl) ?_
        refine lv_aload_n hx hb dX1_layOut_93 rfl (lv_at hl 1 rfl) ?_
        refine va_get (D := (dC, dI)) (ci := 0) (v := .ref (qa 2)) (C := RX1) (T := TX1) (N := 17) hx hb hts in_X1 hown hK hP 0 rfl rfl 6 (by decide) (hts _ q32) (fun _ h9 => h9) rfl dX1_layOut_94 ?_
        refine lv_iload hx hb dX1_layOut_97 (lv_at hl 6 rfl) ?_
        refine zi_ald (v := ps_gr so a i n) hx hb hK hP 3 0 rfl rfl (hi60) (by decide) (hre) dX1_layOut_99 ?_
        refine lv_iadd hx hb dX1_layOut_100 ?_
        refine lv_iload_n hx hb dX1_layOut_101 rfl (lv_at hl 2 rfl) ?_
        refine lv_icmp_gt (tgt := 109) hx hb dX1_layOut_102 (by decide) (fun c_102 => ?_) (fun c_102 => ?_)
        · refine lv_iconst (v := 0) hx hb dX1_layOut_109 (by decide) ?_
          refine zz_ast hx hb hK hP hD hS 9 1 rfl rfl (hi60) (by decide) (Or.inl rfl) dX1_layOut_110 (fun H locs hP hD hS => ?_)
          have hP : va_P (dC, dI) vwCl (wX h0 qa cI cZ pw (nI n) un so si mb re st kf wa lb (upd rf i row) (upd cf i col) (upd ff i 0) mf lr gr) H := hP
          have hD : va_D A (wX h0 qa cI cZ pw (nI n) un so si mb re st kf wa lb (upd rf i row) (upd cf i col) (upd ff i 0) mf lr gr) := hD
          refine lv_aload_n hx hb dX1_layOut_111 rfl (lv_at hl 1 rfl) ?_
          refine va_get (D := (dC, dI)) (ci := 0) (v := .ref (qa 9)) (C := RX1) (T := TX1) (N := 17) hx hb hts in_X1 hown hK hP 0 rfl rfl 14 (by decide) (hts _ q40) (fun _ h9 => h9) rfl dX1_layOut_112 ?_
          refine lv_iload hx hb dX1_layOut_115 (lv_at hl 6 rfl) ?_
          refine lv_iload hx hb dX1_layOut_117 (lv_at hl 0 rfl) ?_
          refine lv_if_ge (tgt := 126) hx hb dX1_layOut_119 (by decide) (fun c_119 => absurd c_119 (by decide)) (fun c_119 => ?_)
          refine lv_iconst (v := 0) hx hb dX1_layOut_122 (by decide) ?_
          refine lv_goto (tgt := 133) hx hb dX1_layOut_123 (by decide) ?_
          refine lv_aload_n hx hb dX1_layOut_133 rfl (lv_at hl 1 rfl) ?_
          refine va_get (D := (dC, dI)) (ci := 0) (v := .ref (qa 1)) (C := RX1) (T := TX1) (N := 17) hx hb hts in_X1 hown hK hP 0 rfl rfl 4 (by decide) (hts _ q30) (fun _ h9 => h9) rfl dX1_layOut_134 ?_
          refine lv_iload hx hb dX1_layOut_137 (lv_at hl 6 rfl) ?_
          refine zi_ald (v := a i) hx hb hK hP 2 0 rfl rfl (hi60) (by decide) (hsz) dX1_layOut_139 ?_
          refine lv_iadd hx hb dX1_layOut_140 ?_
          refine zi_ast hx hb hK hP hD hS 10 0 rfl rfl (hi60) (by decide) dX1_layOut_141 (fun H locs hP hD hS => ?_)
          have hP : va_P (dC, dI) vwCl (wX h0 qa cI cZ pw (nI n) un so si mb re st kf wa lb (upd rf i row) (upd cf i col) (upd ff i 0) (upd mf i (0 + (a i))) lr gr) H := hP
          have hD : va_D A (wX h0 qa cI cZ pw (nI n) un so si mb re st kf wa lb (upd rf i row) (upd cf i col) (upd ff i 0) (upd mf i (0 + (a i))) lr gr) := hD
          refine lv_aload_n hx hb dX1_layOut_142 rfl (lv_at hl 1 rfl) ?_
          refine va_get (D := (dC, dI)) (ci := 0) (v := .ref (qa 4)) (C := RX1) (T := TX1) (N := 17) hx hb hts in_X1 hown hK hP 0 rfl rfl 8 (by decide) (hts _ q34) (fun _ h9 => h9) rfl dX1_layOut_143 ?_
          refine lv_iload hx hb dX1_layOut_146 (lv_at hl 5 rfl) ?_
          refine lv_iload hx hb dX1_layOut_148 (lv_at hl 6 rfl) ?_
          refine zi_ast hx hb hK hP hD hS 5 0 rfl rfl (hd12s) (by decide) dX1_layOut_150 (fun H locs hP hD hS => ?_)
          have hP : va_P (dC, dI) vwCl (wX h0 qa cI cZ pw (nI n) un so si mb re st (upd kf (ps_dp so i) (nI i)) wa lb (upd rf i row) (upd cf i col) (upd ff i 0) (upd mf i (0 + (a i))) lr gr) H := hP
          have hD : va_D A (wX h0 qa cI cZ pw (nI n) un so si mb re st (upd kf (ps_dp so i) (nI i)) wa lb (upd rf i row) (upd cf i col) (upd ff i 0) (upd mf i (0 + (a i))) lr gr) := hD
          refine lv_iinc (v := nI (ps_dp so (i + 1))) (lv' := [(4, .int (nI (ps_dp so (i + 1)))), (6, .int (-1)), (0, .ref h0), (1, .int w), (2, .int row), (3, .int col), (5, .int (nI i))]) hx hb dX1_layOut_151 hl (k := 5) rfl (by rw [ps_dp_s2 h]; exact nI_1 _) (by decide) rfl (fun ls hl => ?_)
          refine lv_goto (tgt := 232) hx hb dX1_layOut_154 (by decide) ?_
          exact J _ _ _ _ ⟨_, _, _, _, _, ps_LX_open hL h (show 0 = ps_Z so a n w i from ps_en0 (ps_tp0 hdz) (by rw [← hL.2.1]; exact Int32.not_le.mpr c_102)) (by rw [ps_tp0 hdz]), rfl, hP, hD, hS, lv_sub hl [2, 3, 4, 5, 0, 6] rfl⟩
        · refine lv_iconst (v := 1) hx hb dX1_layOut_105 (by decide) ?_
          refine lv_goto (tgt := 110) hx hb dX1_layOut_106 (by decide) ?_
          refine zz_ast hx hb hK hP hD hS 9 1 rfl rfl (hi60) (by decide) (Or.inr rfl) dX1_layOut_110 (fun H locs hP hD hS => ?_)
          have hP : va_P (dC, dI) vwCl (wX h0 qa cI cZ pw (nI n) un so si mb re st kf wa lb (upd rf i row) (upd cf i col) (upd ff i 1) mf lr gr) H := hP
          have hD : va_D A (wX h0 qa cI cZ pw (nI n) un so si mb re st kf wa lb (upd rf i row) (upd cf i col) (upd ff i 1) mf lr gr) := hD
          refine lv_aload_n hx hb dX1_layOut_111 rfl (lv_at hl 1 rfl) ?_
          refine va_get (D := (dC, dI)) (ci := 0) (v := .ref (qa 9)) (C := RX1) (T := TX1) (N := 17) hx hb hts in_X1 hown hK hP 0 rfl rfl 14 (by decide) (hts _ q40) (fun _ h9 => h9) rfl dX1_layOut_112 ?_
          refine lv_iload hx hb dX1_layOut_115 (lv_at hl 6 rfl) ?_
          refine lv_iload hx hb dX1_layOut_117 (lv_at hl 0 rfl) ?_
          refine lv_if_ge (tgt := 126) hx hb dX1_layOut_119 (by decide) (fun c_119 => absurd c_119 (by decide)) (fun c_119 => ?_)
          refine lv_iconst (v := 0) hx hb dX1_layOut_122 (by decide) ?_
          refine lv_goto (tgt := 133) hx hb dX1_layOut_123 (by decide) ?_
          refine lv_aload_n hx hb dX1_layOut_133 rfl (lv_at hl 1 rfl) ?_
          refine va_get (D := (dC, dI)) (ci := 0) (v := .ref (qa 1)) (C := RX1) (T := TX1) (N := 17) hx hb hts in_X1 hown hK hP 0 rfl rfl 4 (by decide) (hts _ q30) (fun _ h9 => h9) rfl dX1_layOut_134 ?_
          refine lv_iload hx hb dX1_layOut_137 (lv_at hl 6 rfl) ?_
          refine zi_ald (v := a i) hx hb hK hP 2 0 rfl rfl (hi60) (by decide) (hsz) dX1_layOut_139 ?_
          refine lv_iadd hx hb dX1_layOut_140 ?_
          refine zi_ast hx hb hK hP hD hS 10 0 rfl rfl (hi60) (by decide) dX1_layOut_141 (fun H locs hP hD hS => ?_)
          have hP : va_P (dC, dI) vwCl (wX h0 qa cI cZ pw (nI n) un so si mb re st kf wa lb (upd rf i row) (upd cf i col) (upd ff i 1) (upd mf i (0 + (a i))) lr gr) H := hP
          have hD : va_D A (wX h0 qa cI cZ pw (nI n) un so si mb re st kf wa lb (upd rf i row) (upd cf i col) (upd ff i 1) (upd mf i (0 + (a i))) lr gr) := hD
          refine lv_aload_n hx hb dX1_layOut_142 rfl (lv_at hl 1 rfl) ?_
          refine va_get (D := (dC, dI)) (ci := 0) (v := .ref (qa 4)) (C := RX1) (T := TX1) (N := 17) hx hb hts in_X1 hown hK hP 0 rfl rfl 8 (by decide) (hts _ q34) (fun _ h9 => h9) rfl dX1_layOut_143 ?_
          refine lv_iload hx hb dX1_layOut_146 (lv_at hl 5 rfl) ?_
          refine lv_iload hx hb dX1_layOut_148 (lv_at hl 6 rfl) ?_
          refine zi_ast hx hb hK hP hD hS 5 0 rfl rfl (hd12s) (by decide) dX1_layOut_150 (fun H locs hP hD hS => ?_)
          have hP : va_P (dC, dI) vwCl (wX h0 qa cI cZ pw (nI n) un so si mb re st (upd kf (ps_dp so i) (nI i)) wa lb (upd rf i row) (upd cf i col) (upd ff i 1) (upd mf i (0 + (a i))) lr gr) H := hP
          have hD : va_D A (wX h0 qa cI cZ pw (nI n) un so si mb re st (upd kf (ps_dp so i) (nI i)) wa lb (upd rf i row) (upd cf i col) (upd ff i 1) (upd mf i (0 + (a i))) lr gr) := hD
          refine lv_iinc (v := nI (ps_dp so (i + 1))) (lv' := [(4, .int (nI (ps_dp so (i + 1)))), (6, .int (-1)), (0, .ref h0), (1, .int w), (2, .int row), (3, .int col), (5, .int (nI i))]) hx hb dX1_layOut_151 hl (k := 5) rfl (by rw [ps_dp_s2 h]; exact nI_1 _) (by decide) rfl (fun ls hl => ?_)
          refine lv_goto (tgt := 232) hx hb dX1_layOut_154 (by decide) ?_
          exact J _ _ _ _ ⟨_, _, _, _, _, ps_LX_open hL h (show 1 = ps_Z so a n w i from ps_en1 (Or.inr (by rw [← hL.2.1]; exact Int32.not_lt.mp c_102))) (by rw [ps_tp0 hdz]), rfl, hP, hD, hS, lv_sub hl [2, 3, 4, 5, 0, 6] rfl⟩
      · refine lv_aload_n hx hb dX1_layOut_60 rfl (lv_at hl 1 rfl) ?_
        refine va_get (D := (dC, dI)) (ci := 0) (v := .ref (qa 0)) (C := RX1) (T := TX1) (N := 17) hx hb hts in_X1 hown hK hP 0 rfl rfl 3 (by decide) (hts _ q29) (fun _ h9 => h9) rfl dX1_layOut_61 ?_
        refine lv_iload hx hb dX1_layOut_64 (lv_at hl 6 rfl) ?_
        refine zi_ald (v := so i) hx hb hK hP 1 0 rfl rfl (hi60) (by decide) (rfl) dX1_layOut_66 ?_
        refine lv_iconst (v := 2) hx hb dX1_layOut_67 (by decide) ?_
        refine lv_icmp_ne (tgt := 157) hx hb dX1_layOut_68 (by decide) (fun c_68 => ?_) (fun c_68 => absurd c_68 (ps_ne23 h (by decide)))
        refine lv_aload_n hx hb dX1_layOut_157 rfl (lv_at hl 1 rfl) ?_
        refine va_get (D := (dC, dI)) (ci := 0) (v := .ref (qa 0)) (C := RX1) (T := TX1) (N := 17) hx hb hts in_X1 hown hK hP 0 rfl rfl 3 (by decide) (hts _ q29) (fun _ h9 => h9) rfl dX1_layOut_158 ?_
        refine lv_iload hx hb dX1_layOut_161 (lv_at hl 6 rfl) ?_
        refine zi_ald (v := so i) hx hb hK hP 1 0 rfl rfl (hi60) (by decide) (rfl) dX1_layOut_163 ?_
        refine lv_iconst (v := 3) hx hb dX1_layOut_164 (by decide) ?_
        refine lv_icmp_ne (tgt := 174) hx hb dX1_layOut_165 (by decide) (fun c_165 => absurd h c_165) (fun c_165 => ?_)
        refine lv_iinc (v := nI (ps_dp so (i + 1))) (lv' := [(4, .int (nI (ps_dp so (i + 1)))), (6, .int (-1)), (0, .ref h0), (1, .int w), (2, .int row), (3, .int col), (5, .int (nI i))]) hx hb dX1_layOut_168 hl (k := 5) rfl (by rw [ps_dp_s3 h]; exact ps_m1 (hok.2.2.1 i hin h)) (by decide) rfl (fun ls hl => ?_)
        refine lv_goto (tgt := 232) hx hb dX1_layOut_171 (by decide) ?_
        exact J _ _ _ _ ⟨_, _, _, _, _, ps_LX_close hL h, rfl, hP, hD, hS, lv_sub hl [2, 3, 4, 5, 0, 6] rfl⟩
    · have hd0 : 0 < ps_dp so i := by omega
      obtain ⟨pz, hpz, e1, e2, e3⟩ := hL.2.2.2.2 (ps_dp so i - 1) (by omega)
      replace e2 : ff pz = ps_tp (ps_dp so i) (ps_F so a n w i) := e2.trans (ps_tp1 hdz).symm
      replace e3 : mf pz = ps_tp (ps_dp so i) (ps_M so a n w i) := e3.trans (ps_tp1 hdz).symm
      refine lv_iload hx hb dX1_layOut_40 (lv_at hl 4 rfl) ?_
      refine lv_if_ne (tgt := 49) hx hb dX1_layOut_42 (by decide) (fun c_42 => ?_) (fun c_42 => absurd c_42 (nI_ne0 hd0 (by omega)))
      refine lv_aload_n hx hb dX1_layOut_49 rfl (lv_at hl 0 rfl) ?_
      refine va_get (D := (dC, dI)) (ci := 0) (v := .ref (qa 4)) (C := RX1) (T := TX1) (N := 17) hx hb hts in_X1 hown hK hP 0 rfl rfl 8 (by decide) (hts _ q34) (fun _ h9 => h9) rfl dX1_layOut_50 ?_
      refine lv_iload hx hb dX1_layOut_53 (lv_at hl 4 rfl) ?_
      refine lv_iconst (v := 1) hx hb dX1_layOut_55 (by decide) ?_
      refine lv_isub hx hb dX1_layOut_56 ?_
      rw [show (nI (ps_dp so i)) - 1 = nI (ps_dp so i - 1) from ps_s1 hd0]
      refine zi_ald (v := nI pz) hx hb hK hP 5 0 rfl rfl (by omega) (by decide) (e1) dX1_layOut_57 ?_
      refine lv_istore (lv' := [(6, .int (nI pz)), (0, .ref h0), (1, .int w), (2, .int row), (3, .int col), (4, .int (nI (ps_dp so i))), (5, .int (nI i))]) hx hb dX1_layOut_58 hl (by decide) rfl (fun ls hl => ?_)
      rcases hok.2.1 i hin with h | h | h | h
      · have hsz : si i = a i := by rw [hsi i hin, if_neg (ps_ne23 h (by decide))]
        rw [← ps_dp_s0 h] at hl
        refine lv_aload_n hx hb dX1_layOut_60 rfl (lv_at hl 1 rfl) ?_
        refine va_get (D := (dC, dI)) (ci := 0) (v := .ref (qa 0)) (C := RX1) (T := TX1) (N := 17) hx hb hts in_X1 hown hK hP 0 rfl rfl 3 (by decide) (hts _ q29) (fun _ h9 => h9) rfl dX1_layOut_61 ?_
        refine lv_iload hx hb dX1_layOut_64 (lv_at hl 6 rfl) ?_
        refine zi_ald (v := so i) hx hb hK hP 1 0 rfl rfl (hi60) (by decide) (rfl) dX1_layOut_66 ?_
        refine lv_iconst (v := 2) hx hb dX1_layOut_67 (by decide) ?_
        refine lv_icmp_ne (tgt := 157) hx hb dX1_layOut_68 (by decide) (fun c_68 => ?_) (fun c_68 => absurd c_68 (ps_ne23 h (by decide)))
        refine lv_aload_n hx hb dX1_layOut_157 rfl (lv_at hl 1 rfl) ?_
        refine va_get (D := (dC, dI)) (ci := 0) (v := .ref (qa 0)) (C := RX1) (T := TX1) (N := 17) hx hb hts in_X1 hown hK hP 0 rfl rfl 3 (by decide) (hts _ q29) (fun _ h9 => h9) rfl dX1_layOut_158 ?_
        refine lv_iload hx hb dX1_layOut_161 (lv_at hl 6 rfl) ?_
        refine zi_ald (v := so i) hx hb hK hP 1 0 rfl rfl (hi60) (by decide) (rfl) dX1_layOut_163 ?_
        refine lv_iconst (v := 3) hx hb dX1_layOut_164 (by decide) ?_
        refine lv_icmp_ne (tgt := 174) hx hb dX1_layOut_165 (by decide) (fun c_165 => ?_) (fun c_165 => absurd c_165 (ps_ne23 h (by decide)))
        refine lv_aload_n hx hb dX1_layOut_174 rfl (lv_at hl 1 rfl) ?_
        refine va_get (D := (dC, dI)) (ci := 0) (v := .ref (qa 0)) (C := RX1) (T := TX1) (N := 17) hx hb hts in_X1 hown hK hP 0 rfl rfl 3 (by decide) (hts _ q29) (fun _ h9 => h9) rfl dX1_layOut_175 ?_
        refine lv_iload hx hb dX1_layOut_178 (lv_at hl 6 rfl) ?_
        refine zi_ald (v := so i) hx hb hK hP 1 0 rfl rfl (hi60) (by decide) (rfl) dX1_layOut_180 ?_
        refine lv_if_eq (tgt := 199) hx hb dX1_layOut_181 (by decide) (fun c_181 => ?_) (fun c_181 => absurd h c_181)
        refine lv_iload_n hx hb dX1_layOut_199 rfl (lv_at hl 4 rfl) ?_
        refine lv_aload_n hx hb dX1_layOut_200 rfl (lv_at hl 1 rfl) ?_
        refine va_get (D := (dC, dI)) (ci := 0) (v := .ref (qa 1)) (C := RX1) (T := TX1) (N := 17) hx hb hts in_X1 hown hK hP 0 rfl rfl 4 (by decide) (hts _ q30) (fun _ h9 => h9) rfl dX1_layOut_201 ?_
        refine lv_iload hx hb dX1_layOut_204 (lv_at hl 6 rfl) ?_
        refine zi_ald (v := a i) hx hb hK hP 2 0 rfl rfl (hi60) (by decide) (hsz) dX1_layOut_206 ?_
        refine lv_iadd hx hb dX1_layOut_207 ?_
        refine lv_istore_n (lv' := [(3, .int (col + (a i))), (6, .int (nI pz)), (0, .ref h0), (1, .int w), (2, .int row), (4, .int (nI (ps_dp so (i + 1)))), (5, .int (nI i))]) hx hb dX1_layOut_208 rfl hl (by decide) rfl (fun ls hl => ?_)
        refine lv_goto (tgt := 232) hx hb dX1_layOut_209 (by decide) ?_
        exact J _ _ _ _ ⟨_, _, _, _, _, ps_LX_word hL h, rfl, hP, hD, hS, lv_sub hl [2, 3, 4, 0, 5, 6] rfl⟩
      · have hsz : si i = 1 := by rw [hsi i hin, if_pos h]
        rw [← ps_dp_s1 h] at hl
        refine lv_aload_n hx hb dX1_layOut_60 rfl (lv_at hl 1 rfl) ?_
        refine va_get (D := (dC, dI)) (ci := 0) (v := .ref (qa 0)) (C := RX1) (T := TX1) (N := 17) hx hb hts in_X1 hown hK hP 0 rfl rfl 3 (by decide) (hts _ q29) (fun _ h9 => h9) rfl dX1_layOut_61 ?_
        refine lv_iload hx hb dX1_layOut_64 (lv_at hl 6 rfl) ?_
        refine zi_ald (v := so i) hx hb hK hP 1 0 rfl rfl (hi60) (by decide) (rfl) dX1_layOut_66 ?_
        refine lv_iconst (v := 2) hx hb dX1_layOut_67 (by decide) ?_
        refine lv_icmp_ne (tgt := 157) hx hb dX1_layOut_68 (by decide) (fun c_68 => ?_) (fun c_68 => absurd c_68 (ps_ne23 h (by decide)))
        refine lv_aload_n hx hb dX1_layOut_157 rfl (lv_at hl 1 rfl) ?_
        refine va_get (D := (dC, dI)) (ci := 0) (v := .ref (qa 0)) (C := RX1) (T := TX1) (N := 17) hx hb hts in_X1 hown hK hP 0 rfl rfl 3 (by decide) (hts _ q29) (fun _ h9 => h9) rfl dX1_layOut_158 ?_
        refine lv_iload hx hb dX1_layOut_161 (lv_at hl 6 rfl) ?_
        refine zi_ald (v := so i) hx hb hK hP 1 0 rfl rfl (hi60) (by decide) (rfl) dX1_layOut_163 ?_
        refine lv_iconst (v := 3) hx hb dX1_layOut_164 (by decide) ?_
        refine lv_icmp_ne (tgt := 174) hx hb dX1_layOut_165 (by decide) (fun c_165 => ?_) (fun c_165 => absurd c_165 (ps_ne23 h (by decide)))
        refine lv_aload_n hx hb dX1_layOut_174 rfl (lv_at hl 1 rfl) ?_
        refine va_get (D := (dC, dI)) (ci := 0) (v := .ref (qa 0)) (C := RX1) (T := TX1) (N := 17) hx hb hts in_X1 hown hK hP 0 rfl rfl 3 (by decide) (hts _ q29) (fun _ h9 => h9) rfl dX1_layOut_175 ?_
        refine lv_iload hx hb dX1_layOut_178 (lv_at hl 6 rfl) ?_
        refine zi_ald (v := so i) hx hb hK hP 1 0 rfl rfl (hi60) (by decide) (rfl) dX1_layOut_180 ?_
        refine lv_if_eq (tgt := 199) hx hb dX1_layOut_181 (by decide) (fun c_181 => absurd c_181 (ps_ne23 h (by decide))) (fun c_181 => ?_)
        refine lv_iload hx hb dX1_layOut_184 (lv_at hl 0 rfl) ?_
        refine lv_if_lt (tgt := 212) hx hb dX1_layOut_186 (by decide) (fun c_186 => absurd c_186 (nI_pos (by omega))) (fun c_186 => ?_)
        refine lv_aload_n hx hb dX1_layOut_189 rfl (lv_at hl 1 rfl) ?_
        refine va_get (D := (dC, dI)) (ci := 0) (v := .ref (qa 8)) (C := RX1) (T := TX1) (N := 17) hx hb hts in_X1 hown hK hP 0 rfl rfl 13 (by decide) (hts _ q39) (fun _ h9 => h9) rfl dX1_layOut_190 ?_
        refine lv_iload hx hb dX1_layOut_193 (lv_at hl 0 rfl) ?_
        refine zz_ald (v := ff pz) hx hb hK hP 9 1 rfl rfl (by omega) (by decide) (rfl) dX1_layOut_195 ?_
        refine lv_if_eq (tgt := 212) hx hb dX1_layOut_196 (by decide) (fun c_196 => ?_) (fun c_196 => ?_)
        · refine lv_iinc (v := row + 1) (lv' := [(2, .int (row + 1)), (6, .int (nI pz)), (0, .ref h0), (1, .int w), (3, .int col), (4, .int (nI (ps_dp so (i + 1)))), (5, .int (nI i))]) hx hb dX1_layOut_212 hl (k := 3) rfl (rfl) (by decide) rfl (fun ls hl => ?_)
          refine lv_iload hx hb dX1_layOut_215 (lv_at hl 1 rfl) ?_
          refine lv_if_ge (tgt := 224) hx hb dX1_layOut_217 (by decide) (fun c_217 => ?_) (fun c_217 => absurd (nI_pos' (by omega)) c_217)
          refine lv_aload_n hx hb dX1_layOut_224 rfl (lv_at hl 2 rfl) ?_
          refine va_get (D := (dC, dI)) (ci := 0) (v := .ref (qa 9)) (C := RX1) (T := TX1) (N := 17) hx hb hts in_X1 hown hK hP 0 rfl rfl 14 (by decide) (hts _ q40) (fun _ h9 => h9) rfl dX1_layOut_225 ?_
          refine lv_iload hx hb dX1_layOut_228 (lv_at hl 1 rfl) ?_
          refine zi_ald (v := mf pz) hx hb hK hP 10 0 rfl rfl (by omega) (by decide) (rfl) dX1_layOut_230 ?_
          refine lv_istore_n (lv' := [(3, .int (mf pz)), (2, .int (row + 1)), (6, .int (nI pz)), (0, .ref h0), (1, .int w), (4, .int (nI (ps_dp so (i + 1)))), (5, .int (nI i))]) hx hb dX1_layOut_231 rfl hl (by decide) rfl (fun ls hl => ?_)
          exact J _ _ _ _ ⟨_, _, _, _, _, ps_LX_line hL h (by rw [← e2]; exact c_196) e3, rfl, hP, hD, hS, lv_sub hl [3, 4, 1, 0, 5, 6] rfl⟩
        · refine lv_iload_n hx hb dX1_layOut_199 rfl (lv_at hl 4 rfl) ?_
          refine lv_aload_n hx hb dX1_layOut_200 rfl (lv_at hl 1 rfl) ?_
          refine va_get (D := (dC, dI)) (ci := 0) (v := .ref (qa 1)) (C := RX1) (T := TX1) (N := 17) hx hb hts in_X1 hown hK hP 0 rfl rfl 4 (by decide) (hts _ q30) (fun _ h9 => h9) rfl dX1_layOut_201 ?_
          refine lv_iload hx hb dX1_layOut_204 (lv_at hl 6 rfl) ?_
          refine zi_ald (v := 1) hx hb hK hP 2 0 rfl rfl (hi60) (by decide) (hsz) dX1_layOut_206 ?_
          refine lv_iadd hx hb dX1_layOut_207 ?_
          refine lv_istore_n (lv' := [(3, .int (col + 1)), (6, .int (nI pz)), (0, .ref h0), (1, .int w), (2, .int row), (4, .int (nI (ps_dp so (i + 1)))), (5, .int (nI i))]) hx hb dX1_layOut_208 rfl hl (by decide) rfl (fun ls hl => ?_)
          refine lv_goto (tgt := 232) hx hb dX1_layOut_209 (by decide) ?_
          exact J _ _ _ _ ⟨_, _, _, _, _, ps_LX_flat hL h (by rw [← e2]; exact c_196), rfl, hP, hD, hS, lv_sub hl [2, 3, 4, 0, 5, 6] rfl⟩
      · have hsz : si i = a i := by rw [hsi i hin, if_neg (ps_ne23 h (by decide))]
        have hre := hme i hin h
        have hd12s : ps_dp so i < 12 := by
          have h1 := hok.2.2.2 (i + 1) (by omega)
          rw [ps_dp_s2 h] at h1
          omega
        refine lv_aload_n hx hb dX1_layOut_60 rfl (lv_at hl 1 rfl) ?_
        refine va_get (D := (dC, dI)) (ci := 0) (v := .ref (qa 0)) (C := RX1) (T := TX1) (N := 17) hx hb hts in_X1 hown hK hP 0 rfl rfl 3 (by decide) (hts _ q29) (fun _ h9 => h9) rfl dX1_layOut_61 ?_
        refine lv_iload hx hb dX1_layOut_64 (lv_at hl 6 rfl) ?_
        refine zi_ald (v := so i) hx hb hK hP 1 0 rfl rfl (hi60) (by decide) (rfl) dX1_layOut_66 ?_
        refine lv_iconst (v := 2) hx hb dX1_layOut_67 (by decide) ?_
        refine lv_icmp_ne (tgt := 157) hx hb dX1_layOut_68 (by decide) (fun c_68 => absurd h c_68) (fun c_68 => ?_)
        refine lv_aload_n hx hb dX1_layOut_71 rfl (lv_at hl 1 rfl) ?_
        refine va_get (D := (dC, dI)) (ci := 0) (v := .ref (qa 8)) (C := RX1) (T := TX1) (N := 17) hx hb hts in_X1 hown hK hP 0 rfl rfl 13 (by decide) (hts _ q39) (fun _ h9 => h9) rfl dX1_layOut_72 ?_
        refine lv_iload hx hb dX1_layOut_75 (lv_at hl 6 rfl) ?_
        refine lv_iload hx hb dX1_layOut_77 (lv_at hl 0 rfl) ?_
        refine lv_if_lt (tgt := 92) hx hb dX1_layOut_79 (by decide) (fun c_79 => absurd c_79 (nI_pos (by omega))) (fun c_79 => ?_)
        refine lv_aload_n hx hb dX1_layOut_82 rfl (lv_at hl 1 rfl) ?_
        refine va_get (D := (dC, dI)) (ci := 0) (v := .ref (qa 8)) (C := RX1) (T := TX1) (N := 17) hx hb hts in_X1 hown hK hP 0 rfl rfl 13 (by decide) (hts _ q39) (fun _ h9 => h9) rfl dX1_layOut_83 ?_
        refine lv_iload hx hb dX1_layOut_86 (lv_at hl 0 rfl) ?_
        refine zz_ald (v := ff pz) hx hb hK hP 9 1 rfl rfl (by omega) (by decide) (rfl) dX1_layOut_88 ?_
        refine lv_if_ne (tgt := 105) hx hb dX1_layOut_89 (by decide) (fun c_89 => ?_) (fun c_89 => ?_)
        · refine lv_iconst (v := 1) hx hb dX1_layOut_105 (by decide) ?_
          refine lv_goto (tgt := 110) hx hb dX1_layOut_106 (by decide) ?_
          refine zz_ast hx hb hK hP hD hS 9 1 rfl rfl (hi60) (by decide) (Or.inr rfl) dX1_layOut_110 (fun H locs hP hD hS => ?_)
          have hP : va_P (dC, dI) vwCl (wX h0 qa cI cZ pw (nI n) un so si mb re st kf wa lb (upd rf i row) (upd cf i col) (upd ff i 1) mf lr gr) H := hP
          have hD : va_D A (wX h0 qa cI cZ pw (nI n) un so si mb re st kf wa lb (upd rf i row) (upd cf i col) (upd ff i 1) mf lr gr) := hD
          refine lv_aload_n hx hb dX1_layOut_111 rfl (lv_at hl 1 rfl) ?_
          refine va_get (D := (dC, dI)) (ci := 0) (v := .ref (qa 9)) (C := RX1) (T := TX1) (N := 17) hx hb hts in_X1 hown hK hP 0 rfl rfl 14 (by decide) (hts _ q40) (fun _ h9 => h9) rfl dX1_layOut_112 ?_
          refine lv_iload hx hb dX1_layOut_115 (lv_at hl 6 rfl) ?_
          refine lv_iload hx hb dX1_layOut_117 (lv_at hl 0 rfl) ?_
          refine lv_if_ge (tgt := 126) hx hb dX1_layOut_119 (by decide) (fun c_119 => ?_) (fun c_119 => absurd (nI_pos' (by omega)) c_119)
          refine lv_aload_n hx hb dX1_layOut_126 rfl (lv_at hl 1 rfl) ?_
          refine va_get (D := (dC, dI)) (ci := 0) (v := .ref (qa 9)) (C := RX1) (T := TX1) (N := 17) hx hb hts in_X1 hown hK hP 0 rfl rfl 14 (by decide) (hts _ q40) (fun _ h9 => h9) rfl dX1_layOut_127 ?_
          refine lv_iload hx hb dX1_layOut_130 (lv_at hl 0 rfl) ?_
          refine zi_ald (v := mf pz) hx hb hK hP 10 0 rfl rfl (by omega) (by decide) (rfl) dX1_layOut_132 ?_
          refine lv_aload_n hx hb dX1_layOut_133 rfl (lv_at hl 1 rfl) ?_
          refine va_get (D := (dC, dI)) (ci := 0) (v := .ref (qa 1)) (C := RX1) (T := TX1) (N := 17) hx hb hts in_X1 hown hK hP 0 rfl rfl 4 (by decide) (hts _ q30) (fun _ h9 => h9) rfl dX1_layOut_134 ?_
          refine lv_iload hx hb dX1_layOut_137 (lv_at hl 6 rfl) ?_
          refine zi_ald (v := a i) hx hb hK hP 2 0 rfl rfl (hi60) (by decide) (hsz) dX1_layOut_139 ?_
          refine lv_iadd hx hb dX1_layOut_140 ?_
          refine zi_ast hx hb hK hP hD hS 10 0 rfl rfl (hi60) (by decide) dX1_layOut_141 (fun H locs hP hD hS => ?_)
          have hP : va_P (dC, dI) vwCl (wX h0 qa cI cZ pw (nI n) un so si mb re st kf wa lb (upd rf i row) (upd cf i col) (upd ff i 1) (upd mf i ((mf pz) + (a i))) lr gr) H := hP
          have hD : va_D A (wX h0 qa cI cZ pw (nI n) un so si mb re st kf wa lb (upd rf i row) (upd cf i col) (upd ff i 1) (upd mf i ((mf pz) + (a i))) lr gr) := hD
          refine lv_aload_n hx hb dX1_layOut_142 rfl (lv_at hl 1 rfl) ?_
          refine va_get (D := (dC, dI)) (ci := 0) (v := .ref (qa 4)) (C := RX1) (T := TX1) (N := 17) hx hb hts in_X1 hown hK hP 0 rfl rfl 8 (by decide) (hts _ q34) (fun _ h9 => h9) rfl dX1_layOut_143 ?_
          refine lv_iload hx hb dX1_layOut_146 (lv_at hl 5 rfl) ?_
          refine lv_iload hx hb dX1_layOut_148 (lv_at hl 6 rfl) ?_
          refine zi_ast hx hb hK hP hD hS 5 0 rfl rfl (hd12s) (by decide) dX1_layOut_150 (fun H locs hP hD hS => ?_)
          have hP : va_P (dC, dI) vwCl (wX h0 qa cI cZ pw (nI n) un so si mb re st (upd kf (ps_dp so i) (nI i)) wa lb (upd rf i row) (upd cf i col) (upd ff i 1) (upd mf i ((mf pz) + (a i))) lr gr) H := hP
          have hD : va_D A (wX h0 qa cI cZ pw (nI n) un so si mb re st (upd kf (ps_dp so i) (nI i)) wa lb (upd rf i row) (upd cf i col) (upd ff i 1) (upd mf i ((mf pz) + (a i))) lr gr) := hD
          refine lv_iinc (v := nI (ps_dp so (i + 1))) (lv' := [(4, .int (nI (ps_dp so (i + 1)))), (6, .int (nI pz)), (0, .ref h0), (1, .int w), (2, .int row), (3, .int col), (5, .int (nI i))]) hx hb dX1_layOut_151 hl (k := 5) rfl (by rw [ps_dp_s2 h]; exact nI_1 _) (by decide) rfl (fun ls hl => ?_)
          refine lv_goto (tgt := 232) hx hb dX1_layOut_154 (by decide) ?_
          exact J _ _ _ _ ⟨_, _, _, _, _, ps_LX_open hL h (show 1 = ps_Z so a n w i from ps_en1 (Or.inl (by rw [← e2]; exact c_89))) (by rw [e3]), rfl, hP, hD, hS, lv_sub hl [2, 3, 4, 5, 0, 6] rfl⟩
        · refine lv_iload_n hx hb dX1_layOut_92 rfl (lv_at hl 4 rfl) ?_
          refine lv_aload_n hx hb dX1_layOut_93 rfl (lv_at hl 1 rfl) ?_
          refine va_get (D := (dC, dI)) (ci := 0) (v := .ref (qa 2)) (C := RX1) (T := TX1) (N := 17) hx hb hts in_X1 hown hK hP 0 rfl rfl 6 (by decide) (hts _ q32) (fun _ h9 => h9) rfl dX1_layOut_94 ?_
          refine lv_iload hx hb dX1_layOut_97 (lv_at hl 6 rfl) ?_
          refine zi_ald (v := ps_gr so a i n) hx hb hK hP 3 0 rfl rfl (hi60) (by decide) (hre) dX1_layOut_99 ?_
          refine lv_iadd hx hb dX1_layOut_100 ?_
          refine lv_iload_n hx hb dX1_layOut_101 rfl (lv_at hl 2 rfl) ?_
          refine lv_icmp_gt (tgt := 109) hx hb dX1_layOut_102 (by decide) (fun c_102 => ?_) (fun c_102 => ?_)
          · refine lv_iconst (v := 0) hx hb dX1_layOut_109 (by decide) ?_
            refine zz_ast hx hb hK hP hD hS 9 1 rfl rfl (hi60) (by decide) (Or.inl rfl) dX1_layOut_110 (fun H locs hP hD hS => ?_)
            have hP : va_P (dC, dI) vwCl (wX h0 qa cI cZ pw (nI n) un so si mb re st kf wa lb (upd rf i row) (upd cf i col) (upd ff i 0) mf lr gr) H := hP
            have hD : va_D A (wX h0 qa cI cZ pw (nI n) un so si mb re st kf wa lb (upd rf i row) (upd cf i col) (upd ff i 0) mf lr gr) := hD
            refine lv_aload_n hx hb dX1_layOut_111 rfl (lv_at hl 1 rfl) ?_
            refine va_get (D := (dC, dI)) (ci := 0) (v := .ref (qa 9)) (C := RX1) (T := TX1) (N := 17) hx hb hts in_X1 hown hK hP 0 rfl rfl 14 (by decide) (hts _ q40) (fun _ h9 => h9) rfl dX1_layOut_112 ?_
            refine lv_iload hx hb dX1_layOut_115 (lv_at hl 6 rfl) ?_
            refine lv_iload hx hb dX1_layOut_117 (lv_at hl 0 rfl) ?_
            refine lv_if_ge (tgt := 126) hx hb dX1_layOut_119 (by decide) (fun c_119 => ?_) (fun c_119 => absurd (nI_pos' (by omega)) c_119)
            refine lv_aload_n hx hb dX1_layOut_126 rfl (lv_at hl 1 rfl) ?_
            refine va_get (D := (dC, dI)) (ci := 0) (v := .ref (qa 9)) (C := RX1) (T := TX1) (N := 17) hx hb hts in_X1 hown hK hP 0 rfl rfl 14 (by decide) (hts _ q40) (fun _ h9 => h9) rfl dX1_layOut_127 ?_
            refine lv_iload hx hb dX1_layOut_130 (lv_at hl 0 rfl) ?_
            refine zi_ald (v := mf pz) hx hb hK hP 10 0 rfl rfl (by omega) (by decide) (rfl) dX1_layOut_132 ?_
            refine lv_aload_n hx hb dX1_layOut_133 rfl (lv_at hl 1 rfl) ?_
            refine va_get (D := (dC, dI)) (ci := 0) (v := .ref (qa 1)) (C := RX1) (T := TX1) (N := 17) hx hb hts in_X1 hown hK hP 0 rfl rfl 4 (by decide) (hts _ q30) (fun _ h9 => h9) rfl dX1_layOut_134 ?_
            refine lv_iload hx hb dX1_layOut_137 (lv_at hl 6 rfl) ?_
            refine zi_ald (v := a i) hx hb hK hP 2 0 rfl rfl (hi60) (by decide) (hsz) dX1_layOut_139 ?_
            refine lv_iadd hx hb dX1_layOut_140 ?_
            refine zi_ast hx hb hK hP hD hS 10 0 rfl rfl (hi60) (by decide) dX1_layOut_141 (fun H locs hP hD hS => ?_)
            have hP : va_P (dC, dI) vwCl (wX h0 qa cI cZ pw (nI n) un so si mb re st kf wa lb (upd rf i row) (upd cf i col) (upd ff i 0) (upd mf i ((mf pz) + (a i))) lr gr) H := hP
            have hD : va_D A (wX h0 qa cI cZ pw (nI n) un so si mb re st kf wa lb (upd rf i row) (upd cf i col) (upd ff i 0) (upd mf i ((mf pz) + (a i))) lr gr) := hD
            refine lv_aload_n hx hb dX1_layOut_142 rfl (lv_at hl 1 rfl) ?_
            refine va_get (D := (dC, dI)) (ci := 0) (v := .ref (qa 4)) (C := RX1) (T := TX1) (N := 17) hx hb hts in_X1 hown hK hP 0 rfl rfl 8 (by decide) (hts _ q34) (fun _ h9 => h9) rfl dX1_layOut_143 ?_
            refine lv_iload hx hb dX1_layOut_146 (lv_at hl 5 rfl) ?_
            refine lv_iload hx hb dX1_layOut_148 (lv_at hl 6 rfl) ?_
            refine zi_ast hx hb hK hP hD hS 5 0 rfl rfl (hd12s) (by decide) dX1_layOut_150 (fun H locs hP hD hS => ?_)
            have hP : va_P (dC, dI) vwCl (wX h0 qa cI cZ pw (nI n) un so si mb re st (upd kf (ps_dp so i) (nI i)) wa lb (upd rf i row) (upd cf i col) (upd ff i 0) (upd mf i ((mf pz) + (a i))) lr gr) H := hP
            have hD : va_D A (wX h0 qa cI cZ pw (nI n) un so si mb re st (upd kf (ps_dp so i) (nI i)) wa lb (upd rf i row) (upd cf i col) (upd ff i 0) (upd mf i ((mf pz) + (a i))) lr gr) := hD
            refine lv_iinc (v := nI (ps_dp so (i + 1))) (lv' := [(4, .int (nI (ps_dp so (i + 1)))), (6, .int (nI pz)), (0, .ref h0), (1, .int w), (2, .int row), (3, .int col), (5, .int (nI i))]) hx hb dX1_layOut_151 hl (k := 5) rfl (by rw [ps_dp_s2 h]; exact nI_1 _) (by decide) rfl (fun ls hl => ?_)
            refine lv_goto (tgt := 232) hx hb dX1_layOut_154 (by decide) ?_
            exact J _ _ _ _ ⟨_, _, _, _, _, ps_LX_open hL h (show 0 = ps_Z so a n w i from ps_en0 (by rw [← e2]; exact c_89) (by rw [← hL.2.1]; exact Int32.not_le.mpr c_102)) (by rw [e3]), rfl, hP, hD, hS, lv_sub hl [2, 3, 4, 5, 0, 6] rfl⟩
          · refine lv_iconst (v := 1) hx hb dX1_layOut_105 (by decide) ?_
            refine lv_goto (tgt := 110) hx hb dX1_layOut_106 (by decide) ?_
            refine zz_ast hx hb hK hP hD hS 9 1 rfl rfl (hi60) (by decide) (Or.inr rfl) dX1_layOut_110 (fun H locs hP hD hS => ?_)
            have hP : va_P (dC, dI) vwCl (wX h0 qa cI cZ pw (nI n) un so si mb re st kf wa lb (upd rf i row) (upd cf i col) (upd ff i 1) mf lr gr) H := hP
            have hD : va_D A (wX h0 qa cI cZ pw (nI n) un so si mb re st kf wa lb (upd rf i row) (upd cf i col) (upd ff i 1) mf lr gr) := hD
            refine lv_aload_n hx hb dX1_layOut_111 rfl (lv_at hl 1 rfl) ?_
            refine va_get (D := (dC, dI)) (ci := 0) (v := .ref (qa 9)) (C := RX1) (T := TX1) (N := 17) hx hb hts in_X1 hown hK hP 0 rfl rfl 14 (by decide) (hts _ q40) (fun _ h9 => h9) rfl dX1_layOut_112 ?_
            refine lv_iload hx hb dX1_layOut_115 (lv_at hl 6 rfl) ?_
            refine lv_iload hx hb dX1_layOut_117 (lv_at hl 0 rfl) ?_
            refine lv_if_ge (tgt := 126) hx hb dX1_layOut_119 (by decide) (fun c_119 => ?_) (fun c_119 => absurd (nI_pos' (by omega)) c_119)
            refine lv_aload_n hx hb dX1_layOut_126 rfl (lv_at hl 1 rfl) ?_
            refine va_get (D := (dC, dI)) (ci := 0) (v := .ref (qa 9)) (C := RX1) (T := TX1) (N := 17) hx hb hts in_X1 hown hK hP 0 rfl rfl 14 (by decide) (hts _ q40) (fun _ h9 => h9) rfl dX1_layOut_127 ?_
            refine lv_iload hx hb dX1_layOut_130 (lv_at hl 0 rfl) ?_
            refine zi_ald (v := mf pz) hx hb hK hP 10 0 rfl rfl (by omega) (by decide) (rfl) dX1_layOut_132 ?_
            refine lv_aload_n hx hb dX1_layOut_133 rfl (lv_at hl 1 rfl) ?_
            refine va_get (D := (dC, dI)) (ci := 0) (v := .ref (qa 1)) (C := RX1) (T := TX1) (N := 17) hx hb hts in_X1 hown hK hP 0 rfl rfl 4 (by decide) (hts _ q30) (fun _ h9 => h9) rfl dX1_layOut_134 ?_
            refine lv_iload hx hb dX1_layOut_137 (lv_at hl 6 rfl) ?_
            refine zi_ald (v := a i) hx hb hK hP 2 0 rfl rfl (hi60) (by decide) (hsz) dX1_layOut_139 ?_
            refine lv_iadd hx hb dX1_layOut_140 ?_
            refine zi_ast hx hb hK hP hD hS 10 0 rfl rfl (hi60) (by decide) dX1_layOut_141 (fun H locs hP hD hS => ?_)
            have hP : va_P (dC, dI) vwCl (wX h0 qa cI cZ pw (nI n) un so si mb re st kf wa lb (upd rf i row) (upd cf i col) (upd ff i 1) (upd mf i ((mf pz) + (a i))) lr gr) H := hP
            have hD : va_D A (wX h0 qa cI cZ pw (nI n) un so si mb re st kf wa lb (upd rf i row) (upd cf i col) (upd ff i 1) (upd mf i ((mf pz) + (a i))) lr gr) := hD
            refine lv_aload_n hx hb dX1_layOut_142 rfl (lv_at hl 1 rfl) ?_
            refine va_get (D := (dC, dI)) (ci := 0) (v := .ref (qa 4)) (C := RX1) (T := TX1) (N := 17) hx hb hts in_X1 hown hK hP 0 rfl rfl 8 (by decide) (hts _ q34) (fun _ h9 => h9) rfl dX1_layOut_143 ?_
            refine lv_iload hx hb dX1_layOut_146 (lv_at hl 5 rfl) ?_
            refine lv_iload hx hb dX1_layOut_148 (lv_at hl 6 rfl) ?_
            refine zi_ast hx hb hK hP hD hS 5 0 rfl rfl (hd12s) (by decide) dX1_layOut_150 (fun H locs hP hD hS => ?_)
            have hP : va_P (dC, dI) vwCl (wX h0 qa cI cZ pw (nI n) un so si mb re st (upd kf (ps_dp so i) (nI i)) wa lb (upd rf i row) (upd cf i col) (upd ff i 1) (upd mf i ((mf pz) + (a i))) lr gr) H := hP
            have hD : va_D A (wX h0 qa cI cZ pw (nI n) un so si mb re st (upd kf (ps_dp so i) (nI i)) wa lb (upd rf i row) (upd cf i col) (upd ff i 1) (upd mf i ((mf pz) + (a i))) lr gr) := hD
            refine lv_iinc (v := nI (ps_dp so (i + 1))) (lv' := [(4, .int (nI (ps_dp so (i + 1)))), (6, .int (nI pz)), (0, .ref h0), (1, .int w), (2, .int row), (3, .int col), (5, .int (nI i))]) hx hb dX1_layOut_151 hl (k := 5) rfl (by rw [ps_dp_s2 h]; exact nI_1 _) (by decide) rfl (fun ls hl => ?_)
            refine lv_goto (tgt := 232) hx hb dX1_layOut_154 (by decide) ?_
            exact J _ _ _ _ ⟨_, _, _, _, _, ps_LX_open hL h (show 1 = ps_Z so a n w i from ps_en1 (Or.inr (by rw [← hL.2.1]; exact Int32.not_lt.mp c_102))) (by rw [e3]), rfl, hP, hD, hS, lv_sub hl [2, 3, 4, 5, 0, 6] rfl⟩
      · refine lv_aload_n hx hb dX1_layOut_60 rfl (lv_at hl 1 rfl) ?_
        refine va_get (D := (dC, dI)) (ci := 0) (v := .ref (qa 0)) (C := RX1) (T := TX1) (N := 17) hx hb hts in_X1 hown hK hP 0 rfl rfl 3 (by decide) (hts _ q29) (fun _ h9 => h9) rfl dX1_layOut_61 ?_
        refine lv_iload hx hb dX1_layOut_64 (lv_at hl 6 rfl) ?_
        refine zi_ald (v := so i) hx hb hK hP 1 0 rfl rfl (hi60) (by decide) (rfl) dX1_layOut_66 ?_
        refine lv_iconst (v := 2) hx hb dX1_layOut_67 (by decide) ?_
        refine lv_icmp_ne (tgt := 157) hx hb dX1_layOut_68 (by decide) (fun c_68 => ?_) (fun c_68 => absurd c_68 (ps_ne23 h (by decide)))
        refine lv_aload_n hx hb dX1_layOut_157 rfl (lv_at hl 1 rfl) ?_
        refine va_get (D := (dC, dI)) (ci := 0) (v := .ref (qa 0)) (C := RX1) (T := TX1) (N := 17) hx hb hts in_X1 hown hK hP 0 rfl rfl 3 (by decide) (hts _ q29) (fun _ h9 => h9) rfl dX1_layOut_158 ?_
        refine lv_iload hx hb dX1_layOut_161 (lv_at hl 6 rfl) ?_
        refine zi_ald (v := so i) hx hb hK hP 1 0 rfl rfl (hi60) (by decide) (rfl) dX1_layOut_163 ?_
        refine lv_iconst (v := 3) hx hb dX1_layOut_164 (by decide) ?_
        refine lv_icmp_ne (tgt := 174) hx hb dX1_layOut_165 (by decide) (fun c_165 => absurd h c_165) (fun c_165 => ?_)
        refine lv_iinc (v := nI (ps_dp so (i + 1))) (lv' := [(4, .int (nI (ps_dp so (i + 1)))), (6, .int (nI pz)), (0, .ref h0), (1, .int w), (2, .int row), (3, .int col), (5, .int (nI i))]) hx hb dX1_layOut_168 hl (k := 5) rfl (by rw [ps_dp_s3 h]; exact ps_m1 (hok.2.2.1 i hin h)) (by decide) rfl (fun ls hl => ?_)
        refine lv_goto (tgt := 232) hx hb dX1_layOut_171 (by decide) ?_
        exact J _ _ _ _ ⟨_, _, _, _, _, ps_LX_close hL h, rfl, hP, hD, hS, lv_sub hl [2, 3, 4, 5, 0, 6] rfl⟩
end
section
set_option maxHeartbeats 4000000 in
set_option maxRecDepth 100000 in
/-- reach(piece) -/
theorem mM_reach (l : Launch) (dC : Nat → ClassId) (dI : Nat → Nat → Nat) (cI cZ : ClassId) (h0 sz : Nat) (qa : Nat → Nat) (pw : Int32) (n : Nat) (so a : Nat → Int32) (dp : Int32) (fs mg ro co fl : Nat → Int32) (lr gc : Int32) (pz : Nat) (hn : n ≤ 60) (hpz : pz < n) : Met l yX2_reach (ws_ yX2_reach cX2_reach 5 (some .int)) ({ frames := 0, cells := 0, slots := 0, locals := 0 }) (va_Pc [.ref h0, .int (nI pz)] (preW dC dI cI cZ sz (wM h0 qa cI cZ pw (nI n) so a dp fs mg ro co fl lr gc))) (va_Qi (fun (r : Int32) (_ : Unit) => r = ps_gr so a pz n) (fun u t => posW dC dI cI cZ (va_A (wM h0 qa cI cZ pw (nI n) so a dp fs mg ro co fl lr gc) sz) (wM h0 qa cI cZ pw (nI n) so a dp fs mg ro co fl lr gc) t) (va_A (wM h0 qa cI cZ pw (nI n) so a dp fs mg ro co fl lr gc) sz)) 0 0 (va_A (wM h0 qa cI cZ pw (nI n) so a dp fs mg ro co fl lr gc) sz) := by
  refine Met.ofW (cc := cX2_reach) (maxL := 5) (ret := (some .int)) (by decide) rfl ?_
  intro p e s m args below meth c s₁ B hml hv
  obtain ⟨rfl, hsz, hP, hK, hD0⟩ := hv
  have hx := B.exec
  have hb := B.bytes
  have hr := B.returns
  have hts := atoms_spec (ws := ws_ yX2_reach cX2_reach 5 (some .int)) B.pre
  have hts : ∀ w ∈ lw_all, w.before _ s = true := fun w h => hts w (List.mem_cons_of_mem _ h)
  have hown : s.vm.findClass RX2 = some m.cls := findClass_of_methodNamed B.named
  have hlocks := B.notSynchronized
  subst hsz
  have hD := hD0.self (sz := s.heap.size)
  generalize hAe : va_A (wM h0 qa cI cZ pw (nI n) so a dp fs mg ro co fl lr gc) s.heap.size = A at hD ⊢
  have hA : ∀ q : Nat, s.heap.size ≤ q → A q := fun q h => by rw [← hAe]; exact Or.inr h
  have hS : va_S A s.heap s.heap [] := va_S.rf
  have hl := lv_entry ([.ref h0, .int (nI pz)]) (n := 5) (Nat.le_of_ble_eq_true rfl)
  rw [lg_entry_eq]
  generalize (lg_sl ([.ref h0, .int (nI pz)]) ++ List.replicate (5 - (lg_sl ([.ref h0, .int (nI pz)])).length) Slot.unset).toArray = ls at hl ⊢
  have hl : lv_has ls 5 [(0, .ref h0), (1, .int (nI pz))] := hl
  refine lv_iconst (v := 0) hx hb dX2_reach_0 (by decide) ?_
  refine lv_istore_n (lv' := [(2, .int 0), (0, .ref h0), (1, .int (nI pz))]) hx hb dX2_reach_1 rfl hl (by decide) rfl (fun ls hl => ?_)
  refine lv_iconst (v := nI 1) hx hb dX2_reach_2 (by decide) ?_
  refine lv_istore_n (lv' := [(3, .int (nI 1)), (2, .int 0), (0, .ref h0), (1, .int (nI pz))]) hx hb dX2_reach_3 rfl hl (by decide) rfl (fun ls hl => ?_)
  refine lv_iload_n hx hb dX2_reach_4 rfl (lv_at hl 3 rfl) ?_
  refine lv_iconst (v := 1) hx hb dX2_reach_5 (by decide) ?_
  refine lv_iadd hx hb dX2_reach_6 ?_
  rw [show (nI pz) + 1 = nI (pz + 1) from nI_1 pz]
  refine lv_istore (lv' := [(4, .int (nI (pz + 1))), (3, .int (nI 1)), (2, .int 0), (0, .ref h0), (1, .int (nI pz))]) hx hb dX2_reach_7 hl (by decide) rfl (fun ls hl => ?_)
  refine zl_loop (I := fun k H locs ls => ∃ (i : Nat) (L : Nat) (sm : Int32), (k = n - i) ∧ (i ≤ n) ∧ (pz < i) ∧ (sm = ps_gr so a pz i) ∧ (ps_gl so pz i = some L) ∧ va_P (dC, dI) vwCl (wM h0 qa cI cZ pw (nI n) so a dp fs mg ro co fl lr gc) H ∧ va_D A (wM h0 qa cI cZ pw (nI n) so a dp fs mg ro co fl lr gc) ∧ va_S A s.heap H locs ∧ lv_has ls 5 [(0, .ref h0), (2, .int sm), (3, .int (nI L)), (4, .int (nI i))]) ?_ (n - (pz + 1)) _ _ _ ⟨pz + 1, 1, 0, rfl, hpz, Nat.lt_succ_self pz, (ps_gr_new so a pz).symm, ps_gl_new so pz, hP, hD, hS, lv_sub hl [3, 2, 1, 0] rfl⟩
  intro k H locs ls hI ih
  obtain ⟨i, L, sm, hk, hi, hpi, hsm, hg, hP, hD, hS, hl⟩ := hI
  have hLi := ps_gl_le so pz i L hpi hg
  refine lv_iload hx hb dX2_reach_9 (lv_at hl 3 rfl) ?_
  refine lv_aload_n hx hb dX2_reach_11 rfl (lv_at hl 0 rfl) ?_
  refine va_get (D := (dC, dI)) (ci := 1) (v := .int (nI n)) (C := RX2) (T := TX2) (N := 12) hx hb hts in_X2 hown hK hP 0 rfl rfl 1 (by decide) (hts _ q155) (fun _ h9 => h9) rfl dX2_reach_12 ?_
  refine lv_icmp_ge (tgt := 111) hx hb dX2_reach_15 (by decide) (fun c_15 => ?_) (fun c_15 => ?_)
  · have hin : n = i := by have := (nI_leI (a := n) (b := i) (by omega) (by omega)).mp c_15; omega
    subst hin
    refine lv_iload_n hx hb dX2_reach_111 rfl (lv_at hl 1 rfl) ?_
    exact W.iret (v := sm) hx hb hr (fun t ht hW => ⟨⟨sm, (), rfl, hsm, by rw [ht]; exact hP, va_K.moved hW.alike hK, hD⟩, hS.F ht⟩) hS.2.2 dX2_reach_112
  · have hin : i < n := by
      rcases Nat.lt_or_ge i n with z | z
      · exact z
      · exact absurd (nI_le z (by omega)) c_15
    have hi60 : i < 60 := by omega
    refine zl_cut (pc := 105) (I := fun H locs ls stk => ∃ (L2 : Nat) (s3 : Int32), (ps_gl so pz (i + 1) = some L2) ∧ (s3 = ps_gr so a pz (i + 1)) ∧ stk = [] ∧ va_P (dC, dI) vwCl (wM h0 qa cI cZ pw (nI n) so a dp fs mg ro co fl lr gc) H ∧ va_D A (wM h0 qa cI cZ pw (nI n) so a dp fs mg ro co fl lr gc) ∧ va_S A s.heap H locs ∧ lv_has ls 5 [(0, .ref h0), (2, .int s3), (3, .int (nI L2)), (4, .int (nI i))]) ?_ (fun J105 => ?_)
    · intro H locs ls stk hI
      obtain ⟨L2, s3, hg2, hs3, rfl, hP, hD, hS, hl⟩ := hI
      refine lv_iinc (v := nI (i + 1)) (lv' := [(4, .int (nI (i + 1))), (0, .ref h0), (2, .int s3), (3, .int (nI L2))]) hx hb dX2_reach_105 hl (k := 3) rfl (nI_1 _) (by decide) rfl (fun ls hl => ?_)
      refine lv_goto (tgt := 9) hx hb dX2_reach_108 (by decide) ?_
      exact ih (n - (i + 1)) _ _ _ (by omega) ⟨i + 1, L2, s3, rfl, by omega, by omega, hs3, hg2, hP, hD, hS, lv_sub hl [1, 2, 3, 0] rfl⟩
    refine zl_cut (pc := 91) (I := fun H locs ls stk => ∃ (L2 : Nat) (s2 : Int32), (ps_gl so pz (i + 1) = some L2) ∧ (s2 = sm + if so i = 0 then a i else 0) ∧ stk = [] ∧ va_P (dC, dI) vwCl (wM h0 qa cI cZ pw (nI n) so a dp fs mg ro co fl lr gc) H ∧ va_D A (wM h0 qa cI cZ pw (nI n) so a dp fs mg ro co fl lr gc) ∧ va_S A s.heap H locs ∧ lv_has ls 5 [(0, .ref h0), (2, .int s2), (3, .int (nI L2)), (4, .int (nI i))]) ?_ (fun J91 => ?_)
    · intro H locs ls stk hI
      obtain ⟨L2, s2, hg2, hs2, rfl, hP, hD, hS, hl⟩ := hI
      refine lv_aload_n hx hb dX2_reach_91 rfl (lv_at hl 0 rfl) ?_
      refine va_get (D := (dC, dI)) (ci := 1) (v := .ref (qa 0)) (C := RX2) (T := TX2) (N := 12) hx hb hts in_X2 hown hK hP 0 rfl rfl 2 (by decide) (hts _ q156) (fun _ h9 => h9) rfl dX2_reach_92 ?_
      refine lv_iload hx hb dX2_reach_95 (lv_at hl 3 rfl) ?_
      refine zi_ald (v := so i) hx hb hK hP 1 0 rfl rfl (hi60) (by decide) (rfl) dX2_reach_97 ?_
      refine lv_iconst (v := 1) hx hb dX2_reach_98 (by decide) ?_
      refine lv_icmp_ne (tgt := 105) hx hb dX2_reach_99 (by decide) (fun c_99 => ?_) (fun c_99 => ?_)
      · exact J105 _ _ _ _ ⟨L2, _, hg2, by rw [hs2, hsm, ps_gr_some hpi hg2]; unfold ps_ln; simp [c_99], rfl, hP, hD, hS, lv_sub hl [0, 1, 2, 3] rfl⟩
      · refine lv_iinc (v := s2 + 1) (lv' := [(2, .int (s2 + 1)), (0, .ref h0), (3, .int (nI L2)), (4, .int (nI i))]) hx hb dX2_reach_102 hl (k := 1) rfl (rfl) (by decide) rfl (fun ls hl => ?_)
        exact J105 _ _ _ _ ⟨L2, _, hg2, by rw [hs2, hsm, ps_gr_some hpi hg2]; unfold ps_ln; simp [c_99], rfl, hP, hD, hS, lv_sub hl [1, 0, 2, 3] rfl⟩
    refine zl_cut (pc := 71) (I := fun H locs ls stk => ∃ (L2 : Nat), (ps_gl so pz (i + 1) = some L2) ∧ stk = [] ∧ va_P (dC, dI) vwCl (wM h0 qa cI cZ pw (nI n) so a dp fs mg ro co fl lr gc) H ∧ va_D A (wM h0 qa cI cZ pw (nI n) so a dp fs mg ro co fl lr gc) ∧ va_S A s.heap H locs ∧ lv_has ls 5 [(0, .ref h0), (2, .int sm), (3, .int (nI L2)), (4, .int (nI i))]) ?_ (fun J71 => ?_)
    · intro H locs ls stk hI
      obtain ⟨L2, hg2, rfl, hP, hD, hS, hl⟩ := hI
      refine lv_aload_n hx hb dX2_reach_71 rfl (lv_at hl 0 rfl) ?_
      refine va_get (D := (dC, dI)) (ci := 1) (v := .ref (qa 0)) (C := RX2) (T := TX2) (N := 12) hx hb hts in_X2 hown hK hP 0 rfl rfl 2 (by decide) (hts _ q156) (fun _ h9 => h9) rfl dX2_reach_72 ?_
      refine lv_iload hx hb dX2_reach_75 (lv_at hl 3 rfl) ?_
      refine zi_ald (v := so i) hx hb hK hP 1 0 rfl rfl (hi60) (by decide) (rfl) dX2_reach_77 ?_
      refine lv_if_ne (tgt := 91) hx hb dX2_reach_78 (by decide) (fun c_78 => ?_) (fun c_78 => ?_)
      · exact J91 _ _ _ _ ⟨L2, _, hg2, by rw [if_neg c_78]; simp, rfl, hP, hD, hS, lv_sub hl [0, 1, 2, 3] rfl⟩
      · refine lv_iload_n hx hb dX2_reach_81 rfl (lv_at hl 1 rfl) ?_
        refine lv_aload_n hx hb dX2_reach_82 rfl (lv_at hl 0 rfl) ?_
        refine va_get (D := (dC, dI)) (ci := 1) (v := .ref (qa 1)) (C := RX2) (T := TX2) (N := 12) hx hb hts in_X2 hown hK hP 0 rfl rfl 3 (by decide) (hts _ q157) (fun _ h9 => h9) rfl dX2_reach_83 ?_
        refine lv_iload hx hb dX2_reach_86 (lv_at hl 3 rfl) ?_
        refine zi_ald (v := a i) hx hb hK hP 2 0 rfl rfl (hi60) (by decide) (rfl) dX2_reach_88 ?_
        refine lv_iadd hx hb dX2_reach_89 ?_
        refine lv_istore_n (lv' := [(2, .int (sm + (a i))), (0, .ref h0), (3, .int (nI L2)), (4, .int (nI i))]) hx hb dX2_reach_90 rfl hl (by decide) rfl (fun ls hl => ?_)
        exact J91 _ _ _ _ ⟨L2, _, hg2, by rw [if_pos c_78], rfl, hP, hD, hS, lv_sub hl [1, 0, 2, 3] rfl⟩
    refine zl_cut (pc := 54) (I := fun H locs ls stk => ∃ (L1 : Nat) (L2 : Nat), (L1 = if 0 < L ∧ so i = 2 then L + 1 else L) ∧ (L2 = if 0 < L1 ∧ so i = 3 then L1 - 1 else L1) ∧ (L2 ≤ 62) ∧ stk = [] ∧ va_P (dC, dI) vwCl (wM h0 qa cI cZ pw (nI n) so a dp fs mg ro co fl lr gc) H ∧ va_D A (wM h0 qa cI cZ pw (nI n) so a dp fs mg ro co fl lr gc) ∧ va_S A s.heap H locs ∧ lv_has ls 5 [(0, .ref h0), (2, .int sm), (3, .int (nI L2)), (4, .int (nI i))]) ?_ (fun J54 => ?_)
    · intro H locs ls stk hI
      obtain ⟨L1, L2, hL1, hL2, hLb, rfl, hP, hD, hS, hl⟩ := hI
      refine lv_iload_n hx hb dX2_reach_54 rfl (lv_at hl 2 rfl) ?_
      refine lv_if_ne (tgt := 71) hx hb dX2_reach_55 (by decide) (fun c_55 => ?_) (fun c_55 => ?_)
      · exact J71 _ _ _ _ ⟨L2, by rw [ps_gl_next hpi hg hL1 hL2, if_neg (fun z => c_55 (by rw [z.1]; exact nI_0))], rfl, hP, hD, hS, lv_sub hl [0, 1, 2, 3] rfl⟩
      · have hz0 : L2 = 0 := (nI_eq (a := L2) (b := 0) (by omega) (by omega)).mp c_55
        refine lv_aload_n hx hb dX2_reach_58 rfl (lv_at hl 0 rfl) ?_
        refine va_get (D := (dC, dI)) (ci := 1) (v := .ref (qa 0)) (C := RX2) (T := TX2) (N := 12) hx hb hts in_X2 hown hK hP 0 rfl rfl 2 (by decide) (hts _ q156) (fun _ h9 => h9) rfl dX2_reach_59 ?_
        refine lv_iload hx hb dX2_reach_62 (lv_at hl 3 rfl) ?_
        refine zi_ald (v := so i) hx hb hK hP 1 0 rfl rfl (hi60) (by decide) (rfl) dX2_reach_64 ?_
        refine lv_iconst (v := 1) hx hb dX2_reach_65 (by decide) ?_
        refine lv_icmp_ne (tgt := 71) hx hb dX2_reach_66 (by decide) (fun c_66 => ?_) (fun c_66 => ?_)
        · exact J71 _ _ _ _ ⟨L2, by rw [ps_gl_next hpi hg hL1 hL2, if_neg (fun z => c_66 z.2)], rfl, hP, hD, hS, lv_sub hl [0, 1, 2, 3] rfl⟩
        · refine lv_iload_n hx hb dX2_reach_69 rfl (lv_at hl 1 rfl) ?_
          exact W.iret (v := sm) hx hb hr (fun t ht hW => ⟨⟨sm, (), rfl, by
              have hnx := ps_gl_next hpi hg hL1 hL2
              rw [if_pos ⟨hz0, c_66⟩] at hnx
              rw [ps_gr_end (i := i + 1) (by omega) (by omega) hnx, ps_gr_none hpi hnx]; exact hsm, by rw [ht]; exact hP, va_K.moved hW.alike hK, hD⟩, hS.F ht⟩) hS.2.2 dX2_reach_70
    refine zl_cut (pc := 36) (I := fun H locs ls stk => ∃ (L1 : Nat), (L1 = if 0 < L ∧ so i = 2 then L + 1 else L) ∧ (L1 ≤ 61) ∧ stk = [] ∧ va_P (dC, dI) vwCl (wM h0 qa cI cZ pw (nI n) so a dp fs mg ro co fl lr gc) H ∧ va_D A (wM h0 qa cI cZ pw (nI n) so a dp fs mg ro co fl lr gc) ∧ va_S A s.heap H locs ∧ lv_has ls 5 [(0, .ref h0), (2, .int sm), (3, .int (nI L1)), (4, .int (nI i))]) ?_ (fun J36 => ?_)
    · intro H locs ls stk hI
      obtain ⟨L1, hL1, hLb, rfl, hP, hD, hS, hl⟩ := hI
      refine lv_iload_n hx hb dX2_reach_36 rfl (lv_at hl 2 rfl) ?_
      refine lv_if_le (tgt := 54) hx hb dX2_reach_37 (by decide) (fun c_37 => ?_) (fun c_37 => ?_)
      · have hLz : ¬ 0 < L1 := fun z => nI_nle z (by omega) c_37
        exact J54 _ _ _ _ ⟨L1, _, hL1, (if_neg (fun z => hLz z.1)).symm, by omega, rfl, hP, hD, hS, lv_sub hl [0, 1, 2, 3] rfl⟩
      · have hLz : 0 < L1 := by
          rcases Nat.eq_zero_or_pos L1 with z | z
          · exact absurd (by rw [z]; decide) c_37
          · exact z
        refine lv_aload_n hx hb dX2_reach_40 rfl (lv_at hl 0 rfl) ?_
        refine va_get (D := (dC, dI)) (ci := 1) (v := .ref (qa 0)) (C := RX2) (T := TX2) (N := 12) hx hb hts in_X2 hown hK hP 0 rfl rfl 2 (by decide) (hts _ q156) (fun _ h9 => h9) rfl dX2_reach_41 ?_
        refine lv_iload hx hb dX2_reach_44 (lv_at hl 3 rfl) ?_
        refine zi_ald (v := so i) hx hb hK hP 1 0 rfl rfl (hi60) (by decide) (rfl) dX2_reach_46 ?_
        refine lv_iconst (v := 3) hx hb dX2_reach_47 (by decide) ?_
        refine lv_icmp_ne (tgt := 54) hx hb dX2_reach_48 (by decide) (fun c_48 => ?_) (fun c_48 => ?_)
        · exact J54 _ _ _ _ ⟨L1, _, hL1, (if_neg (fun z => c_48 z.2)).symm, by omega, rfl, hP, hD, hS, lv_sub hl [0, 1, 2, 3] rfl⟩
        · refine lv_iinc (v := nI (L1 - 1)) (lv' := [(3, .int (nI (L1 - 1))), (0, .ref h0), (2, .int sm), (4, .int (nI i))]) hx hb dX2_reach_51 hl (k := 2) rfl (ps_m1 hLz) (by decide) rfl (fun ls hl => ?_)
          exact J54 _ _ _ _ ⟨L1, _, hL1, (if_pos ⟨hLz, c_48⟩).symm, by omega, rfl, hP, hD, hS, lv_sub hl [1, 2, 0, 3] rfl⟩
    refine lv_iload_n hx hb dX2_reach_18 rfl (lv_at hl 2 rfl) ?_
    refine lv_if_le (tgt := 36) hx hb dX2_reach_19 (by decide) (fun c_19 => ?_) (fun c_19 => ?_)
    · have hLz : ¬ 0 < L := fun z => nI_nle z (by omega) c_19
      exact J36 _ _ _ _ ⟨_, (if_neg (fun z => hLz z.1)).symm, by omega, rfl, hP, hD, hS, lv_sub hl [0, 1, 2, 3] rfl⟩
    · have hLz : 0 < L := by
        rcases Nat.eq_zero_or_pos L with z | z
        · exact absurd (by rw [z]; decide) c_19
        · exact z
      refine lv_aload_n hx hb dX2_reach_22 rfl (lv_at hl 0 rfl) ?_
      refine va_get (D := (dC, dI)) (ci := 1) (v := .ref (qa 0)) (C := RX2) (T := TX2) (N := 12) hx hb hts in_X2 hown hK hP 0 rfl rfl 2 (by decide) (hts _ q156) (fun _ h9 => h9) rfl dX2_reach_23 ?_
      refine lv_iload hx hb dX2_reach_26 (lv_at hl 3 rfl) ?_
      refine zi_ald (v := so i) hx hb hK hP 1 0 rfl rfl (hi60) (by decide) (rfl) dX2_reach_28 ?_
      refine lv_iconst (v := 2) hx hb dX2_reach_29 (by decide) ?_
      refine lv_icmp_ne (tgt := 36) hx hb dX2_reach_30 (by decide) (fun c_30 => ?_) (fun c_30 => ?_)
      · exact J36 _ _ _ _ ⟨_, (if_neg (fun z => c_30 z.2)).symm, by omega, rfl, hP, hD, hS, lv_sub hl [0, 1, 2, 3] rfl⟩
      · refine lv_iinc (v := nI (L + 1)) (lv' := [(3, .int (nI (L + 1))), (0, .ref h0), (2, .int sm), (4, .int (nI i))]) hx hb dX2_reach_33 hl (k := 2) rfl (nI_1 _) (by decide) rfl (fun ls hl => ?_)
        exact J36 _ _ _ _ ⟨_, (if_pos ⟨hLz, c_30⟩).symm, by omega, rfl, hP, hD, hS, lv_sub hl [1, 2, 0, 3] rfl⟩
set_option maxHeartbeats 4000000 in
set_option maxRecDepth 100000 in
/-- enter(piece, column, width) -/
theorem mM_enter (l : Launch) (dC : Nat → ClassId) (dI : Nat → Nat → Nat) (cI cZ : ClassId) (h0 sz : Nat) (qa : Nat → Nat) (pw : Int32) (n : Nat) (so a : Nat → Int32) (d : Nat) (fs mg ro co fl : Nat → Int32) (lr gc : Int32) (i : Nat) (col w : Int32) (hn : n ≤ 60) (hi : i < n) (hd12 : d ≤ 12) : Met l yX2_enter (ws_ yX2_enter cX2_enter 6 none) ({ frames := 1, cells := 0, slots := 0, locals := 24 }) (va_Pc [.ref h0, .int (nI i), .int col, .int w] (preW dC dI cI cZ sz (wM h0 qa cI cZ pw (nI n) so a (nI d) fs mg ro co fl lr gc))) (va_Qv (fun u : Int32 => u = ps_en d fs col (ps_gr so a i n) w) (fun u t => posW dC dI cI cZ (va_A (wM h0 qa cI cZ pw (nI n) so a (nI d) fs mg ro co fl lr gc) sz) (wM h0 qa cI cZ pw (nI n) so a (nI (d + 1)) (upd fs d u) (upd mg d (ps_tp d mg + a i)) ro co (upd fl i u) lr gc) t) (va_A (wM h0 qa cI cZ pw (nI n) so a (nI d) fs mg ro co fl lr gc) sz)) 0 0 (va_A (wM h0 qa cI cZ pw (nI n) so a (nI d) fs mg ro co fl lr gc) sz) := by
  refine Met.ofW (cc := cX2_enter) (maxL := 6) (ret := none) (by decide) rfl ?_
  intro p e s m args below meth c s₁ B hml hv
  obtain ⟨rfl, hsz, hP, hK, hD0⟩ := hv
  have hx := B.exec
  have hb := B.bytes
  have hr := B.returns
  have hts := atoms_spec (ws := ws_ yX2_enter cX2_enter 6 none) B.pre
  have hts : ∀ w ∈ lw_all, w.before _ s = true := fun w h => hts w (List.mem_cons_of_mem _ h)
  have hown : s.vm.findClass RX2 = some m.cls := findClass_of_methodNamed B.named
  have hlocks := B.notSynchronized
  subst hsz
  have hD := hD0.self (sz := s.heap.size)
  generalize hAe : va_A (wM h0 qa cI cZ pw (nI n) so a (nI d) fs mg ro co fl lr gc) s.heap.size = A at hD ⊢
  have hA : ∀ q : Nat, s.heap.size ≤ q → A q := fun q h => by rw [← hAe]; exact Or.inr h
  have hS : va_S A s.heap s.heap [] := va_S.rf
  have hl := lv_entry ([.ref h0, .int (nI i), .int col, .int w]) (n := 6) (Nat.le_of_ble_eq_true rfl)
  rw [lg_entry_eq]
  generalize (lg_sl ([.ref h0, .int (nI i), .int col, .int w]) ++ List.replicate (6 - (lg_sl ([.ref h0, .int (nI i), .int col, .int w])).length) Slot.unset).toArray = ls at hl ⊢
  have hl : lv_has ls 6 [(0, .ref h0), (1, .int (nI i)), (2, .int col), (3, .int w)] := hl
  refine zl_cut (pc := 81) (I := fun H locs ls stk => ∃ (fz : Int32) (mz : Int32), (fz = ps_en d fs col (ps_gr so a i n) w) ∧ (mz = ps_tp d mg) ∧ stk = [.int fz, .int (nI d), .ref (qa 2)] ∧ va_P (dC, dI) vwCl (wM h0 qa cI cZ pw (nI n) so a (nI d) fs mg ro co fl lr gc) H ∧ va_D A (wM h0 qa cI cZ pw (nI n) so a (nI d) fs mg ro co fl lr gc) ∧ va_S A s.heap H locs ∧ lv_has ls 6 [(0, .ref h0), (1, .int (nI i)), (5, .int mz)]) ?_ (fun J81 => ?_)
  · intro H locs ls stk hI
    obtain ⟨fz, mz, hf, hm, rfl, hP, hD, hS, hl⟩ := hI
    have hf01 : fz = 0 ∨ fz = 1 := by rw [hf]; exact ps_en01 _ _ _ _ _
    subst hm
    refine zz_ast hx hb hK hP hD hS 3 1 rfl rfl (by omega) (by decide) (hf01) dX2_enter_81 (fun H locs hP hD hS => ?_)
    have hP : va_P (dC, dI) vwCl (wM h0 qa cI cZ pw (nI n) so a (nI d) (upd fs d fz) mg ro co fl lr gc) H := hP
    have hD : va_D A (wM h0 qa cI cZ pw (nI n) so a (nI d) (upd fs d fz) mg ro co fl lr gc) := hD
    refine lv_aload_n hx hb dX2_enter_82 rfl (lv_at hl 0 rfl) ?_
    refine va_get (D := (dC, dI)) (ci := 1) (v := .ref (qa 3)) (C := RX2) (T := TX2) (N := 12) hx hb hts in_X2 hown hK hP 0 rfl rfl 6 (by decide) (hts _ q160) (fun _ h9 => h9) rfl dX2_enter_83 ?_
    refine lv_aload_n hx hb dX2_enter_86 rfl (lv_at hl 0 rfl) ?_
    refine va_get (D := (dC, dI)) (ci := 1) (v := .int (nI d)) (C := RX2) (T := TX2) (N := 12) hx hb hts in_X2 hown hK hP 0 rfl rfl 4 (by decide) (hts _ q158) (fun _ h9 => h9) rfl dX2_enter_87 ?_
    refine lv_iload hx hb dX2_enter_90 (lv_at hl 2 rfl) ?_
    refine lv_aload_n hx hb dX2_enter_92 rfl (lv_at hl 0 rfl) ?_
    refine va_get (D := (dC, dI)) (ci := 1) (v := .ref (qa 1)) (C := RX2) (T := TX2) (N := 12) hx hb hts in_X2 hown hK hP 0 rfl rfl 3 (by decide) (hts _ q157) (fun _ h9 => h9) rfl dX2_enter_93 ?_
    refine lv_iload_n hx hb dX2_enter_96 rfl (lv_at hl 1 rfl) ?_
    refine zi_ald (v := a i) hx hb hK hP 2 0 rfl rfl (by omega) (by decide) (rfl) dX2_enter_97 ?_
    refine lv_iadd hx hb dX2_enter_98 ?_
    refine zi_ast hx hb hK hP hD hS 4 0 rfl rfl (by omega) (by decide) dX2_enter_99 (fun H locs hP hD hS => ?_)
    have hP : va_P (dC, dI) vwCl (wM h0 qa cI cZ pw (nI n) so a (nI d) (upd fs d fz) (upd mg d ((ps_tp d mg) + (a i))) ro co fl lr gc) H := hP
    have hD : va_D A (wM h0 qa cI cZ pw (nI n) so a (nI d) (upd fs d fz) (upd mg d ((ps_tp d mg) + (a i))) ro co fl lr gc) := hD
    refine lv_aload_n hx hb dX2_enter_100 rfl (lv_at hl 0 rfl) ?_
    refine va_get (D := (dC, dI)) (ci := 1) (v := .ref (qa 6)) (C := RX2) (T := TX2) (N := 12) hx hb hts in_X2 hown hK hP 0 rfl rfl 9 (by decide) (hts _ q163) (fun _ h9 => h9) rfl dX2_enter_101 ?_
    refine lv_iload_n hx hb dX2_enter_104 rfl (lv_at hl 1 rfl) ?_
    refine lv_aload_n hx hb dX2_enter_105 rfl (lv_at hl 0 rfl) ?_
    refine va_get (D := (dC, dI)) (ci := 1) (v := .ref (qa 2)) (C := RX2) (T := TX2) (N := 12) hx hb hts in_X2 hown hK hP 0 rfl rfl 5 (by decide) (hts _ q159) (fun _ h9 => h9) rfl dX2_enter_106 ?_
    refine lv_aload_n hx hb dX2_enter_109 rfl (lv_at hl 0 rfl) ?_
    refine va_get (D := (dC, dI)) (ci := 1) (v := .int (nI d)) (C := RX2) (T := TX2) (N := 12) hx hb hts in_X2 hown hK hP 0 rfl rfl 4 (by decide) (hts _ q158) (fun _ h9 => h9) rfl dX2_enter_110 ?_
    refine zz_ald (v := fz) hx hb hK hP 3 1 rfl rfl (by omega) (by decide) (pk_us) dX2_enter_113 ?_
    refine zz_ast hx hb hK hP hD hS 7 1 rfl rfl (by omega) (by decide) (hf01) dX2_enter_114 (fun H locs hP hD hS => ?_)
    have hP : va_P (dC, dI) vwCl (wM h0 qa cI cZ pw (nI n) so a (nI d) (upd fs d fz) (upd mg d ((ps_tp d mg) + (a i))) ro co (upd fl i fz) lr gc) H := hP
    have hD : va_D A (wM h0 qa cI cZ pw (nI n) so a (nI d) (upd fs d fz) (upd mg d ((ps_tp d mg) + (a i))) ro co (upd fl i fz) lr gc) := hD
    refine lv_aload_n hx hb dX2_enter_115 rfl (lv_at hl 0 rfl) ?_
    refine lv_dup hx hb dX2_enter_116 rfl ?_
    refine va_get (D := (dC, dI)) (ci := 1) (v := .int (nI d)) (C := RX2) (T := TX2) (N := 12) hx hb hts in_X2 hown hK hP 0 rfl rfl 4 (by decide) (hts _ q158) (fun _ h9 => h9) rfl dX2_enter_117 ?_
    refine lv_iconst (v := 1) hx hb dX2_enter_120 (by decide) ?_
    refine lv_iadd hx hb dX2_enter_121 ?_
    rw [show (nI d) + 1 = nI (d + 1) from nI_1 d]
    refine va_put (D := (dC, dI)) (ci := 1) (v := .int (nI (d + 1))) (ty := .int) (C := RX2) (T := TX2) (N := 12) hx hb hts in_X2 tyX2 tyX2_ok nmX2 hown hK hP hD hS 0 rfl rfl 4 (by decide) (hts _ q158) (fun _ h9 => h9) rfl (by decide +kernel) rfl rfl (Nat.le_of_ble_eq_true rfl) dX2_enter_122 (fun H locs hP hD hS => ?_)
    have hP : va_P (dC, dI) vwCl (wM h0 qa cI cZ pw (nI n) so a (nI (d + 1)) (upd fs d fz) (upd mg d ((ps_tp d mg) + (a i))) ro co (upd fl i fz) lr gc) H := hP
    have hD : va_D A (wM h0 qa cI cZ pw (nI n) so a (nI (d + 1)) (upd fs d fz) (upd mg d ((ps_tp d mg) + (a i))) ro co (upd fl i fz) lr gc) := hD
    exact W.vret hx hb hr (fun t ht hW => ⟨⟨fz, rfl, hf, by rw [ht]; exact hP, va_K.moved hW.alike hK, hD⟩, hS.F ht⟩) hS.2.2 dX2_enter_125
  by_cases hdz : d = 0
  · refine lv_aload_n hx hb dX2_enter_0 rfl (lv_at hl 0 rfl) ?_
    refine va_get (D := (dC, dI)) (ci := 1) (v := .int (nI d)) (C := RX2) (T := TX2) (N := 12) hx hb hts in_X2 hown hK hP 0 rfl rfl 4 (by decide) (hts _ q158) (fun _ h9 => h9) rfl dX2_enter_1 ?_
    refine lv_if_le (tgt := 25) hx hb dX2_enter_4 (by decide) (fun c_4 => ?_) (fun c_4 => absurd (by rw [hdz]; decide) c_4)
    refine lv_iconst (v := 0) hx hb dX2_enter_25 (by decide) ?_
    refine lv_istore (lv' := [(4, .int 0), (0, .ref h0), (1, .int (nI i)), (2, .int col), (3, .int w)]) hx hb dX2_enter_26 hl (by decide) rfl (fun ls hl => ?_)
    refine lv_aload_n hx hb dX2_enter_28 rfl (lv_at hl 1 rfl) ?_
    refine va_get (D := (dC, dI)) (ci := 1) (v := .int (nI d)) (C := RX2) (T := TX2) (N := 12) hx hb hts in_X2 hown hK hP 0 rfl rfl 4 (by decide) (hts _ q158) (fun _ h9 => h9) rfl dX2_enter_29 ?_
    refine lv_if_le (tgt := 49) hx hb dX2_enter_32 (by decide) (fun c_32 => ?_) (fun c_32 => absurd (by rw [hdz]; decide) c_32)
    refine lv_iconst (v := 0) hx hb dX2_enter_49 (by decide) ?_
    refine lv_istore (lv' := [(5, .int 0), (4, .int 0), (0, .ref h0), (1, .int (nI i)), (2, .int col), (3, .int w)]) hx hb dX2_enter_50 hl (by decide) rfl (fun ls hl => ?_)
    refine lv_aload_n hx hb dX2_enter_52 rfl (lv_at hl 2 rfl) ?_
    refine va_get (D := (dC, dI)) (ci := 1) (v := .ref (qa 2)) (C := RX2) (T := TX2) (N := 12) hx hb hts in_X2 hown hK hP 0 rfl rfl 5 (by decide) (hts _ q159) (fun _ h9 => h9) rfl dX2_enter_53 ?_
    refine lv_aload_n hx hb dX2_enter_56 rfl (lv_at hl 2 rfl) ?_
    refine va_get (D := (dC, dI)) (ci := 1) (v := .int (nI d)) (C := RX2) (T := TX2) (N := 12) hx hb hts in_X2 hown hK hP 0 rfl rfl 4 (by decide) (hts _ q158) (fun _ h9 => h9) rfl dX2_enter_57 ?_
    refine lv_iload hx hb dX2_enter_60 (lv_at hl 1 rfl) ?_
    refine lv_if_ne (tgt := 76) hx hb dX2_enter_62 (by decide) (fun c_62 => absurd rfl c_62) (fun c_62 => ?_)
    refine lv_iload_n hx hb dX2_enter_65 rfl (lv_at hl 4 rfl) ?_
    refine lv_aload_n hx hb dX2_enter_66 rfl (lv_at hl 2 rfl) ?_
    refine lv_iload_n hx hb dX2_enter_67 rfl (lv_at hl 3 rfl) ?_
    refine zc_i (As := [.int (nI i)]) (rest := [.int col, .int (nI d), .ref (qa 2)]) ⟨hx, hb, hml, hown, hts⟩ (mM_reach l dC dI cI cZ h0 s.heap.size qa pw n so a (nI d) fs mg ro co fl lr gc i hn hi) (cwV 1 hts (lw_V q232 q234 qs10 q13 q235) rfl rfl rfl (by decide +kernel) ⟨Nat.le_of_ble_eq_true rfl, Nat.le_of_ble_eq_true rfl⟩) (ci := 1) rfl rfl hK hP hD hS hA rfl hl.1 rfl (Nat.le_of_ble_eq_true rfl) dX2_enter_68 ⟨Nat.zero_le _, Nat.zero_le _⟩ (fun r_68 u_68 H locs hw_68 hP hD hS => ?_)
    have hP : va_P (dC, dI) vwCl (wM h0 qa cI cZ pw (nI n) so a (nI d) fs mg ro co fl lr gc) H := hP
    have hD : va_D A (wM h0 qa cI cZ pw (nI n) so a (nI d) fs mg ro co fl lr gc) := hD
    refine lv_iadd hx hb dX2_enter_71 ?_
    refine lv_iload_n hx hb dX2_enter_72 rfl (lv_at hl 5 rfl) ?_
    refine lv_icmp_gt (tgt := 80) hx hb dX2_enter_73 (by decide) (fun c_73 => ?_) (fun c_73 => ?_)
    · refine lv_iconst (v := 0) hx hb dX2_enter_80 (by decide) ?_
      exact J81 _ _ _ _ ⟨_, _, ps_en0 (ps_tp0 hdz) (by rw [← hw_68]; exact Int32.not_le.mpr c_73), (ps_tp0 hdz).symm, rfl, hP, hD, hS, lv_sub hl [2, 3, 0] rfl⟩
    · refine lv_iconst (v := 1) hx hb dX2_enter_76 (by decide) ?_
      refine lv_goto (tgt := 81) hx hb dX2_enter_77 (by decide) ?_
      exact J81 _ _ _ _ ⟨_, _, ps_en1 (Or.inr (by rw [← hw_68]; exact Int32.not_lt.mp c_73)), (ps_tp0 hdz).symm, rfl, hP, hD, hS, lv_sub hl [2, 3, 0] rfl⟩
  · have hd0 : 0 < d := by omega
    have htp := ps_tp1 (F := fs) hdz
    refine lv_aload_n hx hb dX2_enter_0 rfl (lv_at hl 0 rfl) ?_
    refine va_get (D := (dC, dI)) (ci := 1) (v := .int (nI d)) (C := RX2) (T := TX2) (N := 12) hx hb hts in_X2 hown hK hP 0 rfl rfl 4 (by decide) (hts _ q158) (fun _ h9 => h9) rfl dX2_enter_1 ?_
    refine lv_if_le (tgt := 25) hx hb dX2_enter_4 (by decide) (fun c_4 => absurd c_4 (nI_nle hd0 (by omega))) (fun c_4 => ?_)
    refine lv_aload_n hx hb dX2_enter_7 rfl (lv_at hl 0 rfl) ?_
    refine va_get (D := (dC, dI)) (ci := 1) (v := .ref (qa 2)) (C := RX2) (T := TX2) (N := 12) hx hb hts in_X2 hown hK hP 0 rfl rfl 5 (by decide) (hts _ q159) (fun _ h9 => h9) rfl dX2_enter_8 ?_
    refine lv_aload_n hx hb dX2_enter_11 rfl (lv_at hl 0 rfl) ?_
    refine va_get (D := (dC, dI)) (ci := 1) (v := .int (nI d)) (C := RX2) (T := TX2) (N := 12) hx hb hts in_X2 hown hK hP 0 rfl rfl 4 (by decide) (hts _ q158) (fun _ h9 => h9) rfl dX2_enter_12 ?_
    refine lv_iconst (v := 1) hx hb dX2_enter_15 (by decide) ?_
    refine lv_isub hx hb dX2_enter_16 ?_
    rw [show (nI d) - 1 = nI (d - 1) from ps_s1 hd0]
    refine zz_ald (v := fs (d - 1)) hx hb hK hP 3 1 rfl rfl (by omega) (by decide) (rfl) dX2_enter_17 ?_
    refine lv_if_eq (tgt := 25) hx hb dX2_enter_18 (by decide) (fun c_18 => ?_) (fun c_18 => ?_)
    · refine lv_iconst (v := 0) hx hb dX2_enter_25 (by decide) ?_
      refine lv_istore (lv' := [(4, .int 0), (0, .ref h0), (1, .int (nI i)), (2, .int col), (3, .int w)]) hx hb dX2_enter_26 hl (by decide) rfl (fun ls hl => ?_)
      refine lv_aload_n hx hb dX2_enter_28 rfl (lv_at hl 1 rfl) ?_
      refine va_get (D := (dC, dI)) (ci := 1) (v := .int (nI d)) (C := RX2) (T := TX2) (N := 12) hx hb hts in_X2 hown hK hP 0 rfl rfl 4 (by decide) (hts _ q158) (fun _ h9 => h9) rfl dX2_enter_29 ?_
      refine lv_if_le (tgt := 49) hx hb dX2_enter_32 (by decide) (fun c_32 => absurd c_32 (nI_nle hd0 (by omega))) (fun c_32 => ?_)
      refine lv_aload_n hx hb dX2_enter_35 rfl (lv_at hl 1 rfl) ?_
      refine va_get (D := (dC, dI)) (ci := 1) (v := .ref (qa 3)) (C := RX2) (T := TX2) (N := 12) hx hb hts in_X2 hown hK hP 0 rfl rfl 6 (by decide) (hts _ q160) (fun _ h9 => h9) rfl dX2_enter_36 ?_
      refine lv_aload_n hx hb dX2_enter_39 rfl (lv_at hl 1 rfl) ?_
      refine va_get (D := (dC, dI)) (ci := 1) (v := .int (nI d)) (C := RX2) (T := TX2) (N := 12) hx hb hts in_X2 hown hK hP 0 rfl rfl 4 (by decide) (hts _ q158) (fun _ h9 => h9) rfl dX2_enter_40 ?_
      refine lv_iconst (v := 1) hx hb dX2_enter_43 (by decide) ?_
      refine lv_isub hx hb dX2_enter_44 ?_
      rw [show (nI d) - 1 = nI (d - 1) from ps_s1 hd0]
      refine zi_ald (v := mg (d - 1)) hx hb hK hP 4 0 rfl rfl (by omega) (by decide) (rfl) dX2_enter_45 ?_
      refine lv_goto (tgt := 50) hx hb dX2_enter_46 (by decide) ?_
      refine lv_istore (lv' := [(5, .int (mg (d - 1))), (4, .int 0), (0, .ref h0), (1, .int (nI i)), (2, .int col), (3, .int w)]) hx hb dX2_enter_50 hl (by decide) rfl (fun ls hl => ?_)
      refine lv_aload_n hx hb dX2_enter_52 rfl (lv_at hl 2 rfl) ?_
      refine va_get (D := (dC, dI)) (ci := 1) (v := .ref (qa 2)) (C := RX2) (T := TX2) (N := 12) hx hb hts in_X2 hown hK hP 0 rfl rfl 5 (by decide) (hts _ q159) (fun _ h9 => h9) rfl dX2_enter_53 ?_
      refine lv_aload_n hx hb dX2_enter_56 rfl (lv_at hl 2 rfl) ?_
      refine va_get (D := (dC, dI)) (ci := 1) (v := .int (nI d)) (C := RX2) (T := TX2) (N := 12) hx hb hts in_X2 hown hK hP 0 rfl rfl 4 (by decide) (hts _ q158) (fun _ h9 => h9) rfl dX2_enter_57 ?_
      refine lv_iload hx hb dX2_enter_60 (lv_at hl 1 rfl) ?_
      refine lv_if_ne (tgt := 76) hx hb dX2_enter_62 (by decide) (fun c_62 => absurd rfl c_62) (fun c_62 => ?_)
      refine lv_iload_n hx hb dX2_enter_65 rfl (lv_at hl 4 rfl) ?_
      refine lv_aload_n hx hb dX2_enter_66 rfl (lv_at hl 2 rfl) ?_
      refine lv_iload_n hx hb dX2_enter_67 rfl (lv_at hl 3 rfl) ?_
      refine zc_i (As := [.int (nI i)]) (rest := [.int col, .int (nI d), .ref (qa 2)]) ⟨hx, hb, hml, hown, hts⟩ (mM_reach l dC dI cI cZ h0 s.heap.size qa pw n so a (nI d) fs mg ro co fl lr gc i hn hi) (cwV 1 hts (lw_V q232 q234 qs10 q13 q235) rfl rfl rfl (by decide +kernel) ⟨Nat.le_of_ble_eq_true rfl, Nat.le_of_ble_eq_true rfl⟩) (ci := 1) rfl rfl hK hP hD hS hA rfl hl.1 rfl (Nat.le_of_ble_eq_true rfl) dX2_enter_68 ⟨Nat.zero_le _, Nat.zero_le _⟩ (fun r_68 u_68 H locs hw_68 hP hD hS => ?_)
      have hP : va_P (dC, dI) vwCl (wM h0 qa cI cZ pw (nI n) so a (nI d) fs mg ro co fl lr gc) H := hP
      have hD : va_D A (wM h0 qa cI cZ pw (nI n) so a (nI d) fs mg ro co fl lr gc) := hD
      refine lv_iadd hx hb dX2_enter_71 ?_
      refine lv_iload_n hx hb dX2_enter_72 rfl (lv_at hl 5 rfl) ?_
      refine lv_icmp_gt (tgt := 80) hx hb dX2_enter_73 (by decide) (fun c_73 => ?_) (fun c_73 => ?_)
      · refine lv_iconst (v := 0) hx hb dX2_enter_80 (by decide) ?_
        exact J81 _ _ _ _ ⟨_, _, ps_en0 (htp.trans c_18) (by rw [← hw_68]; exact Int32.not_le.mpr c_73), (ps_tp1 hdz).symm, rfl, hP, hD, hS, lv_sub hl [2, 3, 0] rfl⟩
      · refine lv_iconst (v := 1) hx hb dX2_enter_76 (by decide) ?_
        refine lv_goto (tgt := 81) hx hb dX2_enter_77 (by decide) ?_
        exact J81 _ _ _ _ ⟨_, _, ps_en1 (Or.inr (by rw [← hw_68]; exact Int32.not_lt.mp c_73)), (ps_tp1 hdz).symm, rfl, hP, hD, hS, lv_sub hl [2, 3, 0] rfl⟩
    · refine lv_iconst (v := 1) hx hb dX2_enter_21 (by decide) ?_
      refine lv_goto (tgt := 26) hx hb dX2_enter_22 (by decide) ?_
      refine lv_istore (lv' := [(4, .int 1), (0, .ref h0), (1, .int (nI i)), (2, .int col), (3, .int w)]) hx hb dX2_enter_26 hl (by decide) rfl (fun ls hl => ?_)
      refine lv_aload_n hx hb dX2_enter_28 rfl (lv_at hl 1 rfl) ?_
      refine va_get (D := (dC, dI)) (ci := 1) (v := .int (nI d)) (C := RX2) (T := TX2) (N := 12) hx hb hts in_X2 hown hK hP 0 rfl rfl 4 (by decide) (hts _ q158) (fun _ h9 => h9) rfl dX2_enter_29 ?_
      refine lv_if_le (tgt := 49) hx hb dX2_enter_32 (by decide) (fun c_32 => absurd c_32 (nI_nle hd0 (by omega))) (fun c_32 => ?_)
      refine lv_aload_n hx hb dX2_enter_35 rfl (lv_at hl 1 rfl) ?_
      refine va_get (D := (dC, dI)) (ci := 1) (v := .ref (qa 3)) (C := RX2) (T := TX2) (N := 12) hx hb hts in_X2 hown hK hP 0 rfl rfl 6 (by decide) (hts _ q160) (fun _ h9 => h9) rfl dX2_enter_36 ?_
      refine lv_aload_n hx hb dX2_enter_39 rfl (lv_at hl 1 rfl) ?_
      refine va_get (D := (dC, dI)) (ci := 1) (v := .int (nI d)) (C := RX2) (T := TX2) (N := 12) hx hb hts in_X2 hown hK hP 0 rfl rfl 4 (by decide) (hts _ q158) (fun _ h9 => h9) rfl dX2_enter_40 ?_
      refine lv_iconst (v := 1) hx hb dX2_enter_43 (by decide) ?_
      refine lv_isub hx hb dX2_enter_44 ?_
      rw [show (nI d) - 1 = nI (d - 1) from ps_s1 hd0]
      refine zi_ald (v := mg (d - 1)) hx hb hK hP 4 0 rfl rfl (by omega) (by decide) (rfl) dX2_enter_45 ?_
      refine lv_goto (tgt := 50) hx hb dX2_enter_46 (by decide) ?_
      refine lv_istore (lv' := [(5, .int (mg (d - 1))), (4, .int 1), (0, .ref h0), (1, .int (nI i)), (2, .int col), (3, .int w)]) hx hb dX2_enter_50 hl (by decide) rfl (fun ls hl => ?_)
      refine lv_aload_n hx hb dX2_enter_52 rfl (lv_at hl 2 rfl) ?_
      refine va_get (D := (dC, dI)) (ci := 1) (v := .ref (qa 2)) (C := RX2) (T := TX2) (N := 12) hx hb hts in_X2 hown hK hP 0 rfl rfl 5 (by decide) (hts _ q159) (fun _ h9 => h9) rfl dX2_enter_53 ?_
      refine lv_aload_n hx hb dX2_enter_56 rfl (lv_at hl 2 rfl) ?_
      refine va_get (D := (dC, dI)) (ci := 1) (v := .int (nI d)) (C := RX2) (T := TX2) (N := 12) hx hb hts in_X2 hown hK hP 0 rfl rfl 4 (by decide) (hts _ q158) (fun _ h9 => h9) rfl dX2_enter_57 ?_
      refine lv_iload hx hb dX2_enter_60 (lv_at hl 1 rfl) ?_
      refine lv_if_ne (tgt := 76) hx hb dX2_enter_62 (by decide) (fun c_62 => ?_) (fun c_62 => absurd c_62 (by decide))
      refine lv_iconst (v := 1) hx hb dX2_enter_76 (by decide) ?_
      refine lv_goto (tgt := 81) hx hb dX2_enter_77 (by decide) ?_
      exact J81 _ _ _ _ ⟨_, _, ps_en1 (Or.inl (by rw [htp]; exact c_18)), (ps_tp1 hdz).symm, rfl, hP, hD, hS, lv_sub hl [2, 3, 0] rfl⟩
set_option maxHeartbeats 4000000 in
set_option maxRecDepth 100000 in
/-- lay(w): row, column and flag of every piece -/
theorem mM_lay (l : Launch) (dC : Nat → ClassId) (dI : Nat → Nat → Nat) (cI cZ : ClassId) (h0 sz : Nat) (qa : Nat → Nat) (pw : Int32) (n : Nat) (so a : Nat → Int32) (dp : Int32) (fs mg ro co fl : Nat → Int32) (lr gc : Int32) (w : Int32) (hok : ps_ok n so) : Met l yX2_lay (ws_ yX2_lay cX2_lay 5 none) ({ frames := 2, cells := 0, slots := 0, locals := 49 }) (va_Pc [.ref h0, .int w] (preW dC dI cI cZ sz (wM h0 qa cI cZ pw (nI n) so a dp fs mg ro co fl lr gc))) (va_Qv (fun u : SM => ps_la n so a w u.2.2.2.2.2.2.1 u.2.2.2.2.2.2.2 u.2.2.2.1 u.2.2.2.2.1 u.2.2.2.2.2.1) (fun u t => posW dC dI cI cZ (va_A (wM h0 qa cI cZ pw (nI n) so a dp fs mg ro co fl lr gc) sz) (wMt h0 qa cI cZ pw n so a u) t) (va_A (wM h0 qa cI cZ pw (nI n) so a dp fs mg ro co fl lr gc) sz)) 0 0 (va_A (wM h0 qa cI cZ pw (nI n) so a dp fs mg ro co fl lr gc) sz) := by
  refine Met.ofW (cc := cX2_lay) (maxL := 5) (ret := none) (by decide) rfl ?_
  intro p e s m args below meth c s₁ B hml hv
  obtain ⟨rfl, hsz, hP, hK, hD0⟩ := hv
  have hx := B.exec
  have hb := B.bytes
  have hr := B.returns
  have hts := atoms_spec (ws := ws_ yX2_lay cX2_lay 5 none) B.pre
  have hts : ∀ w ∈ lw_all, w.before _ s = true := fun w h => hts w (List.mem_cons_of_mem _ h)
  have hown : s.vm.findClass RX2 = some m.cls := findClass_of_methodNamed B.named
  have hlocks := B.notSynchronized
  subst hsz
  have hD := hD0.self (sz := s.heap.size)
  generalize hAe : va_A (wM h0 qa cI cZ pw (nI n) so a dp fs mg ro co fl lr gc) s.heap.size = A at hD ⊢
  have hA : ∀ q : Nat, s.heap.size ≤ q → A q := fun q h => by rw [← hAe]; exact Or.inr h
  have hS : va_S A s.heap s.heap [] := va_S.rf
  have hl := lv_entry ([.ref h0, .int w]) (n := 5) (Nat.le_of_ble_eq_true rfl)
  rw [lg_entry_eq]
  generalize (lg_sl ([.ref h0, .int w]) ++ List.replicate (5 - (lg_sl ([.ref h0, .int w])).length) Slot.unset).toArray = ls at hl ⊢
  have hl : lv_has ls 5 [(0, .ref h0), (1, .int w)] := hl
  have hn60 := hok.1
  refine lv_iconst (v := 0) hx hb dX2_lay_0 (by decide) ?_
  refine lv_istore_n (lv' := [(2, .int 0), (0, .ref h0), (1, .int w)]) hx hb dX2_lay_1 rfl hl (by decide) rfl (fun ls hl => ?_)
  refine lv_aload_n hx hb dX2_lay_2 rfl (lv_at hl 1 rfl) ?_
  refine lv_iconst (v := 0) hx hb dX2_lay_3 (by decide) ?_
  refine va_put (D := (dC, dI)) (ci := 1) (v := .int 0) (ty := .int) (C := RX2) (T := TX2) (N := 12) hx hb hts in_X2 tyX2 tyX2_ok nmX2 hown hK hP hD hS 0 rfl rfl 10 (by decide) (hts _ q164) (fun _ h9 => h9) rfl (by decide +kernel) rfl rfl (Nat.le_of_ble_eq_true rfl) dX2_lay_4 (fun H locs hP hD hS => ?_)
  have hP : va_P (dC, dI) vwCl (wM h0 qa cI cZ pw (nI n) so a dp fs mg ro co fl 0 gc) H := hP
  have hD : va_D A (wM h0 qa cI cZ pw (nI n) so a dp fs mg ro co fl 0 gc) := hD
  refine lv_aload_n hx hb dX2_lay_7 rfl (lv_at hl 1 rfl) ?_
  refine lv_iconst (v := 0) hx hb dX2_lay_8 (by decide) ?_
  refine va_put (D := (dC, dI)) (ci := 1) (v := .int 0) (ty := .int) (C := RX2) (T := TX2) (N := 12) hx hb hts in_X2 tyX2 tyX2_ok nmX2 hown hK hP hD hS 0 rfl rfl 11 (by decide) (hts _ q165) (fun _ h9 => h9) rfl (by decide +kernel) rfl rfl (Nat.le_of_ble_eq_true rfl) dX2_lay_9 (fun H locs hP hD hS => ?_)
  have hP : va_P (dC, dI) vwCl (wM h0 qa cI cZ pw (nI n) so a dp fs mg ro co fl 0 0) H := hP
  have hD : va_D A (wM h0 qa cI cZ pw (nI n) so a dp fs mg ro co fl 0 0) := hD
  refine lv_aload_n hx hb dX2_lay_12 rfl (lv_at hl 1 rfl) ?_
  refine lv_iconst (v := nI 0) hx hb dX2_lay_13 (by decide) ?_
  refine va_put (D := (dC, dI)) (ci := 1) (v := .int (nI 0)) (ty := .int) (C := RX2) (T := TX2) (N := 12) hx hb hts in_X2 tyX2 tyX2_ok nmX2 hown hK hP hD hS 0 rfl rfl 4 (by decide) (hts _ q158) (fun _ h9 => h9) rfl (by decide +kernel) rfl rfl (Nat.le_of_ble_eq_true rfl) dX2_lay_14 (fun H locs hP hD hS => ?_)
  have hP : va_P (dC, dI) vwCl (wM h0 qa cI cZ pw (nI n) so a (nI 0) fs mg ro co fl 0 0) H := hP
  have hD : va_D A (wM h0 qa cI cZ pw (nI n) so a (nI 0) fs mg ro co fl 0 0) := hD
  refine lv_iconst (v := nI 0) hx hb dX2_lay_17 (by decide) ?_
  refine lv_istore_n (lv' := [(3, .int (nI 0)), (2, .int 0), (0, .ref h0), (1, .int w)]) hx hb dX2_lay_18 rfl hl (by decide) rfl (fun ls hl => ?_)
  refine zl_loop (I := fun k H locs ls => ∃ (i : Nat) (row : Int32) (col : Int32) (gr : Int32) (sf : Nat → Int32) (mf : Nat → Int32) (rf : Nat → Int32) (cf : Nat → Int32) (ff : Nat → Int32), (k = n - i) ∧ (i ≤ n) ∧ (ps_LM so a n w i row col gr sf mf rf cf ff) ∧ va_P (dC, dI) vwCl (wM h0 qa cI cZ pw (nI n) so a (nI (ps_dp so i)) sf mf rf cf ff row gr) H ∧ va_D A (wM h0 qa cI cZ pw (nI n) so a (nI (ps_dp so i)) sf mf rf cf ff row gr) ∧ va_S A s.heap H locs ∧ lv_has ls 5 [(0, .ref h0), (1, .int w), (2, .int col), (3, .int (nI i))]) ?_ n _ _ _ ⟨0, 0, 0, 0, fs, mg, ro, co, fl, rfl, Nat.zero_le n, ps_LM_0 so a n w fs mg ro co fl, hP, hD, hS, lv_sub hl [2, 3, 1, 0] rfl⟩
  intro k H locs ls hI ih
  obtain ⟨i, row, col, gr, sf, mf, rf, cf, ff, hk, hi, hL, hP, hD, hS, hl⟩ := hI
  refine lv_iload_n hx hb dX2_lay_19 rfl (lv_at hl 3 rfl) ?_
  refine lv_aload_n hx hb dX2_lay_20 rfl (lv_at hl 0 rfl) ?_
  refine va_get (D := (dC, dI)) (ci := 1) (v := .int (nI n)) (C := RX2) (T := TX2) (N := 12) hx hb hts in_X2 hown hK hP 0 rfl rfl 1 (by decide) (hts _ q155) (fun _ h9 => h9) rfl dX2_lay_21 ?_
  refine lv_icmp_ge (tgt := 212) hx hb dX2_lay_24 (by decide) (fun c_24 => ?_) (fun c_24 => ?_)
  · have hin : n = i := by have := (nI_leI (a := n) (b := i) (by omega) (by omega)).mp c_24; omega
    subst hin
    exact W.vret hx hb hr (fun t ht hW => ⟨⟨(nI (ps_dp so n), sf, mf, rf, cf, ff, row, gr), rfl, ⟨hL.1, hL.2.2.1, hL.2.2.2.1⟩, by rw [ht]; exact hP, va_K.moved hW.alike hK, hD⟩, hS.F ht⟩) hS.2.2 dX2_lay_212
  · have hin : i < n := by
      rcases Nat.lt_or_ge i n with z | z
      · exact z
      · exact absurd (nI_le z (by omega)) c_24
    have hi60 : i < 60 := by omega
    have hd12 := hok.2.2.2 i hi
    refine zl_cut (pc := 193) (I := fun H locs ls stk => ∃ (row2 : Int32) (col2 : Int32) (s2 : Nat → Int32) (m2 : Nat → Int32) (f2 : Nat → Int32), (ps_LM so a n w (i + 1) row2 col2 (ps_mx gr col2) s2 m2 (upd rf i row) (upd cf i col) f2) ∧ stk = [] ∧ va_P (dC, dI) vwCl (wM h0 qa cI cZ pw (nI n) so a (nI (ps_dp so (i + 1))) s2 m2 (upd rf i row) (upd cf i col) f2 row2 gr) H ∧ va_D A (wM h0 qa cI cZ pw (nI n) so a (nI (ps_dp so (i + 1))) s2 m2 (upd rf i row) (upd cf i col) f2 row2 gr) ∧ va_S A s.heap H locs ∧ lv_has ls 5 [(0, .ref h0), (1, .int w), (2, .int col2), (3, .int (nI i))]) ?_ (fun J => ?_)
    · intro H locs ls stk hI
      obtain ⟨row2, col2, s2, m2, f2, hL2, rfl, hP, hD, hS, hl⟩ := hI
      refine lv_iload_n hx hb dX2_lay_193 rfl (lv_at hl 2 rfl) ?_
      refine lv_aload_n hx hb dX2_lay_194 rfl (lv_at hl 0 rfl) ?_
      refine va_get (D := (dC, dI)) (ci := 1) (v := .int gr) (C := RX2) (T := TX2) (N := 12) hx hb hts in_X2 hown hK hP 0 rfl rfl 11 (by decide) (hts _ q165) (fun _ h9 => h9) rfl dX2_lay_195 ?_
      refine lv_icmp_le (tgt := 206) hx hb dX2_lay_198 (by decide) (fun c_198 => ?_) (fun c_198 => ?_)
      · refine lv_iinc (v := nI (i + 1)) (lv' := [(3, .int (nI (i + 1))), (0, .ref h0), (1, .int w), (2, .int col2)]) hx hb dX2_lay_206 hl (k := 3) rfl (nI_1 _) (by decide) rfl (fun ls hl => ?_)
        refine lv_goto (tgt := 19) hx hb dX2_lay_209 (by decide) ?_
        exact ih (n - (i + 1)) _ _ _ (by omega) ⟨i + 1, row2, col2, gr, _, _, _, _, _, rfl, by omega, by rw [← ps_mx_le c_198]; exact hL2, hP, hD, hS, lv_sub hl [1, 2, 3, 0] rfl⟩
      · refine lv_aload_n hx hb dX2_lay_201 rfl (lv_at hl 0 rfl) ?_
        refine lv_iload_n hx hb dX2_lay_202 rfl (lv_at hl 2 rfl) ?_
        refine va_put (D := (dC, dI)) (ci := 1) (v := .int col2) (ty := .int) (C := RX2) (T := TX2) (N := 12) hx hb hts in_X2 tyX2 tyX2_ok nmX2 hown hK hP hD hS 0 rfl rfl 11 (by decide) (hts _ q165) (fun _ h9 => h9) rfl (by decide +kernel) rfl rfl (Nat.le_of_ble_eq_true rfl) dX2_lay_203 (fun H locs hP hD hS => ?_)
        have hP : va_P (dC, dI) vwCl (wM h0 qa cI cZ pw (nI n) so a (nI (ps_dp so (i + 1))) s2 m2 (upd rf i row) (upd cf i col) f2 row2 col2) H := hP
        have hD : va_D A (wM h0 qa cI cZ pw (nI n) so a (nI (ps_dp so (i + 1))) s2 m2 (upd rf i row) (upd cf i col) f2 row2 col2) := hD
        refine lv_iinc (v := nI (i + 1)) (lv' := [(3, .int (nI (i + 1))), (0, .ref h0), (1, .int w), (2, .int col2)]) hx hb dX2_lay_206 hl (k := 3) rfl (nI_1 _) (by decide) rfl (fun ls hl => ?_)
        refine lv_goto (tgt := 19) hx hb dX2_lay_209 (by decide) ?_
        exact ih (n - (i + 1)) _ _ _ (by omega) ⟨i + 1, row2, col2, col2, _, _, _, _, _, rfl, by omega, by have hq := hL2; rw [ps_mx_gt c_198] at hq; exact hq, hP, hD, hS, lv_sub hl [1, 2, 3, 0] rfl⟩
    refine lv_aload_n hx hb dX2_lay_27 rfl (lv_at hl 0 rfl) ?_
    refine va_get (D := (dC, dI)) (ci := 1) (v := .ref (qa 4)) (C := RX2) (T := TX2) (N := 12) hx hb hts in_X2 hown hK hP 0 rfl rfl 7 (by decide) (hts _ q161) (fun _ h9 => h9) rfl dX2_lay_28 ?_
    refine lv_iload_n hx hb dX2_lay_31 rfl (lv_at hl 3 rfl) ?_
    refine lv_aload_n hx hb dX2_lay_32 rfl (lv_at hl 0 rfl) ?_
    refine va_get (D := (dC, dI)) (ci := 1) (v := .int row) (C := RX2) (T := TX2) (N := 12) hx hb hts in_X2 hown hK hP 0 rfl rfl 10 (by decide) (hts _ q164) (fun _ h9 => h9) rfl dX2_lay_33 ?_
    refine zi_ast hx hb hK hP hD hS 5 0 rfl rfl (hi60) (by decide) dX2_lay_36 (fun H locs hP hD hS => ?_)
    have hP : va_P (dC, dI) vwCl (wM h0 qa cI cZ pw (nI n) so a (nI (ps_dp so i)) sf mf (upd rf i row) cf ff row gr) H := hP
    have hD : va_D A (wM h0 qa cI cZ pw (nI n) so a (nI (ps_dp so i)) sf mf (upd rf i row) cf ff row gr) := hD
    refine lv_aload_n hx hb dX2_lay_37 rfl (lv_at hl 0 rfl) ?_
    refine va_get (D := (dC, dI)) (ci := 1) (v := .ref (qa 5)) (C := RX2) (T := TX2) (N := 12) hx hb hts in_X2 hown hK hP 0 rfl rfl 8 (by decide) (hts _ q162) (fun _ h9 => h9) rfl dX2_lay_38 ?_
    refine lv_iload_n hx hb dX2_lay_41 rfl (lv_at hl 3 rfl) ?_
    refine lv_iload_n hx hb dX2_lay_42 rfl (lv_at hl 2 rfl) ?_
    refine zi_ast hx hb hK hP hD hS 6 0 rfl rfl (hi60) (by decide) dX2_lay_43 (fun H locs hP hD hS => ?_)
    have hP : va_P (dC, dI) vwCl (wM h0 qa cI cZ pw (nI n) so a (nI (ps_dp so i)) sf mf (upd rf i row) (upd cf i col) ff row gr) H := hP
    have hD : va_D A (wM h0 qa cI cZ pw (nI n) so a (nI (ps_dp so i)) sf mf (upd rf i row) (upd cf i col) ff row gr) := hD
    refine zl_cut (pc := 70) (I := fun H locs ls stk => ∃ (fv : Int32), (fv = 0 ↔ ps_tp (ps_dp so i) sf = 0) ∧ stk = [.int fv] ∧ va_P (dC, dI) vwCl (wM h0 qa cI cZ pw (nI n) so a (nI (ps_dp so i)) sf mf (upd rf i row) (upd cf i col) ff row gr) H ∧ va_D A (wM h0 qa cI cZ pw (nI n) so a (nI (ps_dp so i)) sf mf (upd rf i row) (upd cf i col) ff row gr) ∧ va_S A s.heap H locs ∧ lv_has ls 5 [(0, .ref h0), (1, .int w), (2, .int col), (3, .int (nI i))]) ?_ (fun J70 => ?_)
    · intro H locs ls stk hI
      obtain ⟨fv, hfv, rfl, hP, hD, hS, hl⟩ := hI
      refine lv_istore (lv' := [(4, .int fv), (0, .ref h0), (1, .int w), (2, .int col), (3, .int (nI i))]) hx hb dX2_lay_70 hl (by decide) rfl (fun ls hl => ?_)
      rcases hok.2.1 i hin with h | h | h | h
      · rw [← ps_dp_s0 h] at hP hD
        refine lv_aload_n hx hb dX2_lay_72 rfl (lv_at hl 1 rfl) ?_
        refine va_get (D := (dC, dI)) (ci := 1) (v := .ref (qa 0)) (C := RX2) (T := TX2) (N := 12) hx hb hts in_X2 hown hK hP 0 rfl rfl 2 (by decide) (hts _ q156) (fun _ h9 => h9) rfl dX2_lay_73 ?_
        refine lv_iload_n hx hb dX2_lay_76 rfl (lv_at hl 4 rfl) ?_
        refine zi_ald (v := so i) hx hb hK hP 1 0 rfl rfl (hi60) (by decide) (rfl) dX2_lay_77 ?_
        refine lv_if_ne (tgt := 90) hx hb dX2_lay_78 (by decide) (fun c_78 => absurd h c_78) (fun c_78 => ?_)
        refine lv_iload_n hx hb dX2_lay_81 rfl (lv_at hl 3 rfl) ?_
        refine lv_aload_n hx hb dX2_lay_82 rfl (lv_at hl 1 rfl) ?_
        refine va_get (D := (dC, dI)) (ci := 1) (v := .ref (qa 1)) (C := RX2) (T := TX2) (N := 12) hx hb hts in_X2 hown hK hP 0 rfl rfl 3 (by decide) (hts _ q157) (fun _ h9 => h9) rfl dX2_lay_83 ?_
        refine lv_iload_n hx hb dX2_lay_86 rfl (lv_at hl 4 rfl) ?_
        refine zi_ald (v := a i) hx hb hK hP 2 0 rfl rfl (hi60) (by decide) (rfl) dX2_lay_87 ?_
        refine lv_iadd hx hb dX2_lay_88 ?_
        refine lv_istore_n (lv' := [(2, .int (col + (a i))), (4, .int fv), (0, .ref h0), (1, .int w), (3, .int (nI i))]) hx hb dX2_lay_89 rfl hl (by decide) rfl (fun ls hl => ?_)
        refine lv_aload_n hx hb dX2_lay_90 rfl (lv_at hl 2 rfl) ?_
        refine va_get (D := (dC, dI)) (ci := 1) (v := .ref (qa 0)) (C := RX2) (T := TX2) (N := 12) hx hb hts in_X2 hown hK hP 0 rfl rfl 2 (by decide) (hts _ q156) (fun _ h9 => h9) rfl dX2_lay_91 ?_
        refine lv_iload_n hx hb dX2_lay_94 rfl (lv_at hl 4 rfl) ?_
        refine zi_ald (v := so i) hx hb hK hP 1 0 rfl rfl (hi60) (by decide) (rfl) dX2_lay_95 ?_
        refine lv_iconst (v := 1) hx hb dX2_lay_96 (by decide) ?_
        refine lv_icmp_ne (tgt := 108) hx hb dX2_lay_97 (by decide) (fun c_97 => ?_) (fun c_97 => absurd c_97 (ps_ne23 h (by decide)))
        refine lv_aload_n hx hb dX2_lay_108 rfl (lv_at hl 2 rfl) ?_
        refine va_get (D := (dC, dI)) (ci := 1) (v := .ref (qa 0)) (C := RX2) (T := TX2) (N := 12) hx hb hts in_X2 hown hK hP 0 rfl rfl 2 (by decide) (hts _ q156) (fun _ h9 => h9) rfl dX2_lay_109 ?_
        refine lv_iload_n hx hb dX2_lay_112 rfl (lv_at hl 4 rfl) ?_
        refine zi_ald (v := so i) hx hb hK hP 1 0 rfl rfl (hi60) (by decide) (rfl) dX2_lay_113 ?_
        refine lv_iconst (v := 1) hx hb dX2_lay_114 (by decide) ?_
        refine lv_icmp_ne (tgt := 156) hx hb dX2_lay_115 (by decide) (fun c_115 => ?_) (fun c_115 => absurd c_115 (ps_ne23 h (by decide)))
        refine lv_aload_n hx hb dX2_lay_156 rfl (lv_at hl 2 rfl) ?_
        refine va_get (D := (dC, dI)) (ci := 1) (v := .ref (qa 0)) (C := RX2) (T := TX2) (N := 12) hx hb hts in_X2 hown hK hP 0 rfl rfl 2 (by decide) (hts _ q156) (fun _ h9 => h9) rfl dX2_lay_157 ?_
        refine lv_iload_n hx hb dX2_lay_160 rfl (lv_at hl 4 rfl) ?_
        refine zi_ald (v := so i) hx hb hK hP 1 0 rfl rfl (hi60) (by decide) (rfl) dX2_lay_161 ?_
        refine lv_iconst (v := 2) hx hb dX2_lay_162 (by decide) ?_
        refine lv_icmp_ne (tgt := 173) hx hb dX2_lay_163 (by decide) (fun c_163 => ?_) (fun c_163 => absurd c_163 (ps_ne23 h (by decide)))
        refine lv_aload_n hx hb dX2_lay_173 rfl (lv_at hl 2 rfl) ?_
        refine va_get (D := (dC, dI)) (ci := 1) (v := .ref (qa 0)) (C := RX2) (T := TX2) (N := 12) hx hb hts in_X2 hown hK hP 0 rfl rfl 2 (by decide) (hts _ q156) (fun _ h9 => h9) rfl dX2_lay_174 ?_
        refine lv_iload_n hx hb dX2_lay_177 rfl (lv_at hl 4 rfl) ?_
        refine zi_ald (v := so i) hx hb hK hP 1 0 rfl rfl (hi60) (by decide) (rfl) dX2_lay_178 ?_
        refine lv_iconst (v := 3) hx hb dX2_lay_179 (by decide) ?_
        refine lv_icmp_ne (tgt := 193) hx hb dX2_lay_180 (by decide) (fun c_180 => ?_) (fun c_180 => absurd c_180 (ps_ne23 h (by decide)))
        exact J _ _ _ _ ⟨_, _, _, _, _, ps_LM_word hL h, rfl, hP, hD, hS, lv_sub hl [2, 3, 0, 4] rfl⟩
      · refine lv_aload_n hx hb dX2_lay_72 rfl (lv_at hl 1 rfl) ?_
        refine va_get (D := (dC, dI)) (ci := 1) (v := .ref (qa 0)) (C := RX2) (T := TX2) (N := 12) hx hb hts in_X2 hown hK hP 0 rfl rfl 2 (by decide) (hts _ q156) (fun _ h9 => h9) rfl dX2_lay_73 ?_
        refine lv_iload_n hx hb dX2_lay_76 rfl (lv_at hl 4 rfl) ?_
        refine zi_ald (v := so i) hx hb hK hP 1 0 rfl rfl (hi60) (by decide) (rfl) dX2_lay_77 ?_
        refine lv_if_ne (tgt := 90) hx hb dX2_lay_78 (by decide) (fun c_78 => ?_) (fun c_78 => absurd c_78 (ps_ne23 h (by decide)))
        refine lv_aload_n hx hb dX2_lay_90 rfl (lv_at hl 1 rfl) ?_
        refine va_get (D := (dC, dI)) (ci := 1) (v := .ref (qa 0)) (C := RX2) (T := TX2) (N := 12) hx hb hts in_X2 hown hK hP 0 rfl rfl 2 (by decide) (hts _ q156) (fun _ h9 => h9) rfl dX2_lay_91 ?_
        refine lv_iload_n hx hb dX2_lay_94 rfl (lv_at hl 4 rfl) ?_
        refine zi_ald (v := so i) hx hb hK hP 1 0 rfl rfl (hi60) (by decide) (rfl) dX2_lay_95 ?_
        refine lv_iconst (v := 1) hx hb dX2_lay_96 (by decide) ?_
        refine lv_icmp_ne (tgt := 108) hx hb dX2_lay_97 (by decide) (fun c_97 => absurd h c_97) (fun c_97 => ?_)
        refine lv_iload hx hb dX2_lay_100 (lv_at hl 0 rfl) ?_
        refine lv_if_eq (tgt := 108) hx hb dX2_lay_102 (by decide) (fun c_102 => ?_) (fun c_102 => ?_)
        · refine lv_aload_n hx hb dX2_lay_108 rfl (lv_at hl 1 rfl) ?_
          refine va_get (D := (dC, dI)) (ci := 1) (v := .ref (qa 0)) (C := RX2) (T := TX2) (N := 12) hx hb hts in_X2 hown hK hP 0 rfl rfl 2 (by decide) (hts _ q156) (fun _ h9 => h9) rfl dX2_lay_109 ?_
          refine lv_iload_n hx hb dX2_lay_112 rfl (lv_at hl 4 rfl) ?_
          refine zi_ald (v := so i) hx hb hK hP 1 0 rfl rfl (hi60) (by decide) (rfl) dX2_lay_113 ?_
          refine lv_iconst (v := 1) hx hb dX2_lay_114 (by decide) ?_
          refine lv_icmp_ne (tgt := 156) hx hb dX2_lay_115 (by decide) (fun c_115 => absurd h c_115) (fun c_115 => ?_)
          refine lv_iload hx hb dX2_lay_118 (lv_at hl 0 rfl) ?_
          refine lv_if_ne (tgt := 156) hx hb dX2_lay_120 (by decide) (fun c_120 => absurd c_102 c_120) (fun c_120 => ?_)
          refine lv_aload_n hx hb dX2_lay_123 rfl (lv_at hl 1 rfl) ?_
          refine lv_dup hx hb dX2_lay_124 rfl ?_
          refine va_get (D := (dC, dI)) (ci := 1) (v := .int row) (C := RX2) (T := TX2) (N := 12) hx hb hts in_X2 hown hK hP 0 rfl rfl 10 (by decide) (hts _ q164) (fun _ h9 => h9) rfl dX2_lay_125 ?_
          refine lv_iconst (v := 1) hx hb dX2_lay_128 (by decide) ?_
          refine lv_iadd hx hb dX2_lay_129 ?_
          refine va_put (D := (dC, dI)) (ci := 1) (v := .int (row + 1)) (ty := .int) (C := RX2) (T := TX2) (N := 12) hx hb hts in_X2 tyX2 tyX2_ok nmX2 hown hK hP hD hS 0 rfl rfl 10 (by decide) (hts _ q164) (fun _ h9 => h9) rfl (by decide +kernel) rfl rfl (Nat.le_of_ble_eq_true rfl) dX2_lay_130 (fun H locs hP hD hS => ?_)
          have hP : va_P (dC, dI) vwCl (wM h0 qa cI cZ pw (nI n) so a (nI (ps_dp so i)) sf mf (upd rf i row) (upd cf i col) ff (row + 1) gr) H := hP
          have hD : va_D A (wM h0 qa cI cZ pw (nI n) so a (nI (ps_dp so i)) sf mf (upd rf i row) (upd cf i col) ff (row + 1) gr) := hD
          by_cases hdz : ps_dp so i = 0
          · refine lv_aload_n hx hb dX2_lay_133 rfl (lv_at hl 1 rfl) ?_
            refine va_get (D := (dC, dI)) (ci := 1) (v := .int (nI (ps_dp so i))) (C := RX2) (T := TX2) (N := 12) hx hb hts in_X2 hown hK hP 0 rfl rfl 4 (by decide) (hts _ q158) (fun _ h9 => h9) rfl dX2_lay_134 ?_
            refine lv_if_le (tgt := 154) hx hb dX2_lay_137 (by decide) (fun c_137 => ?_) (fun c_137 => absurd (by rw [hdz]; decide) c_137)
            refine lv_iconst (v := 0) hx hb dX2_lay_154 (by decide) ?_
            rw [← ps_dp_s1 h] at hP hD
            refine lv_istore_n (lv' := [(2, .int 0), (4, .int fv), (0, .ref h0), (1, .int w), (3, .int (nI i))]) hx hb dX2_lay_155 rfl hl (by decide) rfl (fun ls hl => ?_)
            refine lv_aload_n hx hb dX2_lay_156 rfl (lv_at hl 2 rfl) ?_
            refine va_get (D := (dC, dI)) (ci := 1) (v := .ref (qa 0)) (C := RX2) (T := TX2) (N := 12) hx hb hts in_X2 hown hK hP 0 rfl rfl 2 (by decide) (hts _ q156) (fun _ h9 => h9) rfl dX2_lay_157 ?_
            refine lv_iload_n hx hb dX2_lay_160 rfl (lv_at hl 4 rfl) ?_
            refine zi_ald (v := so i) hx hb hK hP 1 0 rfl rfl (hi60) (by decide) (rfl) dX2_lay_161 ?_
            refine lv_iconst (v := 2) hx hb dX2_lay_162 (by decide) ?_
            refine lv_icmp_ne (tgt := 173) hx hb dX2_lay_163 (by decide) (fun c_163 => ?_) (fun c_163 => absurd c_163 (ps_ne23 h (by decide)))
            refine lv_aload_n hx hb dX2_lay_173 rfl (lv_at hl 2 rfl) ?_
            refine va_get (D := (dC, dI)) (ci := 1) (v := .ref (qa 0)) (C := RX2) (T := TX2) (N := 12) hx hb hts in_X2 hown hK hP 0 rfl rfl 2 (by decide) (hts _ q156) (fun _ h9 => h9) rfl dX2_lay_174 ?_
            refine lv_iload_n hx hb dX2_lay_177 rfl (lv_at hl 4 rfl) ?_
            refine zi_ald (v := so i) hx hb hK hP 1 0 rfl rfl (hi60) (by decide) (rfl) dX2_lay_178 ?_
            refine lv_iconst (v := 3) hx hb dX2_lay_179 (by decide) ?_
            refine lv_icmp_ne (tgt := 193) hx hb dX2_lay_180 (by decide) (fun c_180 => ?_) (fun c_180 => absurd c_180 (ps_ne23 h (by decide)))
            exact J _ _ _ _ ⟨_, _, _, _, _, ps_LM_line hL h (hfv.mp c_102) (ps_tp0 hdz).symm, rfl, hP, hD, hS, lv_sub hl [2, 3, 0, 4] rfl⟩
          · have hd0 : 0 < ps_dp so i := by omega
            refine lv_aload_n hx hb dX2_lay_133 rfl (lv_at hl 1 rfl) ?_
            refine va_get (D := (dC, dI)) (ci := 1) (v := .int (nI (ps_dp so i))) (C := RX2) (T := TX2) (N := 12) hx hb hts in_X2 hown hK hP 0 rfl rfl 4 (by decide) (hts _ q158) (fun _ h9 => h9) rfl dX2_lay_134 ?_
            refine lv_if_le (tgt := 154) hx hb dX2_lay_137 (by decide) (fun c_137 => absurd c_137 (nI_nle hd0 (by omega))) (fun c_137 => ?_)
            refine lv_aload_n hx hb dX2_lay_140 rfl (lv_at hl 1 rfl) ?_
            refine va_get (D := (dC, dI)) (ci := 1) (v := .ref (qa 3)) (C := RX2) (T := TX2) (N := 12) hx hb hts in_X2 hown hK hP 0 rfl rfl 6 (by decide) (hts _ q160) (fun _ h9 => h9) rfl dX2_lay_141 ?_
            refine lv_aload_n hx hb dX2_lay_144 rfl (lv_at hl 1 rfl) ?_
            refine va_get (D := (dC, dI)) (ci := 1) (v := .int (nI (ps_dp so i))) (C := RX2) (T := TX2) (N := 12) hx hb hts in_X2 hown hK hP 0 rfl rfl 4 (by decide) (hts _ q158) (fun _ h9 => h9) rfl dX2_lay_145 ?_
            refine lv_iconst (v := 1) hx hb dX2_lay_148 (by decide) ?_
            refine lv_isub hx hb dX2_lay_149 ?_
            rw [show (nI (ps_dp so i)) - 1 = nI (ps_dp so i - 1) from ps_s1 hd0]
            refine zi_ald (v := mf (ps_dp so i - 1)) hx hb hK hP 4 0 rfl rfl (by omega) (by decide) (rfl) dX2_lay_150 ?_
            refine lv_goto (tgt := 155) hx hb dX2_lay_151 (by decide) ?_
            rw [← ps_dp_s1 h] at hP hD
            refine lv_istore_n (lv' := [(2, .int (mf (ps_dp so i - 1))), (4, .int fv), (0, .ref h0), (1, .int w), (3, .int (nI i))]) hx hb dX2_lay_155 rfl hl (by decide) rfl (fun ls hl => ?_)
            refine lv_aload_n hx hb dX2_lay_156 rfl (lv_at hl 2 rfl) ?_
            refine va_get (D := (dC, dI)) (ci := 1) (v := .ref (qa 0)) (C := RX2) (T := TX2) (N := 12) hx hb hts in_X2 hown hK hP 0 rfl rfl 2 (by decide) (hts _ q156) (fun _ h9 => h9) rfl dX2_lay_157 ?_
            refine lv_iload_n hx hb dX2_lay_160 rfl (lv_at hl 4 rfl) ?_
            refine zi_ald (v := so i) hx hb hK hP 1 0 rfl rfl (hi60) (by decide) (rfl) dX2_lay_161 ?_
            refine lv_iconst (v := 2) hx hb dX2_lay_162 (by decide) ?_
            refine lv_icmp_ne (tgt := 173) hx hb dX2_lay_163 (by decide) (fun c_163 => ?_) (fun c_163 => absurd c_163 (ps_ne23 h (by decide)))
            refine lv_aload_n hx hb dX2_lay_173 rfl (lv_at hl 2 rfl) ?_
            refine va_get (D := (dC, dI)) (ci := 1) (v := .ref (qa 0)) (C := RX2) (T := TX2) (N := 12) hx hb hts in_X2 hown hK hP 0 rfl rfl 2 (by decide) (hts _ q156) (fun _ h9 => h9) rfl dX2_lay_174 ?_
            refine lv_iload_n hx hb dX2_lay_177 rfl (lv_at hl 4 rfl) ?_
            refine zi_ald (v := so i) hx hb hK hP 1 0 rfl rfl (hi60) (by decide) (rfl) dX2_lay_178 ?_
            refine lv_iconst (v := 3) hx hb dX2_lay_179 (by decide) ?_
            refine lv_icmp_ne (tgt := 193) hx hb dX2_lay_180 (by decide) (fun c_180 => ?_) (fun c_180 => absurd c_180 (ps_ne23 h (by decide)))
            exact J _ _ _ _ ⟨_, _, _, _, _, ps_LM_line hL h (hfv.mp c_102) (ps_tp1 hdz).symm, rfl, hP, hD, hS, lv_sub hl [2, 3, 0, 4] rfl⟩
        · rw [← ps_dp_s1 h] at hP hD
          refine lv_iinc (v := col + 1) (lv' := [(2, .int (col + 1)), (4, .int fv), (0, .ref h0), (1, .int w), (3, .int (nI i))]) hx hb dX2_lay_105 hl (k := 3) rfl (rfl) (by decide) rfl (fun ls hl => ?_)
          refine lv_aload_n hx hb dX2_lay_108 rfl (lv_at hl 2 rfl) ?_
          refine va_get (D := (dC, dI)) (ci := 1) (v := .ref (qa 0)) (C := RX2) (T := TX2) (N := 12) hx hb hts in_X2 hown hK hP 0 rfl rfl 2 (by decide) (hts _ q156) (fun _ h9 => h9) rfl dX2_lay_109 ?_
          refine lv_iload_n hx hb dX2_lay_112 rfl (lv_at hl 4 rfl) ?_
          refine zi_ald (v := so i) hx hb hK hP 1 0 rfl rfl (hi60) (by decide) (rfl) dX2_lay_113 ?_
          refine lv_iconst (v := 1) hx hb dX2_lay_114 (by decide) ?_
          refine lv_icmp_ne (tgt := 156) hx hb dX2_lay_115 (by decide) (fun c_115 => absurd h c_115) (fun c_115 => ?_)
          refine lv_iload hx hb dX2_lay_118 (lv_at hl 1 rfl) ?_
          refine lv_if_ne (tgt := 156) hx hb dX2_lay_120 (by decide) (fun c_120 => ?_) (fun c_120 => absurd c_120 c_102)
          refine lv_aload_n hx hb dX2_lay_156 rfl (lv_at hl 2 rfl) ?_
          refine va_get (D := (dC, dI)) (ci := 1) (v := .ref (qa 0)) (C := RX2) (T := TX2) (N := 12) hx hb hts in_X2 hown hK hP 0 rfl rfl 2 (by decide) (hts _ q156) (fun _ h9 => h9) rfl dX2_lay_157 ?_
          refine lv_iload_n hx hb dX2_lay_160 rfl (lv_at hl 4 rfl) ?_
          refine zi_ald (v := so i) hx hb hK hP 1 0 rfl rfl (hi60) (by decide) (rfl) dX2_lay_161 ?_
          refine lv_iconst (v := 2) hx hb dX2_lay_162 (by decide) ?_
          refine lv_icmp_ne (tgt := 173) hx hb dX2_lay_163 (by decide) (fun c_163 => ?_) (fun c_163 => absurd c_163 (ps_ne23 h (by decide)))
          refine lv_aload_n hx hb dX2_lay_173 rfl (lv_at hl 2 rfl) ?_
          refine va_get (D := (dC, dI)) (ci := 1) (v := .ref (qa 0)) (C := RX2) (T := TX2) (N := 12) hx hb hts in_X2 hown hK hP 0 rfl rfl 2 (by decide) (hts _ q156) (fun _ h9 => h9) rfl dX2_lay_174 ?_
          refine lv_iload_n hx hb dX2_lay_177 rfl (lv_at hl 4 rfl) ?_
          refine zi_ald (v := so i) hx hb hK hP 1 0 rfl rfl (hi60) (by decide) (rfl) dX2_lay_178 ?_
          refine lv_iconst (v := 3) hx hb dX2_lay_179 (by decide) ?_
          refine lv_icmp_ne (tgt := 193) hx hb dX2_lay_180 (by decide) (fun c_180 => ?_) (fun c_180 => absurd c_180 (ps_ne23 h (by decide)))
          exact J _ _ _ _ ⟨_, _, _, _, _, ps_LM_flat hL h (fun z => c_102 (hfv.mpr z)), rfl, hP, hD, hS, lv_sub hl [2, 3, 0, 4] rfl⟩
      · have hds := ps_dp_s2 h
        refine lv_aload_n hx hb dX2_lay_72 rfl (lv_at hl 1 rfl) ?_
        refine va_get (D := (dC, dI)) (ci := 1) (v := .ref (qa 0)) (C := RX2) (T := TX2) (N := 12) hx hb hts in_X2 hown hK hP 0 rfl rfl 2 (by decide) (hts _ q156) (fun _ h9 => h9) rfl dX2_lay_73 ?_
        refine lv_iload_n hx hb dX2_lay_76 rfl (lv_at hl 4 rfl) ?_
        refine zi_ald (v := so i) hx hb hK hP 1 0 rfl rfl (hi60) (by decide) (rfl) dX2_lay_77 ?_
        refine lv_if_ne (tgt := 90) hx hb dX2_lay_78 (by decide) (fun c_78 => ?_) (fun c_78 => absurd c_78 (ps_ne23 h (by decide)))
        refine lv_aload_n hx hb dX2_lay_90 rfl (lv_at hl 1 rfl) ?_
        refine va_get (D := (dC, dI)) (ci := 1) (v := .ref (qa 0)) (C := RX2) (T := TX2) (N := 12) hx hb hts in_X2 hown hK hP 0 rfl rfl 2 (by decide) (hts _ q156) (fun _ h9 => h9) rfl dX2_lay_91 ?_
        refine lv_iload_n hx hb dX2_lay_94 rfl (lv_at hl 4 rfl) ?_
        refine zi_ald (v := so i) hx hb hK hP 1 0 rfl rfl (hi60) (by decide) (rfl) dX2_lay_95 ?_
        refine lv_iconst (v := 1) hx hb dX2_lay_96 (by decide) ?_
        refine lv_icmp_ne (tgt := 108) hx hb dX2_lay_97 (by decide) (fun c_97 => ?_) (fun c_97 => absurd c_97 (ps_ne23 h (by decide)))
        refine lv_aload_n hx hb dX2_lay_108 rfl (lv_at hl 1 rfl) ?_
        refine va_get (D := (dC, dI)) (ci := 1) (v := .ref (qa 0)) (C := RX2) (T := TX2) (N := 12) hx hb hts in_X2 hown hK hP 0 rfl rfl 2 (by decide) (hts _ q156) (fun _ h9 => h9) rfl dX2_lay_109 ?_
        refine lv_iload_n hx hb dX2_lay_112 rfl (lv_at hl 4 rfl) ?_
        refine zi_ald (v := so i) hx hb hK hP 1 0 rfl rfl (hi60) (by decide) (rfl) dX2_lay_113 ?_
        refine lv_iconst (v := 1) hx hb dX2_lay_114 (by decide) ?_
        refine lv_icmp_ne (tgt := 156) hx hb dX2_lay_115 (by decide) (fun c_115 => ?_) (fun c_115 => absurd c_115 (ps_ne23 h (by decide)))
        refine lv_aload_n hx hb dX2_lay_156 rfl (lv_at hl 1 rfl) ?_
        refine va_get (D := (dC, dI)) (ci := 1) (v := .ref (qa 0)) (C := RX2) (T := TX2) (N := 12) hx hb hts in_X2 hown hK hP 0 rfl rfl 2 (by decide) (hts _ q156) (fun _ h9 => h9) rfl dX2_lay_157 ?_
        refine lv_iload_n hx hb dX2_lay_160 rfl (lv_at hl 4 rfl) ?_
        refine zi_ald (v := so i) hx hb hK hP 1 0 rfl rfl (hi60) (by decide) (rfl) dX2_lay_161 ?_
        refine lv_iconst (v := 2) hx hb dX2_lay_162 (by decide) ?_
        refine lv_icmp_ne (tgt := 173) hx hb dX2_lay_163 (by decide) (fun c_163 => absurd h c_163) (fun c_163 => ?_)
        refine lv_aload_n hx hb dX2_lay_166 rfl (lv_at hl 1 rfl) ?_
        refine lv_iload_n hx hb dX2_lay_167 rfl (lv_at hl 4 rfl) ?_
        refine lv_iload_n hx hb dX2_lay_168 rfl (lv_at hl 3 rfl) ?_
        refine lv_iload_n hx hb dX2_lay_169 rfl (lv_at hl 2 rfl) ?_
        refine zc_v (As := [.int (nI i), .int col, .int w]) (rest := []) ⟨hx, hb, hml, hown, hts⟩ (mM_enter l dC dI cI cZ h0 H.size qa pw n so a (ps_dp so i) sf mf (upd rf i row) (upd cf i col) ff row gr i col w hok.1 hin hd12) (cwV 3 hts (lw_V q228 q230 qs9 q13 q231) rfl rfl rfl (by decide +kernel) ⟨Nat.le_of_ble_eq_true rfl, Nat.le_of_ble_eq_true rfl⟩) (ci := 1) rfl rfl hK hP hD hS hA rfl hl.1 rfl (Nat.le_of_ble_eq_true rfl) dX2_lay_170 ⟨Nat.zero_le _, Nat.zero_le _⟩ (fun u_170 H locs hw_170 hP hD hS => ?_)
        rw [← hds] at hP hD
        have hP : va_P (dC, dI) vwCl (wM h0 qa cI cZ pw (nI n) so a (nI (ps_dp so (i + 1))) (upd sf (ps_dp so i) u_170) (upd mf (ps_dp so i) (ps_tp (ps_dp so i) mf + a i)) (upd rf i row) (upd cf i col) (upd ff i u_170) row gr) H := hP
        have hD : va_D A (wM h0 qa cI cZ pw (nI n) so a (nI (ps_dp so (i + 1))) (upd sf (ps_dp so i) u_170) (upd mf (ps_dp so i) (ps_tp (ps_dp so i) mf + a i)) (upd rf i row) (upd cf i col) (upd ff i u_170) row gr) := hD
        refine lv_aload_n hx hb dX2_lay_173 rfl (lv_at hl 1 rfl) ?_
        refine va_get (D := (dC, dI)) (ci := 1) (v := .ref (qa 0)) (C := RX2) (T := TX2) (N := 12) hx hb hts in_X2 hown hK hP 0 rfl rfl 2 (by decide) (hts _ q156) (fun _ h9 => h9) rfl dX2_lay_174 ?_
        refine lv_iload_n hx hb dX2_lay_177 rfl (lv_at hl 4 rfl) ?_
        refine zi_ald (v := so i) hx hb hK hP 1 0 rfl rfl (hi60) (by decide) (rfl) dX2_lay_178 ?_
        refine lv_iconst (v := 3) hx hb dX2_lay_179 (by decide) ?_
        refine lv_icmp_ne (tgt := 193) hx hb dX2_lay_180 (by decide) (fun c_180 => ?_) (fun c_180 => absurd c_180 (ps_ne23 h (by decide)))
        exact J _ _ _ _ ⟨_, _, _, _, _, ps_LM_open hL h hw_170 rfl, rfl, hP, hD, hS, lv_sub hl [1, 2, 3, 4] rfl⟩
      · refine lv_aload_n hx hb dX2_lay_72 rfl (lv_at hl 1 rfl) ?_
        refine va_get (D := (dC, dI)) (ci := 1) (v := .ref (qa 0)) (C := RX2) (T := TX2) (N := 12) hx hb hts in_X2 hown hK hP 0 rfl rfl 2 (by decide) (hts _ q156) (fun _ h9 => h9) rfl dX2_lay_73 ?_
        refine lv_iload_n hx hb dX2_lay_76 rfl (lv_at hl 4 rfl) ?_
        refine zi_ald (v := so i) hx hb hK hP 1 0 rfl rfl (hi60) (by decide) (rfl) dX2_lay_77 ?_
        refine lv_if_ne (tgt := 90) hx hb dX2_lay_78 (by decide) (fun c_78 => ?_) (fun c_78 => absurd c_78 (ps_ne23 h (by decide)))
        refine lv_aload_n hx hb dX2_lay_90 rfl (lv_at hl 1 rfl) ?_
        refine va_get (D := (dC, dI)) (ci := 1) (v := .ref (qa 0)) (C := RX2) (T := TX2) (N := 12) hx hb hts in_X2 hown hK hP 0 rfl rfl 2 (by decide) (hts _ q156) (fun _ h9 => h9) rfl dX2_lay_91 ?_
        refine lv_iload_n hx hb dX2_lay_94 rfl (lv_at hl 4 rfl) ?_
        refine zi_ald (v := so i) hx hb hK hP 1 0 rfl rfl (hi60) (by decide) (rfl) dX2_lay_95 ?_
        refine lv_iconst (v := 1) hx hb dX2_lay_96 (by decide) ?_
        refine lv_icmp_ne (tgt := 108) hx hb dX2_lay_97 (by decide) (fun c_97 => ?_) (fun c_97 => absurd c_97 (ps_ne23 h (by decide)))
        refine lv_aload_n hx hb dX2_lay_108 rfl (lv_at hl 1 rfl) ?_
        refine va_get (D := (dC, dI)) (ci := 1) (v := .ref (qa 0)) (C := RX2) (T := TX2) (N := 12) hx hb hts in_X2 hown hK hP 0 rfl rfl 2 (by decide) (hts _ q156) (fun _ h9 => h9) rfl dX2_lay_109 ?_
        refine lv_iload_n hx hb dX2_lay_112 rfl (lv_at hl 4 rfl) ?_
        refine zi_ald (v := so i) hx hb hK hP 1 0 rfl rfl (hi60) (by decide) (rfl) dX2_lay_113 ?_
        refine lv_iconst (v := 1) hx hb dX2_lay_114 (by decide) ?_
        refine lv_icmp_ne (tgt := 156) hx hb dX2_lay_115 (by decide) (fun c_115 => ?_) (fun c_115 => absurd c_115 (ps_ne23 h (by decide)))
        refine lv_aload_n hx hb dX2_lay_156 rfl (lv_at hl 1 rfl) ?_
        refine va_get (D := (dC, dI)) (ci := 1) (v := .ref (qa 0)) (C := RX2) (T := TX2) (N := 12) hx hb hts in_X2 hown hK hP 0 rfl rfl 2 (by decide) (hts _ q156) (fun _ h9 => h9) rfl dX2_lay_157 ?_
        refine lv_iload_n hx hb dX2_lay_160 rfl (lv_at hl 4 rfl) ?_
        refine zi_ald (v := so i) hx hb hK hP 1 0 rfl rfl (hi60) (by decide) (rfl) dX2_lay_161 ?_
        refine lv_iconst (v := 2) hx hb dX2_lay_162 (by decide) ?_
        refine lv_icmp_ne (tgt := 173) hx hb dX2_lay_163 (by decide) (fun c_163 => ?_) (fun c_163 => absurd c_163 (ps_ne23 h (by decide)))
        refine lv_aload_n hx hb dX2_lay_173 rfl (lv_at hl 1 rfl) ?_
        refine va_get (D := (dC, dI)) (ci := 1) (v := .ref (qa 0)) (C := RX2) (T := TX2) (N := 12) hx hb hts in_X2 hown hK hP 0 rfl rfl 2 (by decide) (hts _ q156) (fun _ h9 => h9) rfl dX2_lay_174 ?_
        refine lv_iload_n hx hb dX2_lay_177 rfl (lv_at hl 4 rfl) ?_
        refine zi_ald (v := so i) hx hb hK hP 1 0 rfl rfl (hi60) (by decide) (rfl) dX2_lay_178 ?_
        refine lv_iconst (v := 3) hx hb dX2_lay_179 (by decide) ?_
        refine lv_icmp_ne (tgt := 193) hx hb dX2_lay_180 (by decide) (fun c_180 => absurd h c_180) (fun c_180 => ?_)
        refine lv_aload_n hx hb dX2_lay_183 rfl (lv_at hl 1 rfl) ?_
        refine lv_dup hx hb dX2_lay_184 rfl ?_
        refine va_get (D := (dC, dI)) (ci := 1) (v := .int (nI (ps_dp so i))) (C := RX2) (T := TX2) (N := 12) hx hb hts in_X2 hown hK hP 0 rfl rfl 4 (by decide) (hts _ q158) (fun _ h9 => h9) rfl dX2_lay_185 ?_
        refine lv_iconst (v := 1) hx hb dX2_lay_188 (by decide) ?_
        refine lv_isub hx hb dX2_lay_189 ?_
        rw [show (nI (ps_dp so i)) - 1 = nI (ps_dp so (i + 1)) from by rw [ps_dp_s3 h]; exact ps_s1 (hok.2.2.1 i hin h)]
        refine va_put (D := (dC, dI)) (ci := 1) (v := .int (nI (ps_dp so (i + 1)))) (ty := .int) (C := RX2) (T := TX2) (N := 12) hx hb hts in_X2 tyX2 tyX2_ok nmX2 hown hK hP hD hS 0 rfl rfl 4 (by decide) (hts _ q158) (fun _ h9 => h9) rfl (by decide +kernel) rfl rfl (Nat.le_of_ble_eq_true rfl) dX2_lay_190 (fun H locs hP hD hS => ?_)
        have hP : va_P (dC, dI) vwCl (wM h0 qa cI cZ pw (nI n) so a (nI (ps_dp so (i + 1))) sf mf (upd rf i row) (upd cf i col) ff row gr) H := hP
        have hD : va_D A (wM h0 qa cI cZ pw (nI n) so a (nI (ps_dp so (i + 1))) sf mf (upd rf i row) (upd cf i col) ff row gr) := hD
        exact J _ _ _ _ ⟨_, _, _, _, _, ps_LM_close hL h, rfl, hP, hD, hS, lv_sub hl [1, 2, 3, 4] rfl⟩
    by_cases hdz : ps_dp so i = 0
    · refine lv_aload_n hx hb dX2_lay_44 rfl (lv_at hl 0 rfl) ?_
      refine va_get (D := (dC, dI)) (ci := 1) (v := .int (nI (ps_dp so i))) (C := RX2) (T := TX2) (N := 12) hx hb hts in_X2 hown hK hP 0 rfl rfl 4 (by decide) (hts _ q158) (fun _ h9 => h9) rfl dX2_lay_45 ?_
      refine lv_if_le (tgt := 69) hx hb dX2_lay_48 (by decide) (fun c_48 => ?_) (fun c_48 => absurd (by rw [hdz]; decide) c_48)
      refine lv_iconst (v := 0) hx hb dX2_lay_69 (by decide) ?_
      exact J70 _ _ _ _ ⟨_, ⟨fun _ => ps_tp0 hdz, fun _ => rfl⟩, rfl, hP, hD, hS, lv_sub hl [0, 1, 2, 3] rfl⟩
    · have hd0 : 0 < ps_dp so i := by omega
      have htp := ps_tp1 (F := sf) hdz
      refine lv_aload_n hx hb dX2_lay_44 rfl (lv_at hl 0 rfl) ?_
      refine va_get (D := (dC, dI)) (ci := 1) (v := .int (nI (ps_dp so i))) (C := RX2) (T := TX2) (N := 12) hx hb hts in_X2 hown hK hP 0 rfl rfl 4 (by decide) (hts _ q158) (fun _ h9 => h9) rfl dX2_lay_45 ?_
      refine lv_if_le (tgt := 69) hx hb dX2_lay_48 (by decide) (fun c_48 => absurd c_48 (nI_nle hd0 (by omega))) (fun c_48 => ?_)
      refine lv_aload_n hx hb dX2_lay_51 rfl (lv_at hl 0 rfl) ?_
      refine va_get (D := (dC, dI)) (ci := 1) (v := .ref (qa 2)) (C := RX2) (T := TX2) (N := 12) hx hb hts in_X2 hown hK hP 0 rfl rfl 5 (by decide) (hts _ q159) (fun _ h9 => h9) rfl dX2_lay_52 ?_
      refine lv_aload_n hx hb dX2_lay_55 rfl (lv_at hl 0 rfl) ?_
      refine va_get (D := (dC, dI)) (ci := 1) (v := .int (nI (ps_dp so i))) (C := RX2) (T := TX2) (N := 12) hx hb hts in_X2 hown hK hP 0 rfl rfl 4 (by decide) (hts _ q158) (fun _ h9 => h9) rfl dX2_lay_56 ?_
      refine lv_iconst (v := 1) hx hb dX2_lay_59 (by decide) ?_
      refine lv_isub hx hb dX2_lay_60 ?_
      rw [show (nI (ps_dp so i)) - 1 = nI (ps_dp so i - 1) from ps_s1 hd0]
      refine zz_ald (v := sf (ps_dp so i - 1)) hx hb hK hP 3 1 rfl rfl (by omega) (by decide) (rfl) dX2_lay_61 ?_
      refine lv_if_eq (tgt := 69) hx hb dX2_lay_62 (by decide) (fun c_62 => ?_) (fun c_62 => ?_)
      · refine lv_iconst (v := 0) hx hb dX2_lay_69 (by decide) ?_
        exact J70 _ _ _ _ ⟨_, ⟨fun _ => htp.trans c_62, fun _ => rfl⟩, rfl, hP, hD, hS, lv_sub hl [0, 1, 2, 3] rfl⟩
      · refine lv_iconst (v := 1) hx hb dX2_lay_65 (by decide) ?_
        refine lv_goto (tgt := 70) hx hb dX2_lay_66 (by decide) ?_
        exact J70 _ _ _ _ ⟨_, ⟨fun z => absurd z (by decide), fun z => absurd (htp.symm.trans z) c_62⟩, rfl, hP, hD, hS, lv_sub hl [0, 1, 2, 3] rfl⟩
end
section
theorem ps_lw_s {so a : Nat → Int32} {n : Nat} {x : Int32} {v : Nat} (h1 : 1 ≤ v) (h2 : v ≤ 100) : ps_lw so a n x (101 - v) = if ps_R so a n (nI v) n + 1 ≤ x then nI v else ps_lw so a n x (101 - (v + 1)) := by
  rw [show 101 - v = (100 - v) + 1 by omega, show 101 - (v + 1) = 100 - v by omega]
  show (if ps_R so a n (nI (100 - (100 - v))) n + 1 ≤ x then nI (100 - (100 - v)) else ps_lw so a n x (100 - v)) = _
  rw [show 100 - (100 - v) = v by omega]
set_option maxHeartbeats 4000000 in
set_option maxRecDepth 100000 in
/-- word(x) -/
theorem mX_word (l : Launch) (dC : Nat → ClassId) (dI : Nat → Nat → Nat) (cI cZ : ClassId) (h0 sz : Nat) (qa : Nat → Nat) (pw : Int32) (n : Nat) (un : Int32) (so si : Nat → Int32) (mb : Int32) (re st sk wa : Nat → Int32) (lb : Int32) (ro co fl ma : Nat → Int32) (lr gc : Int32) (a : Nat → Int32) (x : Int32) (b : Bool) (hI : ps_XI n so a pw un si mb re lb ro co fl lr gc) (hbb : b = decide (¬ x < 1 ∧ ¬ 20 < x ∧ n < 60)) : Met l yX1_word (ws_ yX1_word cX1_word 2 (some .int)) ({ frames := 1, cells := 0, slots := 0, locals := 22 }) (va_Pc [.ref h0, .int x] (preW dC dI cI cZ sz (wX h0 qa cI cZ pw (nI n) un so si mb re st sk wa lb ro co fl ma lr gc))) (va_Qi (fun (r : Int32) (u : SX) => r = ps_r b n ∧ ps_XIt (ps_n b n) (ps_u b n so 0) (ps_u b n a x) pw u) (fun u t => posW dC dI cI cZ (va_A (wX h0 qa cI cZ pw (nI n) un so si mb re st sk wa lb ro co fl ma lr gc) sz) (wXt h0 qa cI cZ pw (ps_n b n) (ps_u b n so 0) u) t) (va_A (wX h0 qa cI cZ pw (nI n) un so si mb re st sk wa lb ro co fl ma lr gc) sz)) 0 0 (va_A (wX h0 qa cI cZ pw (nI n) un so si mb re st sk wa lb ro co fl ma lr gc) sz) := by
  refine Met.ofW (cc := cX1_word) (maxL := 2) (ret := (some .int)) (by decide) rfl ?_
  intro p e s m args below meth c s₁ B hml hv
  obtain ⟨rfl, hsz, hP, hK, hD0⟩ := hv
  have hx := B.exec
  have hb := B.bytes
  have hr := B.returns
  have hts := atoms_spec (ws := ws_ yX1_word cX1_word 2 (some .int)) B.pre
  have hts : ∀ w ∈ lw_all, w.before _ s = true := fun w h => hts w (List.mem_cons_of_mem _ h)
  have hown : s.vm.findClass RX1 = some m.cls := findClass_of_methodNamed B.named
  have hlocks := B.notSynchronized
  subst hsz
  have hD := hD0.self (sz := s.heap.size)
  generalize hAe : va_A (wX h0 qa cI cZ pw (nI n) un so si mb re st sk wa lb ro co fl ma lr gc) s.heap.size = A at hD ⊢
  have hA : ∀ q : Nat, s.heap.size ≤ q → A q := fun q h => by rw [← hAe]; exact Or.inr h
  have hS : va_S A s.heap s.heap [] := va_S.rf
  have hl := lv_entry ([.ref h0, .int x]) (n := 2) (Nat.le_of_ble_eq_true rfl)
  rw [lg_entry_eq]
  generalize (lg_sl ([.ref h0, .int x]) ++ List.replicate (2 - (lg_sl ([.ref h0, .int x])).length) Slot.unset).toArray = ls at hl ⊢
  have hl : lv_has ls 2 [(0, .ref h0), (1, .int x)] := hl
  refine lv_iload_n hx hb dX1_word_0 rfl (lv_at hl 1 rfl) ?_
  refine lv_iconst (v := 1) hx hb dX1_word_1 (by decide) ?_
  refine lv_icmp_lt (tgt := 11) hx hb dX1_word_2 (by decide) (fun c_2 => ?_) (fun c_2 => ?_)
  · obtain rfl : b = false := by rw [hbb]; simp [c_2]
    refine lv_iconst (v := -1) hx hb dX1_word_11 (by decide) ?_
    refine lv_goto (tgt := 21) hx hb dX1_word_12 (by decide) ?_
    exact W.iret (v := (-1)) hx hb hr (fun t ht hW => ⟨⟨(-1), (un, si, mb, re, st, sk, wa, lb, ro, co, fl, ma, lr, gc), rfl, ⟨rfl, hI⟩, by rw [ht]; exact hP, va_K.moved hW.alike hK, hD⟩, hS.F ht⟩) hS.2.2 dX1_word_21
  · refine lv_iload_n hx hb dX1_word_5 rfl (lv_at hl 1 rfl) ?_
    refine lv_bipush (v := 20) hx hb dX1_word_6 (by decide) ?_
    refine lv_icmp_le (tgt := 15) hx hb dX1_word_8 (by decide) (fun c_8 => ?_) (fun c_8 => ?_)
    · obtain rfl : b = decide (n < 60) := by rw [hbb]; simp only [c_2, Int32.not_lt.mpr c_8, not_false_eq_true, true_and]
      refine lv_aload_n hx hb dX1_word_15 rfl (lv_at hl 0 rfl) ?_
      refine lv_iconst (v := 0) hx hb dX1_word_16 (by decide) ?_
      refine lv_iload_n hx hb dX1_word_17 rfl (lv_at hl 1 rfl) ?_
      refine zc_i (As := [.int 0, .int x]) (rest := []) ⟨hx, hb, hml, hown, hts⟩ (mX_addPiece l dC dI cI cZ h0 s.heap.size qa pw n un so si mb re st sk wa lb ro co fl ma lr gc 0 x hI.1.1) (cwV 2 hts (lw_V q84 q86 qs0 q12 q87) rfl rfl rfl (by decide +kernel) ⟨Nat.le_of_ble_eq_true rfl, Nat.le_of_ble_eq_true rfl⟩) (ci := 0) rfl rfl hK hP hD hS hA rfl hl.1 rfl (Nat.le_of_ble_eq_true rfl) dX1_word_18 ⟨Nat.zero_le _, Nat.zero_le _⟩ (fun r_18 u_18 H locs hw_18 hP hD hS => ?_)
      have hP : va_P (dC, dI) vwCl (wX h0 qa cI cZ pw (nI (ps_n (decide (n < 60)) n)) un (ps_u (decide (n < 60)) n so 0) (ps_u (decide (n < 60)) n si x) (ps_z (decide (n < 60)) mb) re st sk wa (ps_z (decide (n < 60)) lb) ro co fl ma lr gc) H := hP
      have hD : va_D A (wX h0 qa cI cZ pw (nI (ps_n (decide (n < 60)) n)) un (ps_u (decide (n < 60)) n so 0) (ps_u (decide (n < 60)) n si x) (ps_z (decide (n < 60)) mb) re st sk wa (ps_z (decide (n < 60)) lb) ro co fl ma lr gc) := hD
      exact W.iret (v := r_18) hx hb hr (fun t ht hW => ⟨⟨r_18, (un, ps_u (decide (n < 60)) n si x, ps_z (decide (n < 60)) mb, re, st, sk, wa, ps_z (decide (n < 60)) lb, ro, co, fl, ma, lr, gc), rfl, ⟨hw_18, ps_XI_add hI rfl (by rw [if_neg (by decide)]) (Or.inl rfl) (fun h => absurd h (by decide)) (fun h => absurd h (by decide)) (by rw [ps_dp_01 (Or.inl rfl)]; exact hI.2.1)⟩, by rw [ht]; exact hP, va_K.moved hW.alike hK, hD⟩, hS.F ht⟩) hS.2.2 dX1_word_21
    · obtain rfl : b = false := by rw [hbb]; simp [Int32.not_le.mp c_8]
      refine lv_iconst (v := -1) hx hb dX1_word_11 (by decide) ?_
      refine lv_goto (tgt := 21) hx hb dX1_word_12 (by decide) ?_
      exact W.iret (v := (-1)) hx hb hr (fun t ht hW => ⟨⟨(-1), (un, si, mb, re, st, sk, wa, lb, ro, co, fl, ma, lr, gc), rfl, ⟨rfl, hI⟩, by rw [ht]; exact hP, va_K.moved hW.alike hK, hD⟩, hS.F ht⟩) hS.2.2 dX1_word_21
set_option maxHeartbeats 4000000 in
set_option maxRecDepth 100000 in
/-- lineBreak() -/
theorem mX_lineBreak (l : Launch) (dC : Nat → ClassId) (dI : Nat → Nat → Nat) (cI cZ : ClassId) (h0 sz : Nat) (qa : Nat → Nat) (pw : Int32) (n : Nat) (un : Int32) (so si : Nat → Int32) (mb : Int32) (re st sk wa : Nat → Int32) (lb : Int32) (ro co fl ma : Nat → Int32) (lr gc : Int32) (a : Nat → Int32) (b : Bool) (hI : ps_XI n so a pw un si mb re lb ro co fl lr gc) (hbb : b = decide (n < 60)) : Met l yX1_lineBreak (ws_ yX1_lineBreak cX1_lineBreak 1 (some .int)) ({ frames := 1, cells := 0, slots := 0, locals := 22 }) (va_Pc [.ref h0] (preW dC dI cI cZ sz (wX h0 qa cI cZ pw (nI n) un so si mb re st sk wa lb ro co fl ma lr gc))) (va_Qi (fun (r : Int32) (u : SX) => r = ps_r b n ∧ ps_XIt (ps_n b n) (ps_u b n so 1) (ps_u b n a 0) pw u) (fun u t => posW dC dI cI cZ (va_A (wX h0 qa cI cZ pw (nI n) un so si mb re st sk wa lb ro co fl ma lr gc) sz) (wXt h0 qa cI cZ pw (ps_n b n) (ps_u b n so 1) u) t) (va_A (wX h0 qa cI cZ pw (nI n) un so si mb re st sk wa lb ro co fl ma lr gc) sz)) 0 0 (va_A (wX h0 qa cI cZ pw (nI n) un so si mb re st sk wa lb ro co fl ma lr gc) sz) := by
  refine Met.ofW (cc := cX1_lineBreak) (maxL := 1) (ret := (some .int)) (by decide) rfl ?_
  intro p e s m args below meth c s₁ B hml hv
  obtain ⟨rfl, hsz, hP, hK, hD0⟩ := hv
  have hx := B.exec
  have hb := B.bytes
  have hr := B.returns
  have hts := atoms_spec (ws := ws_ yX1_lineBreak cX1_lineBreak 1 (some .int)) B.pre
  have hts : ∀ w ∈ lw_all, w.before _ s = true := fun w h => hts w (List.mem_cons_of_mem _ h)
  have hown : s.vm.findClass RX1 = some m.cls := findClass_of_methodNamed B.named
  have hlocks := B.notSynchronized
  subst hsz
  have hD := hD0.self (sz := s.heap.size)
  generalize hAe : va_A (wX h0 qa cI cZ pw (nI n) un so si mb re st sk wa lb ro co fl ma lr gc) s.heap.size = A at hD ⊢
  have hA : ∀ q : Nat, s.heap.size ≤ q → A q := fun q h => by rw [← hAe]; exact Or.inr h
  have hS : va_S A s.heap s.heap [] := va_S.rf
  have hl := lv_entry ([.ref h0]) (n := 1) (Nat.le_of_ble_eq_true rfl)
  rw [lg_entry_eq]
  generalize (lg_sl ([.ref h0]) ++ List.replicate (1 - (lg_sl ([.ref h0])).length) Slot.unset).toArray = ls at hl ⊢
  have hl : lv_has ls 1 [(0, .ref h0)] := hl
  subst hbb
  refine lv_aload_n hx hb dX1_lineBreak_0 rfl (lv_at hl 0 rfl) ?_
  refine lv_iconst (v := 1) hx hb dX1_lineBreak_1 (by decide) ?_
  refine lv_iconst (v := 1) hx hb dX1_lineBreak_2 (by decide) ?_
  refine zc_i (As := [.int 1, .int 1]) (rest := []) ⟨hx, hb, hml, hown, hts⟩ (mX_addPiece l dC dI cI cZ h0 s.heap.size qa pw n un so si mb re st sk wa lb ro co fl ma lr gc 1 1 hI.1.1) (cwV 2 hts (lw_V q84 q86 qs0 q12 q87) rfl rfl rfl (by decide +kernel) ⟨Nat.le_of_ble_eq_true rfl, Nat.le_of_ble_eq_true rfl⟩) (ci := 0) rfl rfl hK hP hD hS hA rfl hl.1 rfl (Nat.le_of_ble_eq_true rfl) dX1_lineBreak_3 ⟨Nat.zero_le _, Nat.zero_le _⟩ (fun r_3 u_3 H locs hw_3 hP hD hS => ?_)
  have hP : va_P (dC, dI) vwCl (wX h0 qa cI cZ pw (nI (ps_n (decide (n < 60)) n)) un (ps_u (decide (n < 60)) n so 1) (ps_u (decide (n < 60)) n si 1) (ps_z (decide (n < 60)) mb) re st sk wa (ps_z (decide (n < 60)) lb) ro co fl ma lr gc) H := hP
  have hD : va_D A (wX h0 qa cI cZ pw (nI (ps_n (decide (n < 60)) n)) un (ps_u (decide (n < 60)) n so 1) (ps_u (decide (n < 60)) n si 1) (ps_z (decide (n < 60)) mb) re st sk wa (ps_z (decide (n < 60)) lb) ro co fl ma lr gc) := hD
  exact W.iret (v := r_3) hx hb hr (fun t ht hW => ⟨⟨r_3, (un, ps_u (decide (n < 60)) n si 1, ps_z (decide (n < 60)) mb, re, st, sk, wa, ps_z (decide (n < 60)) lb, ro, co, fl, ma, lr, gc), rfl, ⟨hw_3, ps_XI_add hI rfl (if_pos rfl).symm (Or.inr (Or.inl rfl)) (fun h => absurd h (by decide)) (fun h => absurd h (by decide)) (by rw [ps_dp_01 (Or.inr rfl)]; exact hI.2.1)⟩, by rw [ht]; exact hP, va_K.moved hW.alike hK, hD⟩, hS.F ht⟩) hS.2.2 dX1_lineBreak_6
set_option maxHeartbeats 4000000 in
set_option maxRecDepth 100000 in
/-- open(x) -/
theorem mX_open (l : Launch) (dC : Nat → ClassId) (dI : Nat → Nat → Nat) (cI cZ : ClassId) (h0 sz : Nat) (qa : Nat → Nat) (pw : Int32) (n : Nat) (un : Int32) (so si : Nat → Int32) (mb : Int32) (re st sk wa : Nat → Int32) (lb : Int32) (ro co fl ma : Nat → Int32) (lr gc : Int32) (a : Nat → Int32) (x : Int32) (b : Bool) (hI : ps_XI n so a pw un si mb re lb ro co fl lr gc) (hbb : b = decide (¬ x < 0 ∧ ¬ 8 < x ∧ ps_dp so n < 12 ∧ n < 60)) : Met l yX1_open (ws_ yX1_open cX1_open 3 (some .int)) ({ frames := 1, cells := 0, slots := 0, locals := 22 }) (va_Pc [.ref h0, .int x] (preW dC dI cI cZ sz (wX h0 qa cI cZ pw (nI n) un so si mb re st sk wa lb ro co fl ma lr gc))) (va_Qi (fun (r : Int32) (u : SX) => r = ps_r b n ∧ ps_XIt (ps_n b n) (ps_u b n so 2) (ps_u b n a x) pw u) (fun u t => posW dC dI cI cZ (va_A (wX h0 qa cI cZ pw (nI n) un so si mb re st sk wa lb ro co fl ma lr gc) sz) (wXt h0 qa cI cZ pw (ps_n b n) (ps_u b n so 2) u) t) (va_A (wX h0 qa cI cZ pw (nI n) un so si mb re st sk wa lb ro co fl ma lr gc) sz)) 0 0 (va_A (wX h0 qa cI cZ pw (nI n) un so si mb re st sk wa lb ro co fl ma lr gc) sz) := by
  refine Met.ofW (cc := cX1_open) (maxL := 3) (ret := (some .int)) (by decide) rfl ?_
  intro p e s m args below meth c s₁ B hml hv
  obtain ⟨rfl, hsz, hP, hK, hD0⟩ := hv
  have hx := B.exec
  have hb := B.bytes
  have hr := B.returns
  have hts := atoms_spec (ws := ws_ yX1_open cX1_open 3 (some .int)) B.pre
  have hts : ∀ w ∈ lw_all, w.before _ s = true := fun w h => hts w (List.mem_cons_of_mem _ h)
  have hown : s.vm.findClass RX1 = some m.cls := findClass_of_methodNamed B.named
  have hlocks := B.notSynchronized
  subst hsz
  have hD := hD0.self (sz := s.heap.size)
  generalize hAe : va_A (wX h0 qa cI cZ pw (nI n) un so si mb re st sk wa lb ro co fl ma lr gc) s.heap.size = A at hD ⊢
  have hA : ∀ q : Nat, s.heap.size ≤ q → A q := fun q h => by rw [← hAe]; exact Or.inr h
  have hS : va_S A s.heap s.heap [] := va_S.rf
  have hl := lv_entry ([.ref h0, .int x]) (n := 3) (Nat.le_of_ble_eq_true rfl)
  rw [lg_entry_eq]
  generalize (lg_sl ([.ref h0, .int x]) ++ List.replicate (3 - (lg_sl ([.ref h0, .int x])).length) Slot.unset).toArray = ls at hl ⊢
  have hl : lv_has ls 3 [(0, .ref h0), (1, .int x)] := hl
  have hun := hI.2.1
  subst hun
  have hn60 := hI.1.1
  have hd12 := hI.1.2.2.2 n (Nat.le_refl n)
  refine lv_iload_n hx hb dX1_open_0 rfl (lv_at hl 1 rfl) ?_
  refine lv_if_lt (tgt := 19) hx hb dX1_open_1 (by decide) (fun c_1 => ?_) (fun c_1 => ?_)
  · obtain rfl : b = false := by rw [hbb]; simp [c_1]
    refine lv_iconst (v := -1) hx hb dX1_open_19 (by decide) ?_
    exact W.iret (v := (-1)) hx hb hr (fun t ht hW => ⟨⟨(-1), (nI (ps_dp so n), si, mb, re, st, sk, wa, lb, ro, co, fl, ma, lr, gc), rfl, ⟨rfl, hI⟩, by rw [ht]; exact hP, va_K.moved hW.alike hK, hD⟩, hS.F ht⟩) hS.2.2 dX1_open_20
  · refine lv_iload_n hx hb dX1_open_4 rfl (lv_at hl 1 rfl) ?_
    refine lv_bipush (v := 8) hx hb dX1_open_5 (by decide) ?_
    refine lv_icmp_gt (tgt := 19) hx hb dX1_open_7 (by decide) (fun c_7 => ?_) (fun c_7 => ?_)
    · obtain rfl : b = false := by rw [hbb]; simp [c_7]
      refine lv_iconst (v := -1) hx hb dX1_open_19 (by decide) ?_
      exact W.iret (v := (-1)) hx hb hr (fun t ht hW => ⟨⟨(-1), (nI (ps_dp so n), si, mb, re, st, sk, wa, lb, ro, co, fl, ma, lr, gc), rfl, ⟨rfl, hI⟩, by rw [ht]; exact hP, va_K.moved hW.alike hK, hD⟩, hS.F ht⟩) hS.2.2 dX1_open_20
    · refine lv_aload_n hx hb dX1_open_10 rfl (lv_at hl 0 rfl) ?_
      refine va_get (D := (dC, dI)) (ci := 0) (v := .int (nI (ps_dp so n))) (C := RX1) (T := TX1) (N := 17) hx hb hts in_X1 hown hK hP 0 rfl rfl 2 (by decide) (hts _ q28) (fun _ h9 => h9) rfl dX1_open_11 ?_
      refine lv_bipush (v := 12) hx hb dX1_open_14 (by decide) ?_
      refine lv_icmp_lt (tgt := 21) hx hb dX1_open_16 (by decide) (fun c_16 => ?_) (fun c_16 => ?_)
      · have hlt : ps_dp so n < 12 := (nI_ltI (a := ps_dp so n) (b := 12) (by omega) (by omega)).mp c_16
        obtain rfl : b = decide (n < 60) := by rw [hbb]; simp only [c_1, c_7, hlt, not_false_eq_true, true_and]
        refine lv_aload_n hx hb dX1_open_21 rfl (lv_at hl 0 rfl) ?_
        refine lv_iconst (v := 2) hx hb dX1_open_22 (by decide) ?_
        refine lv_iload_n hx hb dX1_open_23 rfl (lv_at hl 1 rfl) ?_
        refine zc_i (As := [.int 2, .int x]) (rest := []) ⟨hx, hb, hml, hown, hts⟩ (mX_addPiece l dC dI cI cZ h0 s.heap.size qa pw n (nI (ps_dp so n)) so si mb re st sk wa lb ro co fl ma lr gc 2 x hI.1.1) (cwV 2 hts (lw_V q84 q86 qs0 q12 q87) rfl rfl rfl (by decide +kernel) ⟨Nat.le_of_ble_eq_true rfl, Nat.le_of_ble_eq_true rfl⟩) (ci := 0) rfl rfl hK hP hD hS hA rfl hl.1 rfl (Nat.le_of_ble_eq_true rfl) dX1_open_24 ⟨Nat.zero_le _, Nat.zero_le _⟩ (fun r_24 u_24 H locs hw_24 hP hD hS => ?_)
        have hP : va_P (dC, dI) vwCl (wX h0 qa cI cZ pw (nI (ps_n (decide (n < 60)) n)) (nI (ps_dp so n)) (ps_u (decide (n < 60)) n so 2) (ps_u (decide (n < 60)) n si x) (ps_z (decide (n < 60)) mb) re st sk wa (ps_z (decide (n < 60)) lb) ro co fl ma lr gc) H := hP
        have hD : va_D A (wX h0 qa cI cZ pw (nI (ps_n (decide (n < 60)) n)) (nI (ps_dp so n)) (ps_u (decide (n < 60)) n so 2) (ps_u (decide (n < 60)) n si x) (ps_z (decide (n < 60)) mb) re st sk wa (ps_z (decide (n < 60)) lb) ro co fl ma lr gc) := hD
        by_cases h60 : n < 60
        · obtain rfl : r_24 = nI (n + 1) := by rw [hw_24]; simp [ps_r, h60]
          refine lv_istore_n (lv' := [(2, .int (nI (n + 1))), (0, .ref h0), (1, .int x)]) hx hb dX1_open_27 rfl hl (by decide) rfl (fun ls hl => ?_)
          refine lv_aload_n hx hb dX1_open_28 rfl (lv_at hl 1 rfl) ?_
          refine lv_dup hx hb dX1_open_29 rfl ?_
          refine va_get (D := (dC, dI)) (ci := 0) (v := .int (nI (ps_dp so n))) (C := RX1) (T := TX1) (N := 17) hx hb hts in_X1 hown hK hP 0 rfl rfl 2 (by decide) (hts _ q28) (fun _ h9 => h9) rfl dX1_open_30 ?_
          refine lv_iload_n hx hb dX1_open_33 rfl (lv_at hl 0 rfl) ?_
          refine lv_if_ge (tgt := 41) hx hb dX1_open_34 (by decide) (fun c_34 => ?_) (fun c_34 => absurd (nI_pos' (by omega)) c_34)
          refine lv_iconst (v := 1) hx hb dX1_open_41 (by decide) ?_
          refine lv_iadd hx hb dX1_open_42 ?_
          rw [show (nI (ps_dp so n)) + 1 = nI (ps_dp so n + 1) from nI_1 _]
          refine va_put (D := (dC, dI)) (ci := 0) (v := .int (nI (ps_dp so n + 1))) (ty := .int) (C := RX1) (T := TX1) (N := 17) hx hb hts in_X1 tyX1 tyX1_ok nmX1 hown hK hP hD hS 0 rfl rfl 2 (by decide) (hts _ q28) (fun _ h9 => h9) rfl (by decide +kernel) rfl rfl (Nat.le_of_ble_eq_true rfl) dX1_open_43 (fun H locs hP hD hS => ?_)
          have hP : va_P (dC, dI) vwCl (wX h0 qa cI cZ pw (nI (ps_n (decide (n < 60)) n)) (nI (ps_dp so n + 1)) (ps_u (decide (n < 60)) n so 2) (ps_u (decide (n < 60)) n si x) (ps_z (decide (n < 60)) mb) re st sk wa (ps_z (decide (n < 60)) lb) ro co fl ma lr gc) H := hP
          have hD : va_D A (wX h0 qa cI cZ pw (nI (ps_n (decide (n < 60)) n)) (nI (ps_dp so n + 1)) (ps_u (decide (n < 60)) n so 2) (ps_u (decide (n < 60)) n si x) (ps_z (decide (n < 60)) mb) re st sk wa (ps_z (decide (n < 60)) lb) ro co fl ma lr gc) := hD
          refine lv_iload_n hx hb dX1_open_46 rfl (lv_at hl 0 rfl) ?_
          exact W.iret (v := nI (n + 1)) hx hb hr (fun t ht hW => ⟨⟨nI (n + 1), (nI (ps_dp so n + 1), ps_u (decide (n < 60)) n si x, ps_z (decide (n < 60)) mb, re, st, sk, wa, ps_z (decide (n < 60)) lb, ro, co, fl, ma, lr, gc), rfl, ⟨hw_24, ps_XI_add hI rfl (by rw [if_neg (by decide)]) (Or.inr (Or.inr (Or.inl rfl))) (fun h => absurd h (by decide)) (fun _ => hlt) (by rw [ps_dp_2, if_pos (decide_eq_true h60)])⟩, by rw [ht]; exact hP, va_K.moved hW.alike hK, hD⟩, hS.F ht⟩) hS.2.2 dX1_open_47
        · obtain rfl : r_24 = -1 := by rw [hw_24]; simp [ps_r, h60]
          refine lv_istore_n (lv' := [(2, .int (-1)), (0, .ref h0), (1, .int x)]) hx hb dX1_open_27 rfl hl (by decide) rfl (fun ls hl => ?_)
          refine lv_aload_n hx hb dX1_open_28 rfl (lv_at hl 1 rfl) ?_
          refine lv_dup hx hb dX1_open_29 rfl ?_
          refine va_get (D := (dC, dI)) (ci := 0) (v := .int (nI (ps_dp so n))) (C := RX1) (T := TX1) (N := 17) hx hb hts in_X1 hown hK hP 0 rfl rfl 2 (by decide) (hts _ q28) (fun _ h9 => h9) rfl dX1_open_30 ?_
          refine lv_iload_n hx hb dX1_open_33 rfl (lv_at hl 0 rfl) ?_
          refine lv_if_ge (tgt := 41) hx hb dX1_open_34 (by decide) (fun c_34 => absurd c_34 (by decide)) (fun c_34 => ?_)
          refine lv_iconst (v := 0) hx hb dX1_open_37 (by decide) ?_
          refine lv_goto (tgt := 42) hx hb dX1_open_38 (by decide) ?_
          refine lv_iadd hx hb dX1_open_42 ?_
          rw [show (nI (ps_dp so n)) + 0 = nI (ps_dp so n) from Int32.add_zero _]
          refine va_put (D := (dC, dI)) (ci := 0) (v := .int (nI (ps_dp so n))) (ty := .int) (C := RX1) (T := TX1) (N := 17) hx hb hts in_X1 tyX1 tyX1_ok nmX1 hown hK hP hD hS 0 rfl rfl 2 (by decide) (hts _ q28) (fun _ h9 => h9) rfl (by decide +kernel) rfl rfl (Nat.le_of_ble_eq_true rfl) dX1_open_43 (fun H locs hP hD hS => ?_)
          have hP : va_P (dC, dI) vwCl (wX h0 qa cI cZ pw (nI (ps_n (decide (n < 60)) n)) (nI (ps_dp so n)) (ps_u (decide (n < 60)) n so 2) (ps_u (decide (n < 60)) n si x) (ps_z (decide (n < 60)) mb) re st sk wa (ps_z (decide (n < 60)) lb) ro co fl ma lr gc) H := hP
          have hD : va_D A (wX h0 qa cI cZ pw (nI (ps_n (decide (n < 60)) n)) (nI (ps_dp so n)) (ps_u (decide (n < 60)) n so 2) (ps_u (decide (n < 60)) n si x) (ps_z (decide (n < 60)) mb) re st sk wa (ps_z (decide (n < 60)) lb) ro co fl ma lr gc) := hD
          refine lv_iload_n hx hb dX1_open_46 rfl (lv_at hl 0 rfl) ?_
          exact W.iret (v := -1) hx hb hr (fun t ht hW => ⟨⟨-1, (nI (ps_dp so n), ps_u (decide (n < 60)) n si x, ps_z (decide (n < 60)) mb, re, st, sk, wa, ps_z (decide (n < 60)) lb, ro, co, fl, ma, lr, gc), rfl, ⟨hw_24, ps_XI_add hI rfl (by rw [if_neg (by decide)]) (Or.inr (Or.inr (Or.inl rfl))) (fun h => absurd h (by decide)) (fun _ => hlt) (by rw [ps_dp_2, if_neg (by simp [h60])])⟩, by rw [ht]; exact hP, va_K.moved hW.alike hK, hD⟩, hS.F ht⟩) hS.2.2 dX1_open_47
      · have hge : ¬ ps_dp so n < 12 := fun z => c_16 ((nI_ltI (a := ps_dp so n) (b := 12) (by omega) (by omega)).mpr z)
        obtain rfl : b = false := by rw [hbb]; simp [hge]
        refine lv_iconst (v := -1) hx hb dX1_open_19 (by decide) ?_
        exact W.iret (v := (-1)) hx hb hr (fun t ht hW => ⟨⟨(-1), (nI (ps_dp so n), si, mb, re, st, sk, wa, lb, ro, co, fl, ma, lr, gc), rfl, ⟨rfl, hI⟩, by rw [ht]; exact hP, va_K.moved hW.alike hK, hD⟩, hS.F ht⟩) hS.2.2 dX1_open_20
set_option maxHeartbeats 4000000 in
set_option maxRecDepth 100000 in
/-- close() -/
theorem mX_close (l : Launch) (dC : Nat → ClassId) (dI : Nat → Nat → Nat) (cI cZ : ClassId) (h0 sz : Nat) (qa : Nat → Nat) (pw : Int32) (n : Nat) (un : Int32) (so si : Nat → Int32) (mb : Int32) (re st sk wa : Nat → Int32) (lb : Int32) (ro co fl ma : Nat → Int32) (lr gc : Int32) (a : Nat → Int32) (b : Bool) (hI : ps_XI n so a pw un si mb re lb ro co fl lr gc) (hbb : b = decide (0 < ps_dp so n ∧ n < 60)) : Met l yX1_close (ws_ yX1_close cX1_close 2 (some .int)) ({ frames := 1, cells := 0, slots := 0, locals := 22 }) (va_Pc [.ref h0] (preW dC dI cI cZ sz (wX h0 qa cI cZ pw (nI n) un so si mb re st sk wa lb ro co fl ma lr gc))) (va_Qi (fun (r : Int32) (u : SX) => r = ps_r b n ∧ ps_XIt (ps_n b n) (ps_u b n so 3) (ps_u b n a 0) pw u) (fun u t => posW dC dI cI cZ (va_A (wX h0 qa cI cZ pw (nI n) un so si mb re st sk wa lb ro co fl ma lr gc) sz) (wXt h0 qa cI cZ pw (ps_n b n) (ps_u b n so 3) u) t) (va_A (wX h0 qa cI cZ pw (nI n) un so si mb re st sk wa lb ro co fl ma lr gc) sz)) 0 0 (va_A (wX h0 qa cI cZ pw (nI n) un so si mb re st sk wa lb ro co fl ma lr gc) sz) := by
  refine Met.ofW (cc := cX1_close) (maxL := 2) (ret := (some .int)) (by decide) rfl ?_
  intro p e s m args below meth c s₁ B hml hv
  obtain ⟨rfl, hsz, hP, hK, hD0⟩ := hv
  have hx := B.exec
  have hb := B.bytes
  have hr := B.returns
  have hts := atoms_spec (ws := ws_ yX1_close cX1_close 2 (some .int)) B.pre
  have hts : ∀ w ∈ lw_all, w.before _ s = true := fun w h => hts w (List.mem_cons_of_mem _ h)
  have hown : s.vm.findClass RX1 = some m.cls := findClass_of_methodNamed B.named
  have hlocks := B.notSynchronized
  subst hsz
  have hD := hD0.self (sz := s.heap.size)
  generalize hAe : va_A (wX h0 qa cI cZ pw (nI n) un so si mb re st sk wa lb ro co fl ma lr gc) s.heap.size = A at hD ⊢
  have hA : ∀ q : Nat, s.heap.size ≤ q → A q := fun q h => by rw [← hAe]; exact Or.inr h
  have hS : va_S A s.heap s.heap [] := va_S.rf
  have hl := lv_entry ([.ref h0]) (n := 2) (Nat.le_of_ble_eq_true rfl)
  rw [lg_entry_eq]
  generalize (lg_sl ([.ref h0]) ++ List.replicate (2 - (lg_sl ([.ref h0])).length) Slot.unset).toArray = ls at hl ⊢
  have hl : lv_has ls 2 [(0, .ref h0)] := hl
  have hun := hI.2.1
  subst hun
  have hn60 := hI.1.1
  have hd12 := hI.1.2.2.2 n (Nat.le_refl n)
  refine lv_aload_n hx hb dX1_close_0 rfl (lv_at hl 0 rfl) ?_
  refine va_get (D := (dC, dI)) (ci := 0) (v := .int (nI (ps_dp so n))) (C := RX1) (T := TX1) (N := 17) hx hb hts in_X1 hown hK hP 0 rfl rfl 2 (by decide) (hts _ q28) (fun _ h9 => h9) rfl dX1_close_1 ?_
  refine lv_if_ne (tgt := 9) hx hb dX1_close_4 (by decide) (fun c_4 => ?_) (fun c_4 => ?_)
  · have hd0 : 0 < ps_dp so n := by
      rcases Nat.eq_zero_or_pos (ps_dp so n) with z | z
      · exact absurd (by rw [z]; exact nI_0) c_4
      · exact z
    obtain rfl : b = decide (n < 60) := by rw [hbb]; simp only [hd0, true_and]
    refine lv_aload_n hx hb dX1_close_9 rfl (lv_at hl 0 rfl) ?_
    refine lv_iconst (v := 3) hx hb dX1_close_10 (by decide) ?_
    refine lv_iconst (v := 0) hx hb dX1_close_11 (by decide) ?_
    refine zc_i (As := [.int 3, .int 0]) (rest := []) ⟨hx, hb, hml, hown, hts⟩ (mX_addPiece l dC dI cI cZ h0 s.heap.size qa pw n (nI (ps_dp so n)) so si mb re st sk wa lb ro co fl ma lr gc 3 0 hI.1.1) (cwV 2 hts (lw_V q84 q86 qs0 q12 q87) rfl rfl rfl (by decide +kernel) ⟨Nat.le_of_ble_eq_true rfl, Nat.le_of_ble_eq_true rfl⟩) (ci := 0) rfl rfl hK hP hD hS hA rfl hl.1 rfl (Nat.le_of_ble_eq_true rfl) dX1_close_12 ⟨Nat.zero_le _, Nat.zero_le _⟩ (fun r_12 u_12 H locs hw_12 hP hD hS => ?_)
    have hP : va_P (dC, dI) vwCl (wX h0 qa cI cZ pw (nI (ps_n (decide (n < 60)) n)) (nI (ps_dp so n)) (ps_u (decide (n < 60)) n so 3) (ps_u (decide (n < 60)) n si 0) (ps_z (decide (n < 60)) mb) re st sk wa (ps_z (decide (n < 60)) lb) ro co fl ma lr gc) H := hP
    have hD : va_D A (wX h0 qa cI cZ pw (nI (ps_n (decide (n < 60)) n)) (nI (ps_dp so n)) (ps_u (decide (n < 60)) n so 3) (ps_u (decide (n < 60)) n si 0) (ps_z (decide (n < 60)) mb) re st sk wa (ps_z (decide (n < 60)) lb) ro co fl ma lr gc) := hD
    by_cases h60 : n < 60
    · obtain rfl : r_12 = nI (n + 1) := by rw [hw_12]; simp [ps_r, h60]
      refine lv_istore_n (lv' := [(1, .int (nI (n + 1))), (0, .ref h0)]) hx hb dX1_close_15 rfl hl (by decide) rfl (fun ls hl => ?_)
      refine lv_aload_n hx hb dX1_close_16 rfl (lv_at hl 1 rfl) ?_
      refine lv_dup hx hb dX1_close_17 rfl ?_
      refine va_get (D := (dC, dI)) (ci := 0) (v := .int (nI (ps_dp so n))) (C := RX1) (T := TX1) (N := 17) hx hb hts in_X1 hown hK hP 0 rfl rfl 2 (by decide) (hts _ q28) (fun _ h9 => h9) rfl dX1_close_18 ?_
      refine lv_iload_n hx hb dX1_close_21 rfl (lv_at hl 0 rfl) ?_
      refine lv_if_ge (tgt := 29) hx hb dX1_close_22 (by decide) (fun c_22 => ?_) (fun c_22 => absurd (nI_pos' (by omega)) c_22)
      refine lv_iconst (v := 1) hx hb dX1_close_29 (by decide) ?_
      refine lv_isub hx hb dX1_close_30 ?_
      rw [show (nI (ps_dp so n)) - 1 = nI (ps_dp so n - 1) from ps_s1 hd0]
      refine va_put (D := (dC, dI)) (ci := 0) (v := .int (nI (ps_dp so n - 1))) (ty := .int) (C := RX1) (T := TX1) (N := 17) hx hb hts in_X1 tyX1 tyX1_ok nmX1 hown hK hP hD hS 0 rfl rfl 2 (by decide) (hts _ q28) (fun _ h9 => h9) rfl (by decide +kernel) rfl rfl (Nat.le_of_ble_eq_true rfl) dX1_close_31 (fun H locs hP hD hS => ?_)
      have hP : va_P (dC, dI) vwCl (wX h0 qa cI cZ pw (nI (ps_n (decide (n < 60)) n)) (nI (ps_dp so n - 1)) (ps_u (decide (n < 60)) n so 3) (ps_u (decide (n < 60)) n si 0) (ps_z (decide (n < 60)) mb) re st sk wa (ps_z (decide (n < 60)) lb) ro co fl ma lr gc) H := hP
      have hD : va_D A (wX h0 qa cI cZ pw (nI (ps_n (decide (n < 60)) n)) (nI (ps_dp so n - 1)) (ps_u (decide (n < 60)) n so 3) (ps_u (decide (n < 60)) n si 0) (ps_z (decide (n < 60)) mb) re st sk wa (ps_z (decide (n < 60)) lb) ro co fl ma lr gc) := hD
      refine lv_iload_n hx hb dX1_close_34 rfl (lv_at hl 0 rfl) ?_
      exact W.iret (v := nI (n + 1)) hx hb hr (fun t ht hW => ⟨⟨nI (n + 1), (nI (ps_dp so n - 1), ps_u (decide (n < 60)) n si 0, ps_z (decide (n < 60)) mb, re, st, sk, wa, ps_z (decide (n < 60)) lb, ro, co, fl, ma, lr, gc), rfl, ⟨hw_12, ps_XI_add hI rfl (by rw [if_neg (by decide)]) (Or.inr (Or.inr (Or.inr rfl))) (fun _ => hd0) (fun h => absurd h (by decide)) (by rw [ps_dp_3, if_pos (decide_eq_true h60)])⟩, by rw [ht]; exact hP, va_K.moved hW.alike hK, hD⟩, hS.F ht⟩) hS.2.2 dX1_close_35
    · obtain rfl : r_12 = -1 := by rw [hw_12]; simp [ps_r, h60]
      refine lv_istore_n (lv' := [(1, .int (-1)), (0, .ref h0)]) hx hb dX1_close_15 rfl hl (by decide) rfl (fun ls hl => ?_)
      refine lv_aload_n hx hb dX1_close_16 rfl (lv_at hl 1 rfl) ?_
      refine lv_dup hx hb dX1_close_17 rfl ?_
      refine va_get (D := (dC, dI)) (ci := 0) (v := .int (nI (ps_dp so n))) (C := RX1) (T := TX1) (N := 17) hx hb hts in_X1 hown hK hP 0 rfl rfl 2 (by decide) (hts _ q28) (fun _ h9 => h9) rfl dX1_close_18 ?_
      refine lv_iload_n hx hb dX1_close_21 rfl (lv_at hl 0 rfl) ?_
      refine lv_if_ge (tgt := 29) hx hb dX1_close_22 (by decide) (fun c_22 => absurd c_22 (by decide)) (fun c_22 => ?_)
      refine lv_iconst (v := 0) hx hb dX1_close_25 (by decide) ?_
      refine lv_goto (tgt := 30) hx hb dX1_close_26 (by decide) ?_
      refine lv_isub hx hb dX1_close_30 ?_
      rw [show (nI (ps_dp so n)) - 0 = nI (ps_dp so n) from Int32.sub_zero _]
      refine va_put (D := (dC, dI)) (ci := 0) (v := .int (nI (ps_dp so n))) (ty := .int) (C := RX1) (T := TX1) (N := 17) hx hb hts in_X1 tyX1 tyX1_ok nmX1 hown hK hP hD hS 0 rfl rfl 2 (by decide) (hts _ q28) (fun _ h9 => h9) rfl (by decide +kernel) rfl rfl (Nat.le_of_ble_eq_true rfl) dX1_close_31 (fun H locs hP hD hS => ?_)
      have hP : va_P (dC, dI) vwCl (wX h0 qa cI cZ pw (nI (ps_n (decide (n < 60)) n)) (nI (ps_dp so n)) (ps_u (decide (n < 60)) n so 3) (ps_u (decide (n < 60)) n si 0) (ps_z (decide (n < 60)) mb) re st sk wa (ps_z (decide (n < 60)) lb) ro co fl ma lr gc) H := hP
      have hD : va_D A (wX h0 qa cI cZ pw (nI (ps_n (decide (n < 60)) n)) (nI (ps_dp so n)) (ps_u (decide (n < 60)) n so 3) (ps_u (decide (n < 60)) n si 0) (ps_z (decide (n < 60)) mb) re st sk wa (ps_z (decide (n < 60)) lb) ro co fl ma lr gc) := hD
      refine lv_iload_n hx hb dX1_close_34 rfl (lv_at hl 0 rfl) ?_
      exact W.iret (v := -1) hx hb hr (fun t ht hW => ⟨⟨-1, (nI (ps_dp so n), ps_u (decide (n < 60)) n si 0, ps_z (decide (n < 60)) mb, re, st, sk, wa, ps_z (decide (n < 60)) lb, ro, co, fl, ma, lr, gc), rfl, ⟨hw_12, ps_XI_add hI rfl (by rw [if_neg (by decide)]) (Or.inr (Or.inr (Or.inr rfl))) (fun _ => hd0) (fun h => absurd h (by decide)) (by rw [ps_dp_3, if_neg (by simp [h60])])⟩, by rw [ht]; exact hP, va_K.moved hW.alike hK, hD⟩, hS.F ht⟩) hS.2.2 dX1_close_35
  · have hz : ps_dp so n = 0 := (nI_eq (a := ps_dp so n) (b := 0) (by omega) (by omega)).mp c_4
    obtain rfl : b = false := by rw [hbb]; simp [hz]
    refine lv_iconst (v := -1) hx hb dX1_close_7 (by decide) ?_
    exact W.iret (v := (-1)) hx hb hr (fun t ht hW => ⟨⟨(-1), (nI (ps_dp so n), si, mb, re, st, sk, wa, lb, ro, co, fl, ma, lr, gc), rfl, ⟨rfl, hI⟩, by rw [ht]; exact hP, va_K.moved hW.alike hK, hD⟩, hS.F ht⟩) hS.2.2 dX1_close_8
set_option maxHeartbeats 4000000 in
set_option maxRecDepth 100000 in
/-- prepare() -/
theorem mX_prepare (l : Launch) (dC : Nat → ClassId) (dI : Nat → Nat → Nat) (cI cZ : ClassId) (h0 sz : Nat) (qa : Nat → Nat) (pw : Int32) (n : Nat) (un : Int32) (so si : Nat → Int32) (mb : Int32) (re st sk wa : Nat → Int32) (lb : Int32) (ro co fl ma : Nat → Int32) (lr gc : Int32) (a : Nat → Int32) (hI : ps_XI n so a pw un si mb re lb ro co fl lr gc) : Met l yX1_prepare (ws_ yX1_prepare cX1_prepare 1 none) ({ frames := 2, cells := 0, slots := 0, locals := 47 }) (va_Pc [.ref h0] (preW dC dI cI cZ sz (wX h0 qa cI cZ pw (nI n) un so si mb re st sk wa lb ro co fl ma lr gc))) (va_Qv (fun u : SX => ps_XIt n so a pw u ∧ ps_la n so a pw u.2.2.2.2.2.2.2.2.2.2.2.2.1 u.2.2.2.2.2.2.2.2.2.2.2.2.2 u.2.2.2.2.2.2.2.2.1 u.2.2.2.2.2.2.2.2.2.1 u.2.2.2.2.2.2.2.2.2.2.1) (fun u t => posW dC dI cI cZ (va_A (wX h0 qa cI cZ pw (nI n) un so si mb re st sk wa lb ro co fl ma lr gc) sz) (wXt h0 qa cI cZ pw n so u) t) (va_A (wX h0 qa cI cZ pw (nI n) un so si mb re st sk wa lb ro co fl ma lr gc) sz)) 0 0 (va_A (wX h0 qa cI cZ pw (nI n) un so si mb re st sk wa lb ro co fl ma lr gc) sz) := by
  refine Met.ofW (cc := cX1_prepare) (maxL := 1) (ret := none) (by decide) rfl ?_
  intro p e s m args below meth c s₁ B hml hv
  obtain ⟨rfl, hsz, hP, hK, hD0⟩ := hv
  have hx := B.exec
  have hb := B.bytes
  have hr := B.returns
  have hts := atoms_spec (ws := ws_ yX1_prepare cX1_prepare 1 none) B.pre
  have hts : ∀ w ∈ lw_all, w.before _ s = true := fun w h => hts w (List.mem_cons_of_mem _ h)
  have hown : s.vm.findClass RX1 = some m.cls := findClass_of_methodNamed B.named
  have hlocks := B.notSynchronized
  subst hsz
  have hD := hD0.self (sz := s.heap.size)
  generalize hAe : va_A (wX h0 qa cI cZ pw (nI n) un so si mb re st sk wa lb ro co fl ma lr gc) s.heap.size = A at hD ⊢
  have hA : ∀ q : Nat, s.heap.size ≤ q → A q := fun q h => by rw [← hAe]; exact Or.inr h
  have hS : va_S A s.heap s.heap [] := va_S.rf
  have hl := lv_entry ([.ref h0]) (n := 1) (Nat.le_of_ble_eq_true rfl)
  rw [lg_entry_eq]
  generalize (lg_sl ([.ref h0]) ++ List.replicate (1 - (lg_sl ([.ref h0])).length) Slot.unset).toArray = ls at hl ⊢
  have hl : lv_has ls 1 [(0, .ref h0)] := hl
  obtain ⟨hok, hun, hsi, hm, hlb⟩ := id hI
  rcases hlb with rfl | ⟨rfl, hlb⟩
  · refine lv_aload_n hx hb dX1_prepare_0 rfl (lv_at hl 0 rfl) ?_
    refine va_get (D := (dC, dI)) (ci := 0) (v := .int 0) (C := RX1) (T := TX1) (N := 17) hx hb hts in_X1 hown hK hP 0 rfl rfl 10 (by decide) (hts _ q36) (fun _ h9 => h9) rfl dX1_prepare_1 ?_
    refine lv_if_ne (tgt := 24) hx hb dX1_prepare_4 (by decide) (fun c_4 => absurd rfl c_4) (fun c_4 => ?_)
    refine lv_aload_n hx hb dX1_prepare_7 rfl (lv_at hl 0 rfl) ?_
    refine zc_v (As := []) (rest := []) ⟨hx, hb, hml, hown, hts⟩ (mX_measure l dC dI cI cZ h0 s.heap.size qa pw n un so si mb re st sk wa 0 ro co fl ma lr gc a hok hsi hm) (cwV 0 hts (lw_V q109 q111 qs2 q12 q112) rfl rfl rfl (by decide +kernel) ⟨Nat.le_of_ble_eq_true rfl, Nat.le_of_ble_eq_true rfl⟩) (ci := 0) rfl rfl hK hP hD hS hA rfl hl.1 rfl (Nat.le_of_ble_eq_true rfl) dX1_prepare_8 ⟨Nat.zero_le _, Nat.zero_le _⟩ (fun u_8 H locs hw_8 hP hD hS => ?_)
    obtain ⟨re1, st1, sk1, wa1⟩ := u_8
    have hP : va_P (dC, dI) vwCl (wX h0 qa cI cZ pw (nI n) un so si 1 re1 st1 sk1 wa1 0 ro co fl ma lr gc) H := hP
    have hD : va_D A (wX h0 qa cI cZ pw (nI n) un so si 1 re1 st1 sk1 wa1 0 ro co fl ma lr gc) := hD
    refine lv_aload_n hx hb dX1_prepare_11 rfl (lv_at hl 0 rfl) ?_
    refine lv_aload_n hx hb dX1_prepare_12 rfl (lv_at hl 0 rfl) ?_
    refine va_get (D := (dC, dI)) (ci := 0) (v := .int pw) (C := RX1) (T := TX1) (N := 17) hx hb hts in_X1 hown hK hP 0 rfl rfl 0 (by decide) (hts _ q26) (fun _ h9 => h9) rfl dX1_prepare_13 ?_
    refine zc_v (As := [.int pw]) (rest := []) ⟨hx, hb, hml, hown, hts⟩ (mX_layOut l dC dI cI cZ h0 H.size qa pw n un so si 1 re1 st1 sk1 wa1 0 ro co fl ma lr gc a pw hok hsi hw_8) (cwV 1 hts (lw_V q117 q119 qs4 q12 q120) rfl rfl rfl (by decide +kernel) ⟨Nat.le_of_ble_eq_true rfl, Nat.le_of_ble_eq_true rfl⟩) (ci := 0) rfl rfl hK hP hD hS hA rfl hl.1 rfl (Nat.le_of_ble_eq_true rfl) dX1_prepare_16 ⟨Nat.zero_le _, Nat.zero_le _⟩ (fun u_16 H locs hw_16 hP hD hS => ?_)
    obtain ⟨sk2, ro2, co2, fl2, ma2, lr2, gc2⟩ := u_16
    have hP : va_P (dC, dI) vwCl (wX h0 qa cI cZ pw (nI n) un so si 1 re1 st1 sk2 wa1 0 ro2 co2 fl2 ma2 lr2 gc2) H := hP
    have hD : va_D A (wX h0 qa cI cZ pw (nI n) un so si 1 re1 st1 sk2 wa1 0 ro2 co2 fl2 ma2 lr2 gc2) := hD
    refine lv_aload_n hx hb dX1_prepare_19 rfl (lv_at hl 0 rfl) ?_
    refine lv_iconst (v := 1) hx hb dX1_prepare_20 (by decide) ?_
    refine va_put (D := (dC, dI)) (ci := 0) (v := .int 1) (ty := .boolean) (C := RX1) (T := TX1) (N := 17) hx hb hts in_X1 tyX1 tyX1_ok nmX1 hown hK hP hD hS 0 rfl rfl 10 (by decide) (hts _ q36) (fun _ h9 => h9) rfl (by decide +kernel) rfl rfl (Nat.le_of_ble_eq_true rfl) dX1_prepare_21 (fun H locs hP hD hS => ?_)
    have hP : va_P (dC, dI) vwCl (wX h0 qa cI cZ pw (nI n) un so si 1 re1 st1 sk2 wa1 1 ro2 co2 fl2 ma2 lr2 gc2) H := hP
    have hD : va_D A (wX h0 qa cI cZ pw (nI n) un so si 1 re1 st1 sk2 wa1 1 ro2 co2 fl2 ma2 lr2 gc2) := hD
    exact W.vret hx hb hr (fun t ht hW => ⟨⟨(un, si, 1, re1, st1, sk2, wa1, 1, ro2, co2, fl2, ma2, lr2, gc2), rfl, ⟨⟨hok, hun, hsi, Or.inr ⟨rfl, hw_8⟩, Or.inr ⟨rfl, hw_16⟩⟩, hw_16⟩, by rw [ht]; exact hP, va_K.moved hW.alike hK, hD⟩, hS.F ht⟩) hS.2.2 dX1_prepare_24
  · refine lv_aload_n hx hb dX1_prepare_0 rfl (lv_at hl 0 rfl) ?_
    refine va_get (D := (dC, dI)) (ci := 0) (v := .int 1) (C := RX1) (T := TX1) (N := 17) hx hb hts in_X1 hown hK hP 0 rfl rfl 10 (by decide) (hts _ q36) (fun _ h9 => h9) rfl dX1_prepare_1 ?_
    refine lv_if_ne (tgt := 24) hx hb dX1_prepare_4 (by decide) (fun c_4 => ?_) (fun c_4 => absurd c_4 (by decide))
    exact W.vret hx hb hr (fun t ht hW => ⟨⟨(un, si, mb, re, st, sk, wa, 1, ro, co, fl, ma, lr, gc), rfl, ⟨hI, hlb⟩, by rw [ht]; exact hP, va_K.moved hW.alike hK, hD⟩, hS.F ht⟩) hS.2.2 dX1_prepare_24
set_option maxHeartbeats 4000000 in
set_option maxRecDepth 100000 in
/-- row(x) -/
theorem mX_row (l : Launch) (dC : Nat → ClassId) (dI : Nat → Nat → Nat) (cI cZ : ClassId) (h0 sz : Nat) (qa : Nat → Nat) (pw : Int32) (n : Nat) (un : Int32) (so si : Nat → Int32) (mb : Int32) (re st sk wa : Nat → Int32) (lb : Int32) (ro co fl ma : Nat → Int32) (lr gc : Int32) (a : Nat → Int32) (x : Int32) (hI : ps_XI n so a pw un si mb re lb ro co fl lr gc) : Met l yX1_row (ws_ yX1_row cX1_row 2 (some .int)) ({ frames := 3, cells := 0, slots := 0, locals := 67 }) (va_Pc [.ref h0, .int x] (preW dC dI cI cZ sz (wX h0 qa cI cZ pw (nI n) un so si mb re st sk wa lb ro co fl ma lr gc))) (va_Qi (fun (r : Int32) (u : SX) => r = ps_q n x (ps_R so a n pw) ∧ ps_XIt n so a pw u) (fun u t => posW dC dI cI cZ (va_A (wX h0 qa cI cZ pw (nI n) un so si mb re st sk wa lb ro co fl ma lr gc) sz) (wXt h0 qa cI cZ pw n so u) t) (va_A (wX h0 qa cI cZ pw (nI n) un so si mb re st sk wa lb ro co fl ma lr gc) sz)) 0 0 (va_A (wX h0 qa cI cZ pw (nI n) un so si mb re st sk wa lb ro co fl ma lr gc) sz) := by
  refine Met.ofW (cc := cX1_row) (maxL := 2) (ret := (some .int)) (by decide) rfl ?_
  intro p e s m args below meth c s₁ B hml hv
  obtain ⟨rfl, hsz, hP, hK, hD0⟩ := hv
  have hx := B.exec
  have hb := B.bytes
  have hr := B.returns
  have hts := atoms_spec (ws := ws_ yX1_row cX1_row 2 (some .int)) B.pre
  have hts : ∀ w ∈ lw_all, w.before _ s = true := fun w h => hts w (List.mem_cons_of_mem _ h)
  have hown : s.vm.findClass RX1 = some m.cls := findClass_of_methodNamed B.named
  have hlocks := B.notSynchronized
  subst hsz
  have hD := hD0.self (sz := s.heap.size)
  generalize hAe : va_A (wX h0 qa cI cZ pw (nI n) un so si mb re st sk wa lb ro co fl ma lr gc) s.heap.size = A at hD ⊢
  have hA : ∀ q : Nat, s.heap.size ≤ q → A q := fun q h => by rw [← hAe]; exact Or.inr h
  have hS : va_S A s.heap s.heap [] := va_S.rf
  have hl := lv_entry ([.ref h0, .int x]) (n := 2) (Nat.le_of_ble_eq_true rfl)
  rw [lg_entry_eq]
  generalize (lg_sl ([.ref h0, .int x]) ++ List.replicate (2 - (lg_sl ([.ref h0, .int x])).length) Slot.unset).toArray = ls at hl ⊢
  have hl : lv_has ls 2 [(0, .ref h0), (1, .int x)] := hl
  have hn60 := hI.1.1
  refine lv_iload_n hx hb dX1_row_0 rfl (lv_at hl 1 rfl) ?_
  refine lv_if_lt (tgt := 12) hx hb dX1_row_1 (by decide) (fun c_1 => ?_) (fun c_1 => ?_)
  · refine lv_iconst (v := -1) hx hb dX1_row_12 (by decide) ?_
    exact W.iret (v := (-1)) hx hb hr (fun t ht hW => ⟨⟨(-1), (un, si, mb, re, st, sk, wa, lb, ro, co, fl, ma, lr, gc), rfl, ⟨(ps_q_no (Or.inl c_1)).symm, hI⟩, by rw [ht]; exact hP, va_K.moved hW.alike hK, hD⟩, hS.F ht⟩) hS.2.2 dX1_row_13
  · refine lv_iload_n hx hb dX1_row_4 rfl (lv_at hl 1 rfl) ?_
    refine lv_aload_n hx hb dX1_row_5 rfl (lv_at hl 0 rfl) ?_
    refine va_get (D := (dC, dI)) (ci := 0) (v := .int (nI n)) (C := RX1) (T := TX1) (N := 17) hx hb hts in_X1 hown hK hP 0 rfl rfl 1 (by decide) (hts _ q27) (fun _ h9 => h9) rfl dX1_row_6 ?_
    refine lv_icmp_lt (tgt := 14) hx hb dX1_row_9 (by decide) (fun c_9 => ?_) (fun c_9 => ?_)
    · obtain ⟨j, hj, rfl⟩ : ∃ j : Nat, j < n ∧ x = nI j := by
        rcases pk_ix x (n := n) (by omega) with z | z | z
        · exact absurd z c_1
        · exact absurd z (Int32.not_le.mpr c_9)
        · exact z
      refine lv_aload_n hx hb dX1_row_14 rfl (lv_at hl 0 rfl) ?_
      refine zc_v (As := []) (rest := []) ⟨hx, hb, hml, hown, hts⟩ (mX_prepare l dC dI cI cZ h0 s.heap.size qa pw n un so si mb re st sk wa lb ro co fl ma lr gc a hI) (cwV 0 hts (lw_V q105 q107 qs1 q12 q108) rfl rfl rfl (by decide +kernel) ⟨Nat.le_of_ble_eq_true rfl, Nat.le_of_ble_eq_true rfl⟩) (ci := 0) rfl rfl hK hP hD hS hA rfl hl.1 rfl (Nat.le_of_ble_eq_true rfl) dX1_row_15 ⟨Nat.zero_le _, Nat.zero_le _⟩ (fun u_15 H locs hw_15 hP hD hS => ?_)
      obtain ⟨un2, si2, mb2, re2, st2, sk2, wa2, lb2, ro2, co2, fl2, ma2, lr2, gc2⟩ := u_15
      obtain ⟨hI2, hla⟩ := hw_15
      have hP : va_P (dC, dI) vwCl (wX h0 qa cI cZ pw (nI n) un2 so si2 mb2 re2 st2 sk2 wa2 lb2 ro2 co2 fl2 ma2 lr2 gc2) H := hP
      have hD : va_D A (wX h0 qa cI cZ pw (nI n) un2 so si2 mb2 re2 st2 sk2 wa2 lb2 ro2 co2 fl2 ma2 lr2 gc2) := hD
      refine lv_aload_n hx hb dX1_row_18 rfl (lv_at hl 0 rfl) ?_
      refine va_get (D := (dC, dI)) (ci := 0) (v := .ref (qa 6)) (C := RX1) (T := TX1) (N := 17) hx hb hts in_X1 hown hK hP 0 rfl rfl 11 (by decide) (hts _ q37) (fun _ h9 => h9) rfl dX1_row_19 ?_
      refine lv_iload_n hx hb dX1_row_22 rfl (lv_at hl 1 rfl) ?_
      refine zi_ald (v := ps_R so a n pw j) hx hb hK hP 7 0 rfl rfl (by omega) (by decide) ((hla.2.2 j hj).1) dX1_row_23 ?_
      exact W.iret (v := ps_R so a n pw j) hx hb hr (fun t ht hW => ⟨⟨ps_R so a n pw j, (un2, si2, mb2, re2, st2, sk2, wa2, lb2, ro2, co2, fl2, ma2, lr2, gc2), rfl, ⟨(ps_q_in hj hn60).symm, hI2⟩, by rw [ht]; exact hP, va_K.moved hW.alike hK, hD⟩, hS.F ht⟩) hS.2.2 dX1_row_24
    · refine lv_iconst (v := -1) hx hb dX1_row_12 (by decide) ?_
      exact W.iret (v := (-1)) hx hb hr (fun t ht hW => ⟨⟨(-1), (un, si, mb, re, st, sk, wa, lb, ro, co, fl, ma, lr, gc), rfl, ⟨(ps_q_no (Or.inr (Int32.not_lt.mp c_9))).symm, hI⟩, by rw [ht]; exact hP, va_K.moved hW.alike hK, hD⟩, hS.F ht⟩) hS.2.2 dX1_row_13
set_option maxHeartbeats 4000000 in
set_option maxRecDepth 100000 in
/-- column(x) -/
theorem mX_column (l : Launch) (dC : Nat → ClassId) (dI : Nat → Nat → Nat) (cI cZ : ClassId) (h0 sz : Nat) (qa : Nat → Nat) (pw : Int32) (n : Nat) (un : Int32) (so si : Nat → Int32) (mb : Int32) (re st sk wa : Nat → Int32) (lb : Int32) (ro co fl ma : Nat → Int32) (lr gc : Int32) (a : Nat → Int32) (x : Int32) (hI : ps_XI n so a pw un si mb re lb ro co fl lr gc) : Met l yX1_column (ws_ yX1_column cX1_column 2 (some .int)) ({ frames := 3, cells := 0, slots := 0, locals := 67 }) (va_Pc [.ref h0, .int x] (preW dC dI cI cZ sz (wX h0 qa cI cZ pw (nI n) un so si mb re st sk wa lb ro co fl ma lr gc))) (va_Qi (fun (r : Int32) (u : SX) => r = ps_q n x (ps_C so a n pw) ∧ ps_XIt n so a pw u) (fun u t => posW dC dI cI cZ (va_A (wX h0 qa cI cZ pw (nI n) un so si mb re st sk wa lb ro co fl ma lr gc) sz) (wXt h0 qa cI cZ pw n so u) t) (va_A (wX h0 qa cI cZ pw (nI n) un so si mb re st sk wa lb ro co fl ma lr gc) sz)) 0 0 (va_A (wX h0 qa cI cZ pw (nI n) un so si mb re st sk wa lb ro co fl ma lr gc) sz) := by
  refine Met.ofW (cc := cX1_column) (maxL := 2) (ret := (some .int)) (by decide) rfl ?_
  intro p e s m args below meth c s₁ B hml hv
  obtain ⟨rfl, hsz, hP, hK, hD0⟩ := hv
  have hx := B.exec
  have hb := B.bytes
  have hr := B.returns
  have hts := atoms_spec (ws := ws_ yX1_column cX1_column 2 (some .int)) B.pre
  have hts : ∀ w ∈ lw_all, w.before _ s = true := fun w h => hts w (List.mem_cons_of_mem _ h)
  have hown : s.vm.findClass RX1 = some m.cls := findClass_of_methodNamed B.named
  have hlocks := B.notSynchronized
  subst hsz
  have hD := hD0.self (sz := s.heap.size)
  generalize hAe : va_A (wX h0 qa cI cZ pw (nI n) un so si mb re st sk wa lb ro co fl ma lr gc) s.heap.size = A at hD ⊢
  have hA : ∀ q : Nat, s.heap.size ≤ q → A q := fun q h => by rw [← hAe]; exact Or.inr h
  have hS : va_S A s.heap s.heap [] := va_S.rf
  have hl := lv_entry ([.ref h0, .int x]) (n := 2) (Nat.le_of_ble_eq_true rfl)
  rw [lg_entry_eq]
  generalize (lg_sl ([.ref h0, .int x]) ++ List.replicate (2 - (lg_sl ([.ref h0, .int x])).length) Slot.unset).toArray = ls at hl ⊢
  have hl : lv_has ls 2 [(0, .ref h0), (1, .int x)] := hl
  have hn60 := hI.1.1
  refine lv_iload_n hx hb dX1_column_0 rfl (lv_at hl 1 rfl) ?_
  refine lv_if_lt (tgt := 12) hx hb dX1_column_1 (by decide) (fun c_1 => ?_) (fun c_1 => ?_)
  · refine lv_iconst (v := -1) hx hb dX1_column_12 (by decide) ?_
    exact W.iret (v := (-1)) hx hb hr (fun t ht hW => ⟨⟨(-1), (un, si, mb, re, st, sk, wa, lb, ro, co, fl, ma, lr, gc), rfl, ⟨(ps_q_no (Or.inl c_1)).symm, hI⟩, by rw [ht]; exact hP, va_K.moved hW.alike hK, hD⟩, hS.F ht⟩) hS.2.2 dX1_column_13
  · refine lv_iload_n hx hb dX1_column_4 rfl (lv_at hl 1 rfl) ?_
    refine lv_aload_n hx hb dX1_column_5 rfl (lv_at hl 0 rfl) ?_
    refine va_get (D := (dC, dI)) (ci := 0) (v := .int (nI n)) (C := RX1) (T := TX1) (N := 17) hx hb hts in_X1 hown hK hP 0 rfl rfl 1 (by decide) (hts _ q27) (fun _ h9 => h9) rfl dX1_column_6 ?_
    refine lv_icmp_lt (tgt := 14) hx hb dX1_column_9 (by decide) (fun c_9 => ?_) (fun c_9 => ?_)
    · obtain ⟨j, hj, rfl⟩ : ∃ j : Nat, j < n ∧ x = nI j := by
        rcases pk_ix x (n := n) (by omega) with z | z | z
        · exact absurd z c_1
        · exact absurd z (Int32.not_le.mpr c_9)
        · exact z
      refine lv_aload_n hx hb dX1_column_14 rfl (lv_at hl 0 rfl) ?_
      refine zc_v (As := []) (rest := []) ⟨hx, hb, hml, hown, hts⟩ (mX_prepare l dC dI cI cZ h0 s.heap.size qa pw n un so si mb re st sk wa lb ro co fl ma lr gc a hI) (cwV 0 hts (lw_V q105 q107 qs1 q12 q108) rfl rfl rfl (by decide +kernel) ⟨Nat.le_of_ble_eq_true rfl, Nat.le_of_ble_eq_true rfl⟩) (ci := 0) rfl rfl hK hP hD hS hA rfl hl.1 rfl (Nat.le_of_ble_eq_true rfl) dX1_column_15 ⟨Nat.zero_le _, Nat.zero_le _⟩ (fun u_15 H locs hw_15 hP hD hS => ?_)
      obtain ⟨un2, si2, mb2, re2, st2, sk2, wa2, lb2, ro2, co2, fl2, ma2, lr2, gc2⟩ := u_15
      obtain ⟨hI2, hla⟩ := hw_15
      have hP : va_P (dC, dI) vwCl (wX h0 qa cI cZ pw (nI n) un2 so si2 mb2 re2 st2 sk2 wa2 lb2 ro2 co2 fl2 ma2 lr2 gc2) H := hP
      have hD : va_D A (wX h0 qa cI cZ pw (nI n) un2 so si2 mb2 re2 st2 sk2 wa2 lb2 ro2 co2 fl2 ma2 lr2 gc2) := hD
      refine lv_aload_n hx hb dX1_column_18 rfl (lv_at hl 0 rfl) ?_
      refine va_get (D := (dC, dI)) (ci := 0) (v := .ref (qa 7)) (C := RX1) (T := TX1) (N := 17) hx hb hts in_X1 hown hK hP 0 rfl rfl 12 (by decide) (hts _ q38) (fun _ h9 => h9) rfl dX1_column_19 ?_
      refine lv_iload_n hx hb dX1_column_22 rfl (lv_at hl 1 rfl) ?_
      refine zi_ald (v := ps_C so a n pw j) hx hb hK hP 8 0 rfl rfl (by omega) (by decide) ((hla.2.2 j hj).2.1) dX1_column_23 ?_
      exact W.iret (v := ps_C so a n pw j) hx hb hr (fun t ht hW => ⟨⟨ps_C so a n pw j, (un2, si2, mb2, re2, st2, sk2, wa2, lb2, ro2, co2, fl2, ma2, lr2, gc2), rfl, ⟨(ps_q_in hj hn60).symm, hI2⟩, by rw [ht]; exact hP, va_K.moved hW.alike hK, hD⟩, hS.F ht⟩) hS.2.2 dX1_column_24
    · refine lv_iconst (v := -1) hx hb dX1_column_12 (by decide) ?_
      exact W.iret (v := (-1)) hx hb hr (fun t ht hW => ⟨⟨(-1), (un, si, mb, re, st, sk, wa, lb, ro, co, fl, ma, lr, gc), rfl, ⟨(ps_q_no (Or.inr (Int32.not_lt.mp c_9))).symm, hI⟩, by rw [ht]; exact hP, va_K.moved hW.alike hK, hD⟩, hS.F ht⟩) hS.2.2 dX1_column_13
set_option maxHeartbeats 4000000 in
set_option maxRecDepth 100000 in
/-- flat(x) -/
theorem mX_flat (l : Launch) (dC : Nat → ClassId) (dI : Nat → Nat → Nat) (cI cZ : ClassId) (h0 sz : Nat) (qa : Nat → Nat) (pw : Int32) (n : Nat) (un : Int32) (so si : Nat → Int32) (mb : Int32) (re st sk wa : Nat → Int32) (lb : Int32) (ro co fl ma : Nat → Int32) (lr gc : Int32) (a : Nat → Int32) (x : Int32) (hI : ps_XI n so a pw un si mb re lb ro co fl lr gc) : Met l yX1_flat (ws_ yX1_flat cX1_flat 2 (some .int)) ({ frames := 3, cells := 0, slots := 0, locals := 67 }) (va_Pc [.ref h0, .int x] (preW dC dI cI cZ sz (wX h0 qa cI cZ pw (nI n) un so si mb re st sk wa lb ro co fl ma lr gc))) (va_Qi (fun (r : Int32) (u : SX) => r = ps_q n x (fun j => if so j = 2 then ps_Z so a n pw j else -1) ∧ ps_XIt n so a pw u) (fun u t => posW dC dI cI cZ (va_A (wX h0 qa cI cZ pw (nI n) un so si mb re st sk wa lb ro co fl ma lr gc) sz) (wXt h0 qa cI cZ pw n so u) t) (va_A (wX h0 qa cI cZ pw (nI n) un so si mb re st sk wa lb ro co fl ma lr gc) sz)) 0 0 (va_A (wX h0 qa cI cZ pw (nI n) un so si mb re st sk wa lb ro co fl ma lr gc) sz) := by
  refine Met.ofW (cc := cX1_flat) (maxL := 2) (ret := (some .int)) (by decide) rfl ?_
  intro p e s m args below meth c s₁ B hml hv
  obtain ⟨rfl, hsz, hP, hK, hD0⟩ := hv
  have hx := B.exec
  have hb := B.bytes
  have hr := B.returns
  have hts := atoms_spec (ws := ws_ yX1_flat cX1_flat 2 (some .int)) B.pre
  have hts : ∀ w ∈ lw_all, w.before _ s = true := fun w h => hts w (List.mem_cons_of_mem _ h)
  have hown : s.vm.findClass RX1 = some m.cls := findClass_of_methodNamed B.named
  have hlocks := B.notSynchronized
  subst hsz
  have hD := hD0.self (sz := s.heap.size)
  generalize hAe : va_A (wX h0 qa cI cZ pw (nI n) un so si mb re st sk wa lb ro co fl ma lr gc) s.heap.size = A at hD ⊢
  have hA : ∀ q : Nat, s.heap.size ≤ q → A q := fun q h => by rw [← hAe]; exact Or.inr h
  have hS : va_S A s.heap s.heap [] := va_S.rf
  have hl := lv_entry ([.ref h0, .int x]) (n := 2) (Nat.le_of_ble_eq_true rfl)
  rw [lg_entry_eq]
  generalize (lg_sl ([.ref h0, .int x]) ++ List.replicate (2 - (lg_sl ([.ref h0, .int x])).length) Slot.unset).toArray = ls at hl ⊢
  have hl : lv_has ls 2 [(0, .ref h0), (1, .int x)] := hl
  have hn60 := hI.1.1
  refine lv_iload_n hx hb dX1_flat_0 rfl (lv_at hl 1 rfl) ?_
  refine lv_if_lt (tgt := 22) hx hb dX1_flat_1 (by decide) (fun c_1 => ?_) (fun c_1 => ?_)
  · refine lv_iconst (v := -1) hx hb dX1_flat_22 (by decide) ?_
    exact W.iret (v := (-1)) hx hb hr (fun t ht hW => ⟨⟨(-1), (un, si, mb, re, st, sk, wa, lb, ro, co, fl, ma, lr, gc), rfl, ⟨(ps_q_no (Or.inl c_1)).symm, hI⟩, by rw [ht]; exact hP, va_K.moved hW.alike hK, hD⟩, hS.F ht⟩) hS.2.2 dX1_flat_23
  · refine lv_iload_n hx hb dX1_flat_4 rfl (lv_at hl 1 rfl) ?_
    refine lv_aload_n hx hb dX1_flat_5 rfl (lv_at hl 0 rfl) ?_
    refine va_get (D := (dC, dI)) (ci := 0) (v := .int (nI n)) (C := RX1) (T := TX1) (N := 17) hx hb hts in_X1 hown hK hP 0 rfl rfl 1 (by decide) (hts _ q27) (fun _ h9 => h9) rfl dX1_flat_6 ?_
    refine lv_icmp_ge (tgt := 22) hx hb dX1_flat_9 (by decide) (fun c_9 => ?_) (fun c_9 => ?_)
    · refine lv_iconst (v := -1) hx hb dX1_flat_22 (by decide) ?_
      exact W.iret (v := (-1)) hx hb hr (fun t ht hW => ⟨⟨(-1), (un, si, mb, re, st, sk, wa, lb, ro, co, fl, ma, lr, gc), rfl, ⟨(ps_q_no (Or.inr c_9)).symm, hI⟩, by rw [ht]; exact hP, va_K.moved hW.alike hK, hD⟩, hS.F ht⟩) hS.2.2 dX1_flat_23
    · obtain ⟨j, hj, rfl⟩ : ∃ j : Nat, j < n ∧ x = nI j := by
        rcases pk_ix x (n := n) (by omega) with z | z | z
        · exact absurd z c_1
        · exact absurd z c_9
        · exact z
      refine lv_aload_n hx hb dX1_flat_12 rfl (lv_at hl 0 rfl) ?_
      refine va_get (D := (dC, dI)) (ci := 0) (v := .ref (qa 0)) (C := RX1) (T := TX1) (N := 17) hx hb hts in_X1 hown hK hP 0 rfl rfl 3 (by decide) (hts _ q29) (fun _ h9 => h9) rfl dX1_flat_13 ?_
      refine lv_iload_n hx hb dX1_flat_16 rfl (lv_at hl 1 rfl) ?_
      refine zi_ald (v := so j) hx hb hK hP 1 0 rfl rfl (by omega) (by decide) (rfl) dX1_flat_17 ?_
      refine lv_iconst (v := 2) hx hb dX1_flat_18 (by decide) ?_
      refine lv_icmp_eq (tgt := 24) hx hb dX1_flat_19 (by decide) (fun c_19 => ?_) (fun c_19 => ?_)
      · refine lv_aload_n hx hb dX1_flat_24 rfl (lv_at hl 0 rfl) ?_
        refine zc_v (As := []) (rest := []) ⟨hx, hb, hml, hown, hts⟩ (mX_prepare l dC dI cI cZ h0 s.heap.size qa pw n un so si mb re st sk wa lb ro co fl ma lr gc a hI) (cwV 0 hts (lw_V q105 q107 qs1 q12 q108) rfl rfl rfl (by decide +kernel) ⟨Nat.le_of_ble_eq_true rfl, Nat.le_of_ble_eq_true rfl⟩) (ci := 0) rfl rfl hK hP hD hS hA rfl hl.1 rfl (Nat.le_of_ble_eq_true rfl) dX1_flat_25 ⟨Nat.zero_le _, Nat.zero_le _⟩ (fun u_25 H locs hw_25 hP hD hS => ?_)
        obtain ⟨un2, si2, mb2, re2, st2, sk2, wa2, lb2, ro2, co2, fl2, ma2, lr2, gc2⟩ := u_25
        obtain ⟨hI2, hla⟩ := hw_25
        have hP : va_P (dC, dI) vwCl (wX h0 qa cI cZ pw (nI n) un2 so si2 mb2 re2 st2 sk2 wa2 lb2 ro2 co2 fl2 ma2 lr2 gc2) H := hP
        have hD : va_D A (wX h0 qa cI cZ pw (nI n) un2 so si2 mb2 re2 st2 sk2 wa2 lb2 ro2 co2 fl2 ma2 lr2 gc2) := hD
        refine lv_aload_n hx hb dX1_flat_28 rfl (lv_at hl 0 rfl) ?_
        refine va_get (D := (dC, dI)) (ci := 0) (v := .ref (qa 8)) (C := RX1) (T := TX1) (N := 17) hx hb hts in_X1 hown hK hP 0 rfl rfl 13 (by decide) (hts _ q39) (fun _ h9 => h9) rfl dX1_flat_29 ?_
        refine lv_iload_n hx hb dX1_flat_32 rfl (lv_at hl 1 rfl) ?_
        refine zz_ald (v := ps_Z so a n pw j) hx hb hK hP 9 1 rfl rfl (by omega) (by decide) ((hla.2.2 j hj).2.2 c_19) dX1_flat_33 ?_
        refine lv_if_eq (tgt := 41) hx hb dX1_flat_34 (by decide) (fun c_34 => ?_) (fun c_34 => ?_)
        · refine lv_iconst (v := 0) hx hb dX1_flat_41 (by decide) ?_
          exact W.iret (v := 0) hx hb hr (fun t ht hW => ⟨⟨0, (un2, si2, mb2, re2, st2, sk2, wa2, lb2, ro2, co2, fl2, ma2, lr2, gc2), rfl, ⟨by rw [ps_q_in hj hn60, if_pos c_19, c_34], hI2⟩, by rw [ht]; exact hP, va_K.moved hW.alike hK, hD⟩, hS.F ht⟩) hS.2.2 dX1_flat_42
        · refine lv_iconst (v := 1) hx hb dX1_flat_37 (by decide) ?_
          refine lv_goto (tgt := 42) hx hb dX1_flat_38 (by decide) ?_
          exact W.iret (v := 1) hx hb hr (fun t ht hW => ⟨⟨1, (un2, si2, mb2, re2, st2, sk2, wa2, lb2, ro2, co2, fl2, ma2, lr2, gc2), rfl, ⟨by rw [ps_q_in hj hn60, if_pos c_19]; exact ((ps_en01 _ _ _ _ _).resolve_left c_34).symm, hI2⟩, by rw [ht]; exact hP, va_K.moved hW.alike hK, hD⟩, hS.F ht⟩) hS.2.2 dX1_flat_42
      · refine lv_iconst (v := -1) hx hb dX1_flat_22 (by decide) ?_
        exact W.iret (v := (-1)) hx hb hr (fun t ht hW => ⟨⟨(-1), (un, si, mb, re, st, sk, wa, lb, ro, co, fl, ma, lr, gc), rfl, ⟨by rw [ps_q_in hj hn60, if_neg c_19], hI⟩, by rw [ht]; exact hP, va_K.moved hW.alike hK, hD⟩, hS.F ht⟩) hS.2.2 dX1_flat_23
set_option maxHeartbeats 4000000 in
set_option maxRecDepth 100000 in
/-- rows() -/
theorem mX_rows (l : Launch) (dC : Nat → ClassId) (dI : Nat → Nat → Nat) (cI cZ : ClassId) (h0 sz : Nat) (qa : Nat → Nat) (pw : Int32) (n : Nat) (un : Int32) (so si : Nat → Int32) (mb : Int32) (re st sk wa : Nat → Int32) (lb : Int32) (ro co fl ma : Nat → Int32) (lr gc : Int32) (a : Nat → Int32) (hI : ps_XI n so a pw un si mb re lb ro co fl lr gc) : Met l yX1_rows (ws_ yX1_rows cX1_rows 1 (some .int)) ({ frames := 3, cells := 0, slots := 0, locals := 67 }) (va_Pc [.ref h0] (preW dC dI cI cZ sz (wX h0 qa cI cZ pw (nI n) un so si mb re st sk wa lb ro co fl ma lr gc))) (va_Qi (fun (r : Int32) (u : SX) => r = ps_R so a n pw n + 1 ∧ ps_XIt n so a pw u) (fun u t => posW dC dI cI cZ (va_A (wX h0 qa cI cZ pw (nI n) un so si mb re st sk wa lb ro co fl ma lr gc) sz) (wXt h0 qa cI cZ pw n so u) t) (va_A (wX h0 qa cI cZ pw (nI n) un so si mb re st sk wa lb ro co fl ma lr gc) sz)) 0 0 (va_A (wX h0 qa cI cZ pw (nI n) un so si mb re st sk wa lb ro co fl ma lr gc) sz) := by
  refine Met.ofW (cc := cX1_rows) (maxL := 1) (ret := (some .int)) (by decide) rfl ?_
  intro p e s m args below meth c s₁ B hml hv
  obtain ⟨rfl, hsz, hP, hK, hD0⟩ := hv
  have hx := B.exec
  have hb := B.bytes
  have hr := B.returns
  have hts := atoms_spec (ws := ws_ yX1_rows cX1_rows 1 (some .int)) B.pre
  have hts : ∀ w ∈ lw_all, w.before _ s = true := fun w h => hts w (List.mem_cons_of_mem _ h)
  have hown : s.vm.findClass RX1 = some m.cls := findClass_of_methodNamed B.named
  have hlocks := B.notSynchronized
  subst hsz
  have hD := hD0.self (sz := s.heap.size)
  generalize hAe : va_A (wX h0 qa cI cZ pw (nI n) un so si mb re st sk wa lb ro co fl ma lr gc) s.heap.size = A at hD ⊢
  have hA : ∀ q : Nat, s.heap.size ≤ q → A q := fun q h => by rw [← hAe]; exact Or.inr h
  have hS : va_S A s.heap s.heap [] := va_S.rf
  have hl := lv_entry ([.ref h0]) (n := 1) (Nat.le_of_ble_eq_true rfl)
  rw [lg_entry_eq]
  generalize (lg_sl ([.ref h0]) ++ List.replicate (1 - (lg_sl ([.ref h0])).length) Slot.unset).toArray = ls at hl ⊢
  have hl : lv_has ls 1 [(0, .ref h0)] := hl
  refine lv_aload_n hx hb dX1_rows_0 rfl (lv_at hl 0 rfl) ?_
  refine zc_v (As := []) (rest := []) ⟨hx, hb, hml, hown, hts⟩ (mX_prepare l dC dI cI cZ h0 s.heap.size qa pw n un so si mb re st sk wa lb ro co fl ma lr gc a hI) (cwV 0 hts (lw_V q105 q107 qs1 q12 q108) rfl rfl rfl (by decide +kernel) ⟨Nat.le_of_ble_eq_true rfl, Nat.le_of_ble_eq_true rfl⟩) (ci := 0) rfl rfl hK hP hD hS hA rfl hl.1 rfl (Nat.le_of_ble_eq_true rfl) dX1_rows_1 ⟨Nat.zero_le _, Nat.zero_le _⟩ (fun u_1 H locs hw_1 hP hD hS => ?_)
  obtain ⟨un2, si2, mb2, re2, st2, sk2, wa2, lb2, ro2, co2, fl2, ma2, lr2, gc2⟩ := u_1
  obtain ⟨hI2, hla⟩ := hw_1
  have hP : va_P (dC, dI) vwCl (wX h0 qa cI cZ pw (nI n) un2 so si2 mb2 re2 st2 sk2 wa2 lb2 ro2 co2 fl2 ma2 lr2 gc2) H := hP
  have hD : va_D A (wX h0 qa cI cZ pw (nI n) un2 so si2 mb2 re2 st2 sk2 wa2 lb2 ro2 co2 fl2 ma2 lr2 gc2) := hD
  refine lv_aload_n hx hb dX1_rows_4 rfl (lv_at hl 0 rfl) ?_
  refine va_get (D := (dC, dI)) (ci := 0) (v := .int lr2) (C := RX1) (T := TX1) (N := 17) hx hb hts in_X1 hown hK hP 0 rfl rfl 15 (by decide) (hts _ q41) (fun _ h9 => h9) rfl dX1_rows_5 ?_
  refine lv_iconst (v := 1) hx hb dX1_rows_8 (by decide) ?_
  refine lv_iadd hx hb dX1_rows_9 ?_
  exact W.iret (v := lr2 + 1) hx hb hr (fun t ht hW => ⟨⟨lr2 + 1, (un2, si2, mb2, re2, st2, sk2, wa2, lb2, ro2, co2, fl2, ma2, lr2, gc2), rfl, ⟨by rw [← hla.1], hI2⟩, by rw [ht]; exact hP, va_K.moved hW.alike hK, hD⟩, hS.F ht⟩) hS.2.2 dX1_rows_10
set_option maxHeartbeats 4000000 in
set_option maxRecDepth 100000 in
/-- widest() -/
theorem mX_widest (l : Launch) (dC : Nat → ClassId) (dI : Nat → Nat → Nat) (cI cZ : ClassId) (h0 sz : Nat) (qa : Nat → Nat) (pw : Int32) (n : Nat) (un : Int32) (so si : Nat → Int32) (mb : Int32) (re st sk wa : Nat → Int32) (lb : Int32) (ro co fl ma : Nat → Int32) (lr gc : Int32) (a : Nat → Int32) (hI : ps_XI n so a pw un si mb re lb ro co fl lr gc) : Met l yX1_widest (ws_ yX1_widest cX1_widest 1 (some .int)) ({ frames := 3, cells := 0, slots := 0, locals := 67 }) (va_Pc [.ref h0] (preW dC dI cI cZ sz (wX h0 qa cI cZ pw (nI n) un so si mb re st sk wa lb ro co fl ma lr gc))) (va_Qi (fun (r : Int32) (u : SX) => r = ps_G so a n pw n ∧ ps_XIt n so a pw u) (fun u t => posW dC dI cI cZ (va_A (wX h0 qa cI cZ pw (nI n) un so si mb re st sk wa lb ro co fl ma lr gc) sz) (wXt h0 qa cI cZ pw n so u) t) (va_A (wX h0 qa cI cZ pw (nI n) un so si mb re st sk wa lb ro co fl ma lr gc) sz)) 0 0 (va_A (wX h0 qa cI cZ pw (nI n) un so si mb re st sk wa lb ro co fl ma lr gc) sz) := by
  refine Met.ofW (cc := cX1_widest) (maxL := 1) (ret := (some .int)) (by decide) rfl ?_
  intro p e s m args below meth c s₁ B hml hv
  obtain ⟨rfl, hsz, hP, hK, hD0⟩ := hv
  have hx := B.exec
  have hb := B.bytes
  have hr := B.returns
  have hts := atoms_spec (ws := ws_ yX1_widest cX1_widest 1 (some .int)) B.pre
  have hts : ∀ w ∈ lw_all, w.before _ s = true := fun w h => hts w (List.mem_cons_of_mem _ h)
  have hown : s.vm.findClass RX1 = some m.cls := findClass_of_methodNamed B.named
  have hlocks := B.notSynchronized
  subst hsz
  have hD := hD0.self (sz := s.heap.size)
  generalize hAe : va_A (wX h0 qa cI cZ pw (nI n) un so si mb re st sk wa lb ro co fl ma lr gc) s.heap.size = A at hD ⊢
  have hA : ∀ q : Nat, s.heap.size ≤ q → A q := fun q h => by rw [← hAe]; exact Or.inr h
  have hS : va_S A s.heap s.heap [] := va_S.rf
  have hl := lv_entry ([.ref h0]) (n := 1) (Nat.le_of_ble_eq_true rfl)
  rw [lg_entry_eq]
  generalize (lg_sl ([.ref h0]) ++ List.replicate (1 - (lg_sl ([.ref h0])).length) Slot.unset).toArray = ls at hl ⊢
  have hl : lv_has ls 1 [(0, .ref h0)] := hl
  refine lv_aload_n hx hb dX1_widest_0 rfl (lv_at hl 0 rfl) ?_
  refine zc_v (As := []) (rest := []) ⟨hx, hb, hml, hown, hts⟩ (mX_prepare l dC dI cI cZ h0 s.heap.size qa pw n un so si mb re st sk wa lb ro co fl ma lr gc a hI) (cwV 0 hts (lw_V q105 q107 qs1 q12 q108) rfl rfl rfl (by decide +kernel) ⟨Nat.le_of_ble_eq_true rfl, Nat.le_of_ble_eq_true rfl⟩) (ci := 0) rfl rfl hK hP hD hS hA rfl hl.1 rfl (Nat.le_of_ble_eq_true rfl) dX1_widest_1 ⟨Nat.zero_le _, Nat.zero_le _⟩ (fun u_1 H locs hw_1 hP hD hS => ?_)
  obtain ⟨un2, si2, mb2, re2, st2, sk2, wa2, lb2, ro2, co2, fl2, ma2, lr2, gc2⟩ := u_1
  obtain ⟨hI2, hla⟩ := hw_1
  have hP : va_P (dC, dI) vwCl (wX h0 qa cI cZ pw (nI n) un2 so si2 mb2 re2 st2 sk2 wa2 lb2 ro2 co2 fl2 ma2 lr2 gc2) H := hP
  have hD : va_D A (wX h0 qa cI cZ pw (nI n) un2 so si2 mb2 re2 st2 sk2 wa2 lb2 ro2 co2 fl2 ma2 lr2 gc2) := hD
  refine lv_aload_n hx hb dX1_widest_4 rfl (lv_at hl 0 rfl) ?_
  refine va_get (D := (dC, dI)) (ci := 0) (v := .int gc2) (C := RX1) (T := TX1) (N := 17) hx hb hts in_X1 hown hK hP 0 rfl rfl 16 (by decide) (hts _ q42) (fun _ h9 => h9) rfl dX1_widest_5 ?_
  exact W.iret (v := gc2) hx hb hr (fun t ht hW => ⟨⟨gc2, (un2, si2, mb2, re2, st2, sk2, wa2, lb2, ro2, co2, fl2, ma2, lr2, gc2), rfl, ⟨by rw [← hla.2.1], hI2⟩, by rw [ht]; exact hP, va_K.moved hW.alike hK, hD⟩, hS.F ht⟩) hS.2.2 dX1_widest_8
set_option maxHeartbeats 4000000 in
set_option maxRecDepth 100000 in
/-- leastWidth(x) -/
theorem mX_leastWidth (l : Launch) (dC : Nat → ClassId) (dI : Nat → Nat → Nat) (cI cZ : ClassId) (h0 sz : Nat) (qa : Nat → Nat) (pw : Int32) (n : Nat) (un : Int32) (so si : Nat → Int32) (mb : Int32) (re st sk wa : Nat → Int32) (lb : Int32) (ro co fl ma : Nat → Int32) (lr gc : Int32) (a : Nat → Int32) (x : Int32) (hI : ps_XI n so a pw un si mb re lb ro co fl lr gc) : Met l yX1_leastWidth (ws_ yX1_leastWidth cX1_leastWidth 3 (some .int)) ({ frames := 2, cells := 0, slots := 0, locals := 47 }) (va_Pc [.ref h0, .int x] (preW dC dI cI cZ sz (wX h0 qa cI cZ pw (nI n) un so si mb re st sk wa lb ro co fl ma lr gc))) (va_Qi (fun (r : Int32) (u : SX) => r = ps_lw so a n x 100 ∧ ps_XIt n so a pw u) (fun u t => posW dC dI cI cZ (va_A (wX h0 qa cI cZ pw (nI n) un so si mb re st sk wa lb ro co fl ma lr gc) sz) (wXt h0 qa cI cZ pw n so u) t) (va_A (wX h0 qa cI cZ pw (nI n) un so si mb re st sk wa lb ro co fl ma lr gc) sz)) 0 0 (va_A (wX h0 qa cI cZ pw (nI n) un so si mb re st sk wa lb ro co fl ma lr gc) sz) := by
  refine Met.ofW (cc := cX1_leastWidth) (maxL := 3) (ret := (some .int)) (by decide) rfl ?_
  intro p e s m args below meth c s₁ B hml hv
  obtain ⟨rfl, hsz, hP, hK, hD0⟩ := hv
  have hx := B.exec
  have hb := B.bytes
  have hr := B.returns
  have hts := atoms_spec (ws := ws_ yX1_leastWidth cX1_leastWidth 3 (some .int)) B.pre
  have hts : ∀ w ∈ lw_all, w.before _ s = true := fun w h => hts w (List.mem_cons_of_mem _ h)
  have hown : s.vm.findClass RX1 = some m.cls := findClass_of_methodNamed B.named
  have hlocks := B.notSynchronized
  subst hsz
  have hD := hD0.self (sz := s.heap.size)
  generalize hAe : va_A (wX h0 qa cI cZ pw (nI n) un so si mb re st sk wa lb ro co fl ma lr gc) s.heap.size = A at hD ⊢
  have hA : ∀ q : Nat, s.heap.size ≤ q → A q := fun q h => by rw [← hAe]; exact Or.inr h
  have hS : va_S A s.heap s.heap [] := va_S.rf
  have hl := lv_entry ([.ref h0, .int x]) (n := 3) (Nat.le_of_ble_eq_true rfl)
  rw [lg_entry_eq]
  generalize (lg_sl ([.ref h0, .int x]) ++ List.replicate (3 - (lg_sl ([.ref h0, .int x])).length) Slot.unset).toArray = ls at hl ⊢
  have hl : lv_has ls 3 [(0, .ref h0), (1, .int x)] := hl
  obtain ⟨hok, hun, hsi, hm, hlb⟩ := id hI
  refine lv_aload_n hx hb dX1_leastWidth_0 rfl (lv_at hl 0 rfl) ?_
  refine zc_v (As := []) (rest := []) ⟨hx, hb, hml, hown, hts⟩ (mX_measure l dC dI cI cZ h0 s.heap.size qa pw n un so si mb re st sk wa lb ro co fl ma lr gc a hok hsi hm) (cwV 0 hts (lw_V q109 q111 qs2 q12 q112) rfl rfl rfl (by decide +kernel) ⟨Nat.le_of_ble_eq_true rfl, Nat.le_of_ble_eq_true rfl⟩) (ci := 0) rfl rfl hK hP hD hS hA rfl hl.1 rfl (Nat.le_of_ble_eq_true rfl) dX1_leastWidth_1 ⟨Nat.zero_le _, Nat.zero_le _⟩ (fun u_1 H locs hw_1 hP hD hS => ?_)
  obtain ⟨re1, st1, sk1, wa1⟩ := u_1
  have hP : va_P (dC, dI) vwCl (wX h0 qa cI cZ pw (nI n) un so si 1 re1 st1 sk1 wa1 lb ro co fl ma lr gc) H := hP
  have hD : va_D A (wX h0 qa cI cZ pw (nI n) un so si 1 re1 st1 sk1 wa1 lb ro co fl ma lr gc) := hD
  refine lv_aload_n hx hb dX1_leastWidth_4 rfl (lv_at hl 0 rfl) ?_
  refine lv_iconst (v := 0) hx hb dX1_leastWidth_5 (by decide) ?_
  refine va_put (D := (dC, dI)) (ci := 0) (v := .int 0) (ty := .boolean) (C := RX1) (T := TX1) (N := 17) hx hb hts in_X1 tyX1 tyX1_ok nmX1 hown hK hP hD hS 0 rfl rfl 10 (by decide) (hts _ q36) (fun _ h9 => h9) rfl (by decide +kernel) rfl rfl (Nat.le_of_ble_eq_true rfl) dX1_leastWidth_6 (fun H locs hP hD hS => ?_)
  have hP : va_P (dC, dI) vwCl (wX h0 qa cI cZ pw (nI n) un so si 1 re1 st1 sk1 wa1 0 ro co fl ma lr gc) H := hP
  have hD : va_D A (wX h0 qa cI cZ pw (nI n) un so si 1 re1 st1 sk1 wa1 0 ro co fl ma lr gc) := hD
  refine lv_iconst (v := nI 1) hx hb dX1_leastWidth_9 (by decide) ?_
  refine lv_istore_n (lv' := [(2, .int (nI 1)), (0, .ref h0), (1, .int x)]) hx hb dX1_leastWidth_10 rfl hl (by decide) rfl (fun ls hl => ?_)
  refine zl_loop (I := fun k H locs ls => ∃ (v : Nat) (kf : Nat → Int32) (rf : Nat → Int32) (cf : Nat → Int32) (ff : Nat → Int32) (mf : Nat → Int32) (lf : Int32) (gf : Int32), (k = 101 - v) ∧ (1 ≤ v) ∧ (v ≤ 101) ∧ (ps_lw so a n x 100 = ps_lw so a n x (101 - v)) ∧ va_P (dC, dI) vwCl (wX h0 qa cI cZ pw (nI n) un so si 1 re1 st1 kf wa1 0 rf cf ff mf lf gf) H ∧ va_D A (wX h0 qa cI cZ pw (nI n) un so si 1 re1 st1 kf wa1 0 rf cf ff mf lf gf) ∧ va_S A s.heap H locs ∧ lv_has ls 3 [(0, .ref h0), (1, .int x), (2, .int (nI v))]) ?_ 100 _ _ _ ⟨1, sk1, ro, co, fl, ma, lr, gc, rfl, Nat.le_refl 1, by omega, rfl, hP, hD, hS, lv_sub hl [1, 2, 0] rfl⟩
  intro k H locs ls hI ih
  obtain ⟨v, kf, rf, cf, ff, mf, lf, gf, hk, hv1, hv, hlw, hP, hD, hS, hl⟩ := hI
  refine lv_iload_n hx hb dX1_leastWidth_11 rfl (lv_at hl 2 rfl) ?_
  refine lv_bipush (v := 100) hx hb dX1_leastWidth_12 (by decide) ?_
  refine lv_icmp_gt (tgt := 40) hx hb dX1_leastWidth_14 (by decide) (fun c_14 => ?_) (fun c_14 => ?_)
  · have hv101 : v = 101 := by have := (nI_ltI (a := 100) (b := v) (by omega) (by omega)).mp c_14; omega
    refine lv_bipush (v := 101) hx hb dX1_leastWidth_40 (by decide) ?_
    exact W.iret (v := 101) hx hb hr (fun t ht hW => ⟨⟨101, (un, si, 1, re1, st1, kf, wa1, 0, rf, cf, ff, mf, lf, gf), rfl, ⟨by rw [hlw, hv101]; rfl, ⟨hok, hun, hsi, Or.inr ⟨rfl, hw_1⟩, Or.inl rfl⟩⟩, by rw [ht]; exact hP, va_K.moved hW.alike hK, hD⟩, hS.F ht⟩) hS.2.2 dX1_leastWidth_42
  · have hv100 : v ≤ 100 := by
      rcases Nat.lt_or_ge 100 v with z | z
      · exact absurd ((nI_ltI (a := 100) (b := v) (by omega) (by omega)).mpr z) c_14
      · exact z
    refine lv_aload_n hx hb dX1_leastWidth_17 rfl (lv_at hl 0 rfl) ?_
    refine lv_iload_n hx hb dX1_leastWidth_18 rfl (lv_at hl 2 rfl) ?_
    refine zc_v (As := [.int (nI v)]) (rest := []) ⟨hx, hb, hml, hown, hts⟩ (mX_layOut l dC dI cI cZ h0 H.size qa pw n un so si 1 re1 st1 kf wa1 0 rf cf ff mf lf gf a (nI v) hok hsi hw_1) (cwV 1 hts (lw_V q117 q119 qs4 q12 q120) rfl rfl rfl (by decide +kernel) ⟨Nat.le_of_ble_eq_true rfl, Nat.le_of_ble_eq_true rfl⟩) (ci := 0) rfl rfl hK hP hD hS hA rfl hl.1 rfl (Nat.le_of_ble_eq_true rfl) dX1_leastWidth_19 ⟨Nat.zero_le _, Nat.zero_le _⟩ (fun u_19 H locs hw_19 hP hD hS => ?_)
    obtain ⟨k2, r2, c2, f2, m2, l2, g2⟩ := u_19
    have hP : va_P (dC, dI) vwCl (wX h0 qa cI cZ pw (nI n) un so si 1 re1 st1 k2 wa1 0 r2 c2 f2 m2 l2 g2) H := hP
    have hD : va_D A (wX h0 qa cI cZ pw (nI n) un so si 1 re1 st1 k2 wa1 0 r2 c2 f2 m2 l2 g2) := hD
    refine lv_aload_n hx hb dX1_leastWidth_22 rfl (lv_at hl 0 rfl) ?_
    refine va_get (D := (dC, dI)) (ci := 0) (v := .int l2) (C := RX1) (T := TX1) (N := 17) hx hb hts in_X1 hown hK hP 0 rfl rfl 15 (by decide) (hts _ q41) (fun _ h9 => h9) rfl dX1_leastWidth_23 ?_
    refine lv_iconst (v := 1) hx hb dX1_leastWidth_26 (by decide) ?_
    refine lv_iadd hx hb dX1_leastWidth_27 ?_
    refine lv_iload_n hx hb dX1_leastWidth_28 rfl (lv_at hl 1 rfl) ?_
    refine lv_icmp_gt (tgt := 34) hx hb dX1_leastWidth_29 (by decide) (fun c_29 => ?_) (fun c_29 => ?_)
    · refine lv_iinc (v := nI (v + 1)) (lv' := [(2, .int (nI (v + 1))), (0, .ref h0), (1, .int x)]) hx hb dX1_leastWidth_34 hl (k := 2) rfl (nI_1 _) (by decide) rfl (fun ls hl => ?_)
      refine lv_goto (tgt := 11) hx hb dX1_leastWidth_37 (by decide) ?_
      exact ih (101 - (v + 1)) _ _ _ (by omega) ⟨v + 1, _, _, _, _, _, _, _, rfl, by omega, by omega, by rw [hlw, ps_lw_s hv1 hv100, if_neg (by rw [← hw_19.1]; exact Int32.not_le.mpr c_29)], hP, hD, hS, lv_sub hl [1, 2, 0] rfl⟩
    · refine lv_iload_n hx hb dX1_leastWidth_32 rfl (lv_at hl 2 rfl) ?_
      exact W.iret (v := nI v) hx hb hr (fun t ht hW => ⟨⟨nI v, (un, si, 1, re1, st1, k2, wa1, 0, r2, c2, f2, m2, l2, g2), rfl, ⟨by rw [hlw, ps_lw_s hv1 hv100, if_pos (by rw [← hw_19.1]; exact Int32.not_lt.mp c_29)], ⟨hok, hun, hsi, Or.inr ⟨rfl, hw_1⟩, Or.inl rfl⟩⟩, by rw [ht]; exact hP, va_K.moved hW.alike hK, hD⟩, hS.F ht⟩) hS.2.2 dX1_leastWidth_33
set_option maxHeartbeats 4000000 in
set_option maxRecDepth 100000 in
/-- word(x) -/
theorem mM_word (l : Launch) (dC : Nat → ClassId) (dI : Nat → Nat → Nat) (cI cZ : ClassId) (h0 sz : Nat) (qa : Nat → Nat) (pw : Int32) (n : Nat) (so a : Nat → Int32) (dp : Int32) (fs mg ro co fl : Nat → Int32) (lr gc : Int32) (x : Int32) (b : Bool) (hok : ps_ok n so) (hbb : b = decide (¬ x < 1 ∧ ¬ 20 < x ∧ n < 60)) : Met l yX2_word (ws_ yX2_word cX2_word 2 (some .int)) ({ frames := 1, cells := 0, slots := 0, locals := 22 }) (va_Pc [.ref h0, .int x] (preW dC dI cI cZ sz (wM h0 qa cI cZ pw (nI n) so a dp fs mg ro co fl lr gc))) (va_Qi (fun (r : Int32) (_ : Unit) => r = ps_r b n) (fun u t => posW dC dI cI cZ (va_A (wM h0 qa cI cZ pw (nI n) so a dp fs mg ro co fl lr gc) sz) (wM h0 qa cI cZ pw (nI (ps_n b n)) (ps_u b n so 0) (ps_u b n a x) dp fs mg ro co fl lr gc) t) (va_A (wM h0 qa cI cZ pw (nI n) so a dp fs mg ro co fl lr gc) sz)) 0 0 (va_A (wM h0 qa cI cZ pw (nI n) so a dp fs mg ro co fl lr gc) sz) := by
  refine Met.ofW (cc := cX2_word) (maxL := 2) (ret := (some .int)) (by decide) rfl ?_
  intro p e s m args below meth c s₁ B hml hv
  obtain ⟨rfl, hsz, hP, hK, hD0⟩ := hv
  have hx := B.exec
  have hb := B.bytes
  have hr := B.returns
  have hts := atoms_spec (ws := ws_ yX2_word cX2_word 2 (some .int)) B.pre
  have hts : ∀ w ∈ lw_all, w.before _ s = true := fun w h => hts w (List.mem_cons_of_mem _ h)
  have hown : s.vm.findClass RX2 = some m.cls := findClass_of_methodNamed B.named
  have hlocks := B.notSynchronized
  subst hsz
  have hD := hD0.self (sz := s.heap.size)
  generalize hAe : va_A (wM h0 qa cI cZ pw (nI n) so a dp fs mg ro co fl lr gc) s.heap.size = A at hD ⊢
  have hA : ∀ q : Nat, s.heap.size ≤ q → A q := fun q h => by rw [← hAe]; exact Or.inr h
  have hS : va_S A s.heap s.heap [] := va_S.rf
  have hl := lv_entry ([.ref h0, .int x]) (n := 2) (Nat.le_of_ble_eq_true rfl)
  rw [lg_entry_eq]
  generalize (lg_sl ([.ref h0, .int x]) ++ List.replicate (2 - (lg_sl ([.ref h0, .int x])).length) Slot.unset).toArray = ls at hl ⊢
  have hl : lv_has ls 2 [(0, .ref h0), (1, .int x)] := hl
  refine lv_iload_n hx hb dX2_word_0 rfl (lv_at hl 1 rfl) ?_
  refine lv_iconst (v := 1) hx hb dX2_word_1 (by decide) ?_
  refine lv_icmp_lt (tgt := 11) hx hb dX2_word_2 (by decide) (fun c_2 => ?_) (fun c_2 => ?_)
  · obtain rfl : b = false := by rw [hbb]; simp [c_2]
    refine lv_iconst (v := -1) hx hb dX2_word_11 (by decide) ?_
    refine lv_goto (tgt := 21) hx hb dX2_word_12 (by decide) ?_
    exact W.iret (v := (-1)) hx hb hr (fun t ht hW => ⟨⟨(-1), (), rfl, rfl, by rw [ht]; exact hP, va_K.moved hW.alike hK, hD⟩, hS.F ht⟩) hS.2.2 dX2_word_21
  · refine lv_iload_n hx hb dX2_word_5 rfl (lv_at hl 1 rfl) ?_
    refine lv_bipush (v := 20) hx hb dX2_word_6 (by decide) ?_
    refine lv_icmp_le (tgt := 15) hx hb dX2_word_8 (by decide) (fun c_8 => ?_) (fun c_8 => ?_)
    · obtain rfl : b = decide (n < 60) := by rw [hbb]; simp only [c_2, Int32.not_lt.mpr c_8, not_false_eq_true, true_and]
      refine lv_aload_n hx hb dX2_word_15 rfl (lv_at hl 0 rfl) ?_
      refine lv_iconst (v := 0) hx hb dX2_word_16 (by decide) ?_
      refine lv_iload_n hx hb dX2_word_17 rfl (lv_at hl 1 rfl) ?_
      refine zc_i (As := [.int 0, .int x]) (rest := []) ⟨hx, hb, hml, hown, hts⟩ (mM_add l dC dI cI cZ h0 s.heap.size qa pw n so a dp fs mg ro co fl lr gc 0 x hok.1) (cwV 2 hts (lw_V q195 q197 qs5 q13 q198) rfl rfl rfl (by decide +kernel) ⟨Nat.le_of_ble_eq_true rfl, Nat.le_of_ble_eq_true rfl⟩) (ci := 1) rfl rfl hK hP hD hS hA rfl hl.1 rfl (Nat.le_of_ble_eq_true rfl) dX2_word_18 ⟨Nat.zero_le _, Nat.zero_le _⟩ (fun r_18 u_18 H locs hw_18 hP hD hS => ?_)
      have hP : va_P (dC, dI) vwCl (wM h0 qa cI cZ pw (nI (ps_n (decide (n < 60)) n)) (ps_u (decide (n < 60)) n so 0) (ps_u (decide (n < 60)) n a x) dp fs mg ro co fl lr gc) H := hP
      have hD : va_D A (wM h0 qa cI cZ pw (nI (ps_n (decide (n < 60)) n)) (ps_u (decide (n < 60)) n so 0) (ps_u (decide (n < 60)) n a x) dp fs mg ro co fl lr gc) := hD
      exact W.iret (v := r_18) hx hb hr (fun t ht hW => ⟨⟨r_18, (), rfl, hw_18, by rw [ht]; exact hP, va_K.moved hW.alike hK, hD⟩, hS.F ht⟩) hS.2.2 dX2_word_21
    · obtain rfl : b = false := by rw [hbb]; simp [Int32.not_le.mp c_8]
      refine lv_iconst (v := -1) hx hb dX2_word_11 (by decide) ?_
      refine lv_goto (tgt := 21) hx hb dX2_word_12 (by decide) ?_
      exact W.iret (v := (-1)) hx hb hr (fun t ht hW => ⟨⟨(-1), (), rfl, rfl, by rw [ht]; exact hP, va_K.moved hW.alike hK, hD⟩, hS.F ht⟩) hS.2.2 dX2_word_21
set_option maxHeartbeats 4000000 in
set_option maxRecDepth 100000 in
/-- lineBreak() -/
theorem mM_lineBreak (l : Launch) (dC : Nat → ClassId) (dI : Nat → Nat → Nat) (cI cZ : ClassId) (h0 sz : Nat) (qa : Nat → Nat) (pw : Int32) (n : Nat) (so a : Nat → Int32) (dp : Int32) (fs mg ro co fl : Nat → Int32) (lr gc : Int32) (b : Bool) (hok : ps_ok n so) (hbb : b = decide (n < 60)) : Met l yX2_lineBreak (ws_ yX2_lineBreak cX2_lineBreak 1 (some .int)) ({ frames := 1, cells := 0, slots := 0, locals := 22 }) (va_Pc [.ref h0] (preW dC dI cI cZ sz (wM h0 qa cI cZ pw (nI n) so a dp fs mg ro co fl lr gc))) (va_Qi (fun (r : Int32) (_ : Unit) => r = ps_r b n) (fun u t => posW dC dI cI cZ (va_A (wM h0 qa cI cZ pw (nI n) so a dp fs mg ro co fl lr gc) sz) (wM h0 qa cI cZ pw (nI (ps_n b n)) (ps_u b n so 1) (ps_u b n a 0) dp fs mg ro co fl lr gc) t) (va_A (wM h0 qa cI cZ pw (nI n) so a dp fs mg ro co fl lr gc) sz)) 0 0 (va_A (wM h0 qa cI cZ pw (nI n) so a dp fs mg ro co fl lr gc) sz) := by
  refine Met.ofW (cc := cX2_lineBreak) (maxL := 1) (ret := (some .int)) (by decide) rfl ?_
  intro p e s m args below meth c s₁ B hml hv
  obtain ⟨rfl, hsz, hP, hK, hD0⟩ := hv
  have hx := B.exec
  have hb := B.bytes
  have hr := B.returns
  have hts := atoms_spec (ws := ws_ yX2_lineBreak cX2_lineBreak 1 (some .int)) B.pre
  have hts : ∀ w ∈ lw_all, w.before _ s = true := fun w h => hts w (List.mem_cons_of_mem _ h)
  have hown : s.vm.findClass RX2 = some m.cls := findClass_of_methodNamed B.named
  have hlocks := B.notSynchronized
  subst hsz
  have hD := hD0.self (sz := s.heap.size)
  generalize hAe : va_A (wM h0 qa cI cZ pw (nI n) so a dp fs mg ro co fl lr gc) s.heap.size = A at hD ⊢
  have hA : ∀ q : Nat, s.heap.size ≤ q → A q := fun q h => by rw [← hAe]; exact Or.inr h
  have hS : va_S A s.heap s.heap [] := va_S.rf
  have hl := lv_entry ([.ref h0]) (n := 1) (Nat.le_of_ble_eq_true rfl)
  rw [lg_entry_eq]
  generalize (lg_sl ([.ref h0]) ++ List.replicate (1 - (lg_sl ([.ref h0])).length) Slot.unset).toArray = ls at hl ⊢
  have hl : lv_has ls 1 [(0, .ref h0)] := hl
  subst hbb
  refine lv_aload_n hx hb dX2_lineBreak_0 rfl (lv_at hl 0 rfl) ?_
  refine lv_iconst (v := 1) hx hb dX2_lineBreak_1 (by decide) ?_
  refine lv_iconst (v := 0) hx hb dX2_lineBreak_2 (by decide) ?_
  refine zc_i (As := [.int 1, .int 0]) (rest := []) ⟨hx, hb, hml, hown, hts⟩ (mM_add l dC dI cI cZ h0 s.heap.size qa pw n so a dp fs mg ro co fl lr gc 1 0 hok.1) (cwV 2 hts (lw_V q195 q197 qs5 q13 q198) rfl rfl rfl (by decide +kernel) ⟨Nat.le_of_ble_eq_true rfl, Nat.le_of_ble_eq_true rfl⟩) (ci := 1) rfl rfl hK hP hD hS hA rfl hl.1 rfl (Nat.le_of_ble_eq_true rfl) dX2_lineBreak_3 ⟨Nat.zero_le _, Nat.zero_le _⟩ (fun r_3 u_3 H locs hw_3 hP hD hS => ?_)
  have hP : va_P (dC, dI) vwCl (wM h0 qa cI cZ pw (nI (ps_n (decide (n < 60)) n)) (ps_u (decide (n < 60)) n so 1) (ps_u (decide (n < 60)) n a 0) dp fs mg ro co fl lr gc) H := hP
  have hD : va_D A (wM h0 qa cI cZ pw (nI (ps_n (decide (n < 60)) n)) (ps_u (decide (n < 60)) n so 1) (ps_u (decide (n < 60)) n a 0) dp fs mg ro co fl lr gc) := hD
  exact W.iret (v := r_3) hx hb hr (fun t ht hW => ⟨⟨r_3, (), rfl, hw_3, by rw [ht]; exact hP, va_K.moved hW.alike hK, hD⟩, hS.F ht⟩) hS.2.2 dX2_lineBreak_6
set_option maxHeartbeats 4000000 in
set_option maxRecDepth 100000 in
/-- open(x) -/
theorem mM_open (l : Launch) (dC : Nat → ClassId) (dI : Nat → Nat → Nat) (cI cZ : ClassId) (h0 sz : Nat) (qa : Nat → Nat) (pw : Int32) (n : Nat) (so a : Nat → Int32) (dp : Int32) (fs mg ro co fl : Nat → Int32) (lr gc : Int32) (x : Int32) (b : Bool) (hok : ps_ok n so) (hbb : b = decide (¬ x < 0 ∧ ¬ 8 < x ∧ ps_dp so n < 12 ∧ n < 60)) : Met l yX2_open (ws_ yX2_open cX2_open 2 (some .int)) ({ frames := 1, cells := 0, slots := 0, locals := 22 }) (va_Pc [.ref h0, .int x] (preW dC dI cI cZ sz (wM h0 qa cI cZ pw (nI n) so a dp fs mg ro co fl lr gc))) (va_Qi (fun (r : Int32) (_ : Unit) => r = ps_r b n) (fun u t => posW dC dI cI cZ (va_A (wM h0 qa cI cZ pw (nI n) so a dp fs mg ro co fl lr gc) sz) (wM h0 qa cI cZ pw (nI (ps_n b n)) (ps_u b n so 2) (ps_u b n a x) dp fs mg ro co fl lr gc) t) (va_A (wM h0 qa cI cZ pw (nI n) so a dp fs mg ro co fl lr gc) sz)) 0 0 (va_A (wM h0 qa cI cZ pw (nI n) so a dp fs mg ro co fl lr gc) sz) := by
  refine Met.ofW (cc := cX2_open) (maxL := 2) (ret := (some .int)) (by decide) rfl ?_
  intro p e s m args below meth c s₁ B hml hv
  obtain ⟨rfl, hsz, hP, hK, hD0⟩ := hv
  have hx := B.exec
  have hb := B.bytes
  have hr := B.returns
  have hts := atoms_spec (ws := ws_ yX2_open cX2_open 2 (some .int)) B.pre
  have hts : ∀ w ∈ lw_all, w.before _ s = true := fun w h => hts w (List.mem_cons_of_mem _ h)
  have hown : s.vm.findClass RX2 = some m.cls := findClass_of_methodNamed B.named
  have hlocks := B.notSynchronized
  subst hsz
  have hD := hD0.self (sz := s.heap.size)
  generalize hAe : va_A (wM h0 qa cI cZ pw (nI n) so a dp fs mg ro co fl lr gc) s.heap.size = A at hD ⊢
  have hA : ∀ q : Nat, s.heap.size ≤ q → A q := fun q h => by rw [← hAe]; exact Or.inr h
  have hS : va_S A s.heap s.heap [] := va_S.rf
  have hl := lv_entry ([.ref h0, .int x]) (n := 2) (Nat.le_of_ble_eq_true rfl)
  rw [lg_entry_eq]
  generalize (lg_sl ([.ref h0, .int x]) ++ List.replicate (2 - (lg_sl ([.ref h0, .int x])).length) Slot.unset).toArray = ls at hl ⊢
  have hl : lv_has ls 2 [(0, .ref h0), (1, .int x)] := hl
  have hn60 := hok.1
  have hd12 := hok.2.2.2 n (Nat.le_refl n)
  refine lv_iload_n hx hb dX2_open_0 rfl (lv_at hl 1 rfl) ?_
  refine lv_if_lt (tgt := 19) hx hb dX2_open_1 (by decide) (fun c_1 => ?_) (fun c_1 => ?_)
  · obtain rfl : b = false := by rw [hbb]; simp [c_1]
    refine lv_iconst (v := -1) hx hb dX2_open_19 (by decide) ?_
    refine lv_goto (tgt := 29) hx hb dX2_open_20 (by decide) ?_
    exact W.iret (v := (-1)) hx hb hr (fun t ht hW => ⟨⟨(-1), (), rfl, rfl, by rw [ht]; exact hP, va_K.moved hW.alike hK, hD⟩, hS.F ht⟩) hS.2.2 dX2_open_29
  · refine lv_iload_n hx hb dX2_open_4 rfl (lv_at hl 1 rfl) ?_
    refine lv_bipush (v := 8) hx hb dX2_open_5 (by decide) ?_
    refine lv_icmp_gt (tgt := 19) hx hb dX2_open_7 (by decide) (fun c_7 => ?_) (fun c_7 => ?_)
    · obtain rfl : b = false := by rw [hbb]; simp [c_7]
      refine lv_iconst (v := -1) hx hb dX2_open_19 (by decide) ?_
      refine lv_goto (tgt := 29) hx hb dX2_open_20 (by decide) ?_
      exact W.iret (v := (-1)) hx hb hr (fun t ht hW => ⟨⟨(-1), (), rfl, rfl, by rw [ht]; exact hP, va_K.moved hW.alike hK, hD⟩, hS.F ht⟩) hS.2.2 dX2_open_29
    · refine lv_aload_n hx hb dX2_open_10 rfl (lv_at hl 0 rfl) ?_
      refine zc_i (As := []) (rest := []) ⟨hx, hb, hml, hown, hts⟩ (mM_waiting l dC dI cI cZ h0 s.heap.size qa pw n so a dp fs mg ro co fl lr gc hok) (cwV 0 hts (lw_V q207 q209 qs6 q13 q210) rfl rfl rfl (by decide +kernel) ⟨Nat.le_of_ble_eq_true rfl, Nat.le_of_ble_eq_true rfl⟩) (ci := 1) rfl rfl hK hP hD hS hA rfl hl.1 rfl (Nat.le_of_ble_eq_true rfl) dX2_open_11 ⟨Nat.zero_le _, Nat.zero_le _⟩ (fun r_11 u_11 H locs hw_11 hP hD hS => ?_)
      have hP : va_P (dC, dI) vwCl (wM h0 qa cI cZ pw (nI n) so a dp fs mg ro co fl lr gc) H := hP
      have hD : va_D A (wM h0 qa cI cZ pw (nI n) so a dp fs mg ro co fl lr gc) := hD
      refine lv_bipush (v := 12) hx hb dX2_open_14 (by decide) ?_
      refine lv_icmp_ne (tgt := 23) hx hb dX2_open_16 (by decide) (fun c_16 => ?_) (fun c_16 => ?_)
      · have hlt : ps_dp so n < 12 := by
          rw [hw_11] at c_16
          have : ps_dp so n ≠ 12 := fun z => c_16 (by rw [z]; rfl)
          omega
        obtain rfl : b = decide (n < 60) := by rw [hbb]; simp only [c_1, c_7, hlt, not_false_eq_true, true_and]
        refine lv_aload_n hx hb dX2_open_23 rfl (lv_at hl 0 rfl) ?_
        refine lv_iconst (v := 2) hx hb dX2_open_24 (by decide) ?_
        refine lv_iload_n hx hb dX2_open_25 rfl (lv_at hl 1 rfl) ?_
        refine zc_i (As := [.int 2, .int x]) (rest := []) ⟨hx, hb, hml, hown, hts⟩ (mM_add l dC dI cI cZ h0 H.size qa pw n so a dp fs mg ro co fl lr gc 2 x hok.1) (cwV 2 hts (lw_V q195 q197 qs5 q13 q198) rfl rfl rfl (by decide +kernel) ⟨Nat.le_of_ble_eq_true rfl, Nat.le_of_ble_eq_true rfl⟩) (ci := 1) rfl rfl hK hP hD hS hA rfl hl.1 rfl (Nat.le_of_ble_eq_true rfl) dX2_open_26 ⟨Nat.zero_le _, Nat.zero_le _⟩ (fun r_26 u_26 H locs hw_26 hP hD hS => ?_)
        have hP : va_P (dC, dI) vwCl (wM h0 qa cI cZ pw (nI (ps_n (decide (n < 60)) n)) (ps_u (decide (n < 60)) n so 2) (ps_u (decide (n < 60)) n a x) dp fs mg ro co fl lr gc) H := hP
        have hD : va_D A (wM h0 qa cI cZ pw (nI (ps_n (decide (n < 60)) n)) (ps_u (decide (n < 60)) n so 2) (ps_u (decide (n < 60)) n a x) dp fs mg ro co fl lr gc) := hD
        exact W.iret (v := r_26) hx hb hr (fun t ht hW => ⟨⟨r_26, (), rfl, hw_26, by rw [ht]; exact hP, va_K.moved hW.alike hK, hD⟩, hS.F ht⟩) hS.2.2 dX2_open_29
      · have hge : ¬ ps_dp so n < 12 := by
          rw [hw_11] at c_16
          have := (nI_eq (a := ps_dp so n) (b := 12) (by omega) (by omega)).mp c_16
          omega
        obtain rfl : b = false := by rw [hbb]; simp [hge]
        refine lv_iconst (v := -1) hx hb dX2_open_19 (by decide) ?_
        refine lv_goto (tgt := 29) hx hb dX2_open_20 (by decide) ?_
        exact W.iret (v := (-1)) hx hb hr (fun t ht hW => ⟨⟨(-1), (), rfl, rfl, by rw [ht]; exact hP, va_K.moved hW.alike hK, hD⟩, hS.F ht⟩) hS.2.2 dX2_open_29
set_option maxHeartbeats 4000000 in
set_option maxRecDepth 100000 in
/-- close() -/
theorem mM_close (l : Launch) (dC : Nat → ClassId) (dI : Nat → Nat → Nat) (cI cZ : ClassId) (h0 sz : Nat) (qa : Nat → Nat) (pw : Int32) (n : Nat) (so a : Nat → Int32) (dp : Int32) (fs mg ro co fl : Nat → Int32) (lr gc : Int32) (b : Bool) (hok : ps_ok n so) (hbb : b = decide (0 < ps_dp so n ∧ n < 60)) : Met l yX2_close (ws_ yX2_close cX2_close 1 (some .int)) ({ frames := 1, cells := 0, slots := 0, locals := 22 }) (va_Pc [.ref h0] (preW dC dI cI cZ sz (wM h0 qa cI cZ pw (nI n) so a dp fs mg ro co fl lr gc))) (va_Qi (fun (r : Int32) (_ : Unit) => r = ps_r b n) (fun u t => posW dC dI cI cZ (va_A (wM h0 qa cI cZ pw (nI n) so a dp fs mg ro co fl lr gc) sz) (wM h0 qa cI cZ pw (nI (ps_n b n)) (ps_u b n so 3) (ps_u b n a 0) dp fs mg ro co fl lr gc) t) (va_A (wM h0 qa cI cZ pw (nI n) so a dp fs mg ro co fl lr gc) sz)) 0 0 (va_A (wM h0 qa cI cZ pw (nI n) so a dp fs mg ro co fl lr gc) sz) := by
  refine Met.ofW (cc := cX2_close) (maxL := 1) (ret := (some .int)) (by decide) rfl ?_
  intro p e s m args below meth c s₁ B hml hv
  obtain ⟨rfl, hsz, hP, hK, hD0⟩ := hv
  have hx := B.exec
  have hb := B.bytes
  have hr := B.returns
  have hts := atoms_spec (ws := ws_ yX2_close cX2_close 1 (some .int)) B.pre
  have hts : ∀ w ∈ lw_all, w.before _ s = true := fun w h => hts w (List.mem_cons_of_mem _ h)
  have hown : s.vm.findClass RX2 = some m.cls := findClass_of_methodNamed B.named
  have hlocks := B.notSynchronized
  subst hsz
  have hD := hD0.self (sz := s.heap.size)
  generalize hAe : va_A (wM h0 qa cI cZ pw (nI n) so a dp fs mg ro co fl lr gc) s.heap.size = A at hD ⊢
  have hA : ∀ q : Nat, s.heap.size ≤ q → A q := fun q h => by rw [← hAe]; exact Or.inr h
  have hS : va_S A s.heap s.heap [] := va_S.rf
  have hl := lv_entry ([.ref h0]) (n := 1) (Nat.le_of_ble_eq_true rfl)
  rw [lg_entry_eq]
  generalize (lg_sl ([.ref h0]) ++ List.replicate (1 - (lg_sl ([.ref h0])).length) Slot.unset).toArray = ls at hl ⊢
  have hl : lv_has ls 1 [(0, .ref h0)] := hl
  have hn60 := hok.1
  have hd12 := hok.2.2.2 n (Nat.le_refl n)
  refine lv_aload_n hx hb dX2_close_0 rfl (lv_at hl 0 rfl) ?_
  refine zc_i (As := []) (rest := []) ⟨hx, hb, hml, hown, hts⟩ (mM_waiting l dC dI cI cZ h0 s.heap.size qa pw n so a dp fs mg ro co fl lr gc hok) (cwV 0 hts (lw_V q207 q209 qs6 q13 q210) rfl rfl rfl (by decide +kernel) ⟨Nat.le_of_ble_eq_true rfl, Nat.le_of_ble_eq_true rfl⟩) (ci := 1) rfl rfl hK hP hD hS hA rfl hl.1 rfl (Nat.le_of_ble_eq_true rfl) dX2_close_1 ⟨Nat.zero_le _, Nat.zero_le _⟩ (fun r_1 u_1 H locs hw_1 hP hD hS => ?_)
  have hP : va_P (dC, dI) vwCl (wM h0 qa cI cZ pw (nI n) so a dp fs mg ro co fl lr gc) H := hP
  have hD : va_D A (wM h0 qa cI cZ pw (nI n) so a dp fs mg ro co fl lr gc) := hD
  refine lv_if_ne (tgt := 11) hx hb dX2_close_4 (by decide) (fun c_4 => ?_) (fun c_4 => ?_)
  · have hd0 : 0 < ps_dp so n := by
      rcases Nat.eq_zero_or_pos (ps_dp so n) with z | z
      · exact absurd (by rw [hw_1, z]; exact nI_0) c_4
      · exact z
    obtain rfl : b = decide (n < 60) := by rw [hbb]; simp only [hd0, true_and]
    refine lv_aload_n hx hb dX2_close_11 rfl (lv_at hl 0 rfl) ?_
    refine lv_iconst (v := 3) hx hb dX2_close_12 (by decide) ?_
    refine lv_iconst (v := 0) hx hb dX2_close_13 (by decide) ?_
    refine zc_i (As := [.int 3, .int 0]) (rest := []) ⟨hx, hb, hml, hown, hts⟩ (mM_add l dC dI cI cZ h0 H.size qa pw n so a dp fs mg ro co fl lr gc 3 0 hok.1) (cwV 2 hts (lw_V q195 q197 qs5 q13 q198) rfl rfl rfl (by decide +kernel) ⟨Nat.le_of_ble_eq_true rfl, Nat.le_of_ble_eq_true rfl⟩) (ci := 1) rfl rfl hK hP hD hS hA rfl hl.1 rfl (Nat.le_of_ble_eq_true rfl) dX2_close_14 ⟨Nat.zero_le _, Nat.zero_le _⟩ (fun r_14 u_14 H locs hw_14 hP hD hS => ?_)
    have hP : va_P (dC, dI) vwCl (wM h0 qa cI cZ pw (nI (ps_n (decide (n < 60)) n)) (ps_u (decide (n < 60)) n so 3) (ps_u (decide (n < 60)) n a 0) dp fs mg ro co fl lr gc) H := hP
    have hD : va_D A (wM h0 qa cI cZ pw (nI (ps_n (decide (n < 60)) n)) (ps_u (decide (n < 60)) n so 3) (ps_u (decide (n < 60)) n a 0) dp fs mg ro co fl lr gc) := hD
    exact W.iret (v := r_14) hx hb hr (fun t ht hW => ⟨⟨r_14, (), rfl, hw_14, by rw [ht]; exact hP, va_K.moved hW.alike hK, hD⟩, hS.F ht⟩) hS.2.2 dX2_close_17
  · have hz : ps_dp so n = 0 := by
      rw [hw_1] at c_4
      exact (nI_eq (a := ps_dp so n) (b := 0) (by omega) (by omega)).mp c_4
    obtain rfl : b = false := by rw [hbb]; simp [hz]
    refine lv_iconst (v := -1) hx hb dX2_close_7 (by decide) ?_
    refine lv_goto (tgt := 17) hx hb dX2_close_8 (by decide) ?_
    exact W.iret (v := (-1)) hx hb hr (fun t ht hW => ⟨⟨(-1), (), rfl, rfl, by rw [ht]; exact hP, va_K.moved hW.alike hK, hD⟩, hS.F ht⟩) hS.2.2 dX2_close_17
set_option maxHeartbeats 4000000 in
set_option maxRecDepth 100000 in
/-- row(x) -/
theorem mM_row (l : Launch) (dC : Nat → ClassId) (dI : Nat → Nat → Nat) (cI cZ : ClassId) (h0 sz : Nat) (qa : Nat → Nat) (pw : Int32) (n : Nat) (so a : Nat → Int32) (dp : Int32) (fs mg ro co fl : Nat → Int32) (lr gc : Int32) (x : Int32) (hok : ps_ok n so) : Met l yX2_row (ws_ yX2_row cX2_row 2 (some .int)) ({ frames := 3, cells := 0, slots := 0, locals := 73 }) (va_Pc [.ref h0, .int x] (preW dC dI cI cZ sz (wM h0 qa cI cZ pw (nI n) so a dp fs mg ro co fl lr gc))) (va_Qi (fun (r : Int32) (u : SM) => r = ps_q n x (ps_R so a n pw)) (fun u t => posW dC dI cI cZ (va_A (wM h0 qa cI cZ pw (nI n) so a dp fs mg ro co fl lr gc) sz) (wMt h0 qa cI cZ pw n so a u) t) (va_A (wM h0 qa cI cZ pw (nI n) so a dp fs mg ro co fl lr gc) sz)) 0 0 (va_A (wM h0 qa cI cZ pw (nI n) so a dp fs mg ro co fl lr gc) sz) := by
  refine Met.ofW (cc := cX2_row) (maxL := 2) (ret := (some .int)) (by decide) rfl ?_
  intro p e s m args below meth c s₁ B hml hv
  obtain ⟨rfl, hsz, hP, hK, hD0⟩ := hv
  have hx := B.exec
  have hb := B.bytes
  have hr := B.returns
  have hts := atoms_spec (ws := ws_ yX2_row cX2_row 2 (some .int)) B.pre
  have hts : ∀ w ∈ lw_all, w.before _ s = true := fun w h => hts w (List.mem_cons_of_mem _ h)
  have hown : s.vm.findClass RX2 = some m.cls := findClass_of_methodNamed B.named
  have hlocks := B.notSynchronized
  subst hsz
  have hD := hD0.self (sz := s.heap.size)
  generalize hAe : va_A (wM h0 qa cI cZ pw (nI n) so a dp fs mg ro co fl lr gc) s.heap.size = A at hD ⊢
  have hA : ∀ q : Nat, s.heap.size ≤ q → A q := fun q h => by rw [← hAe]; exact Or.inr h
  have hS : va_S A s.heap s.heap [] := va_S.rf
  have hl := lv_entry ([.ref h0, .int x]) (n := 2) (Nat.le_of_ble_eq_true rfl)
  rw [lg_entry_eq]
  generalize (lg_sl ([.ref h0, .int x]) ++ List.replicate (2 - (lg_sl ([.ref h0, .int x])).length) Slot.unset).toArray = ls at hl ⊢
  have hl : lv_has ls 2 [(0, .ref h0), (1, .int x)] := hl
  have hn60 := hok.1
  by_cases hq : x < 0 ∨ nI n ≤ x
  · refine lv_aload_n hx hb dX2_row_0 rfl (lv_at hl 0 rfl) ?_
    refine lv_iload_n hx hb dX2_row_1 rfl (lv_at hl 1 rfl) ?_
    refine zc_i (As := [.int x]) (rest := []) ⟨hx, hb, hml, hown, hts⟩ (mM_missing l dC dI cI cZ h0 s.heap.size qa pw n so a dp fs mg ro co fl lr gc x) (cwV 1 hts (lw_V q220 q222 qs7 q13 q223) rfl rfl rfl (by decide +kernel) ⟨Nat.le_of_ble_eq_true rfl, Nat.le_of_ble_eq_true rfl⟩) (ci := 1) rfl rfl hK hP hD hS hA rfl hl.1 rfl (Nat.le_of_ble_eq_true rfl) dX2_row_2 ⟨Nat.zero_le _, Nat.zero_le _⟩ (fun r_2 u_2 H locs hw_2 hP hD hS => ?_)
    have hP : va_P (dC, dI) vwCl (wM h0 qa cI cZ pw (nI n) so a dp fs mg ro co fl lr gc) H := hP
    have hD : va_D A (wM h0 qa cI cZ pw (nI n) so a dp fs mg ro co fl lr gc) := hD
    refine lv_if_eq (tgt := 10) hx hb dX2_row_5 (by decide) (fun c_5 => absurd c_5 (by rw [hw_2, if_pos hq]; decide)) (fun c_5 => ?_)
    refine lv_iconst (v := -1) hx hb dX2_row_8 (by decide) ?_
    exact W.iret (v := (-1)) hx hb hr (fun t ht hW => ⟨⟨(-1), (dp, fs, mg, ro, co, fl, lr, gc), rfl, (ps_q_no hq).symm, by rw [ht]; exact hP, va_K.moved hW.alike hK, hD⟩, hS.F ht⟩) hS.2.2 dX2_row_9
  · have hqn := hq
    rw [not_or] at hqn
    obtain ⟨j, hj, rfl⟩ : ∃ j : Nat, j < n ∧ x = nI j := by
      rcases pk_ix x (n := n) (by omega) with z | z | z
      · exact absurd z hqn.1
      · exact absurd z hqn.2
      · exact z
    refine lv_aload_n hx hb dX2_row_0 rfl (lv_at hl 0 rfl) ?_
    refine lv_iload_n hx hb dX2_row_1 rfl (lv_at hl 1 rfl) ?_
    refine zc_i (As := [.int (nI j)]) (rest := []) ⟨hx, hb, hml, hown, hts⟩ (mM_missing l dC dI cI cZ h0 s.heap.size qa pw n so a dp fs mg ro co fl lr gc (nI j)) (cwV 1 hts (lw_V q220 q222 qs7 q13 q223) rfl rfl rfl (by decide +kernel) ⟨Nat.le_of_ble_eq_true rfl, Nat.le_of_ble_eq_true rfl⟩) (ci := 1) rfl rfl hK hP hD hS hA rfl hl.1 rfl (Nat.le_of_ble_eq_true rfl) dX2_row_2 ⟨Nat.zero_le _, Nat.zero_le _⟩ (fun r_2 u_2 H locs hw_2 hP hD hS => ?_)
    have hP : va_P (dC, dI) vwCl (wM h0 qa cI cZ pw (nI n) so a dp fs mg ro co fl lr gc) H := hP
    have hD : va_D A (wM h0 qa cI cZ pw (nI n) so a dp fs mg ro co fl lr gc) := hD
    refine lv_if_eq (tgt := 10) hx hb dX2_row_5 (by decide) (fun c_5 => ?_) (fun c_5 => absurd (by rw [hw_2, if_neg hq]) c_5)
    refine lv_aload_n hx hb dX2_row_10 rfl (lv_at hl 0 rfl) ?_
    refine lv_aload_n hx hb dX2_row_11 rfl (lv_at hl 0 rfl) ?_
    refine va_get (D := (dC, dI)) (ci := 1) (v := .int pw) (C := RX2) (T := TX2) (N := 12) hx hb hts in_X2 hown hK hP 0 rfl rfl 0 (by decide) (hts _ q154) (fun _ h9 => h9) rfl dX2_row_12 ?_
    refine zc_v (As := [.int pw]) (rest := []) ⟨hx, hb, hml, hown, hts⟩ (mM_lay l dC dI cI cZ h0 H.size qa pw n so a dp fs mg ro co fl lr gc pw hok) (cwV 1 hts (lw_V q224 q226 qs8 q13 q227) rfl rfl rfl (by decide +kernel) ⟨Nat.le_of_ble_eq_true rfl, Nat.le_of_ble_eq_true rfl⟩) (ci := 1) rfl rfl hK hP hD hS hA rfl hl.1 rfl (Nat.le_of_ble_eq_true rfl) dX2_row_15 ⟨Nat.zero_le _, Nat.zero_le _⟩ (fun u_15 H locs hw_15 hP hD hS => ?_)
    obtain ⟨dp2, fs2, mg2, ro2, co2, fl2, lr2, gc2⟩ := u_15
    have hla := hw_15
    have hP : va_P (dC, dI) vwCl (wM h0 qa cI cZ pw (nI n) so a dp2 fs2 mg2 ro2 co2 fl2 lr2 gc2) H := hP
    have hD : va_D A (wM h0 qa cI cZ pw (nI n) so a dp2 fs2 mg2 ro2 co2 fl2 lr2 gc2) := hD
    refine lv_aload_n hx hb dX2_row_18 rfl (lv_at hl 0 rfl) ?_
    refine va_get (D := (dC, dI)) (ci := 1) (v := .ref (qa 4)) (C := RX2) (T := TX2) (N := 12) hx hb hts in_X2 hown hK hP 0 rfl rfl 7 (by decide) (hts _ q161) (fun _ h9 => h9) rfl dX2_row_19 ?_
    refine lv_iload_n hx hb dX2_row_22 rfl (lv_at hl 1 rfl) ?_
    refine zi_ald (v := ps_R so a n pw j) hx hb hK hP 5 0 rfl rfl (by omega) (by decide) ((hla.2.2 j hj).1) dX2_row_23 ?_
    exact W.iret (v := ps_R so a n pw j) hx hb hr (fun t ht hW => ⟨⟨ps_R so a n pw j, (dp2, fs2, mg2, ro2, co2, fl2, lr2, gc2), rfl, (ps_q_in hj hn60).symm, by rw [ht]; exact hP, va_K.moved hW.alike hK, hD⟩, hS.F ht⟩) hS.2.2 dX2_row_24
set_option maxHeartbeats 4000000 in
set_option maxRecDepth 100000 in
/-- column(x) -/
theorem mM_column (l : Launch) (dC : Nat → ClassId) (dI : Nat → Nat → Nat) (cI cZ : ClassId) (h0 sz : Nat) (qa : Nat → Nat) (pw : Int32) (n : Nat) (so a : Nat → Int32) (dp : Int32) (fs mg ro co fl : Nat → Int32) (lr gc : Int32) (x : Int32) (hok : ps_ok n so) : Met l yX2_column (ws_ yX2_column cX2_column 2 (some .int)) ({ frames := 3, cells := 0, slots := 0, locals := 73 }) (va_Pc [.ref h0, .int x] (preW dC dI cI cZ sz (wM h0 qa cI cZ pw (nI n) so a dp fs mg ro co fl lr gc))) (va_Qi (fun (r : Int32) (u : SM) => r = ps_q n x (ps_C so a n pw)) (fun u t => posW dC dI cI cZ (va_A (wM h0 qa cI cZ pw (nI n) so a dp fs mg ro co fl lr gc) sz) (wMt h0 qa cI cZ pw n so a u) t) (va_A (wM h0 qa cI cZ pw (nI n) so a dp fs mg ro co fl lr gc) sz)) 0 0 (va_A (wM h0 qa cI cZ pw (nI n) so a dp fs mg ro co fl lr gc) sz) := by
  refine Met.ofW (cc := cX2_column) (maxL := 2) (ret := (some .int)) (by decide) rfl ?_
  intro p e s m args below meth c s₁ B hml hv
  obtain ⟨rfl, hsz, hP, hK, hD0⟩ := hv
  have hx := B.exec
  have hb := B.bytes
  have hr := B.returns
  have hts := atoms_spec (ws := ws_ yX2_column cX2_column 2 (some .int)) B.pre
  have hts : ∀ w ∈ lw_all, w.before _ s = true := fun w h => hts w (List.mem_cons_of_mem _ h)
  have hown : s.vm.findClass RX2 = some m.cls := findClass_of_methodNamed B.named
  have hlocks := B.notSynchronized
  subst hsz
  have hD := hD0.self (sz := s.heap.size)
  generalize hAe : va_A (wM h0 qa cI cZ pw (nI n) so a dp fs mg ro co fl lr gc) s.heap.size = A at hD ⊢
  have hA : ∀ q : Nat, s.heap.size ≤ q → A q := fun q h => by rw [← hAe]; exact Or.inr h
  have hS : va_S A s.heap s.heap [] := va_S.rf
  have hl := lv_entry ([.ref h0, .int x]) (n := 2) (Nat.le_of_ble_eq_true rfl)
  rw [lg_entry_eq]
  generalize (lg_sl ([.ref h0, .int x]) ++ List.replicate (2 - (lg_sl ([.ref h0, .int x])).length) Slot.unset).toArray = ls at hl ⊢
  have hl : lv_has ls 2 [(0, .ref h0), (1, .int x)] := hl
  have hn60 := hok.1
  by_cases hq : x < 0 ∨ nI n ≤ x
  · refine lv_aload_n hx hb dX2_column_0 rfl (lv_at hl 0 rfl) ?_
    refine lv_iload_n hx hb dX2_column_1 rfl (lv_at hl 1 rfl) ?_
    refine zc_i (As := [.int x]) (rest := []) ⟨hx, hb, hml, hown, hts⟩ (mM_missing l dC dI cI cZ h0 s.heap.size qa pw n so a dp fs mg ro co fl lr gc x) (cwV 1 hts (lw_V q220 q222 qs7 q13 q223) rfl rfl rfl (by decide +kernel) ⟨Nat.le_of_ble_eq_true rfl, Nat.le_of_ble_eq_true rfl⟩) (ci := 1) rfl rfl hK hP hD hS hA rfl hl.1 rfl (Nat.le_of_ble_eq_true rfl) dX2_column_2 ⟨Nat.zero_le _, Nat.zero_le _⟩ (fun r_2 u_2 H locs hw_2 hP hD hS => ?_)
    have hP : va_P (dC, dI) vwCl (wM h0 qa cI cZ pw (nI n) so a dp fs mg ro co fl lr gc) H := hP
    have hD : va_D A (wM h0 qa cI cZ pw (nI n) so a dp fs mg ro co fl lr gc) := hD
    refine lv_if_eq (tgt := 10) hx hb dX2_column_5 (by decide) (fun c_5 => absurd c_5 (by rw [hw_2, if_pos hq]; decide)) (fun c_5 => ?_)
    refine lv_iconst (v := -1) hx hb dX2_column_8 (by decide) ?_
    exact W.iret (v := (-1)) hx hb hr (fun t ht hW => ⟨⟨(-1), (dp, fs, mg, ro, co, fl, lr, gc), rfl, (ps_q_no hq).symm, by rw [ht]; exact hP, va_K.moved hW.alike hK, hD⟩, hS.F ht⟩) hS.2.2 dX2_column_9
  · have hqn := hq
    rw [not_or] at hqn
    obtain ⟨j, hj, rfl⟩ : ∃ j : Nat, j < n ∧ x = nI j := by
      rcases pk_ix x (n := n) (by omega) with z | z | z
      · exact absurd z hqn.1
      · exact absurd z hqn.2
      · exact z
    refine lv_aload_n hx hb dX2_column_0 rfl (lv_at hl 0 rfl) ?_
    refine lv_iload_n hx hb dX2_column_1 rfl (lv_at hl 1 rfl) ?_
    refine zc_i (As := [.int (nI j)]) (rest := []) ⟨hx, hb, hml, hown, hts⟩ (mM_missing l dC dI cI cZ h0 s.heap.size qa pw n so a dp fs mg ro co fl lr gc (nI j)) (cwV 1 hts (lw_V q220 q222 qs7 q13 q223) rfl rfl rfl (by decide +kernel) ⟨Nat.le_of_ble_eq_true rfl, Nat.le_of_ble_eq_true rfl⟩) (ci := 1) rfl rfl hK hP hD hS hA rfl hl.1 rfl (Nat.le_of_ble_eq_true rfl) dX2_column_2 ⟨Nat.zero_le _, Nat.zero_le _⟩ (fun r_2 u_2 H locs hw_2 hP hD hS => ?_)
    have hP : va_P (dC, dI) vwCl (wM h0 qa cI cZ pw (nI n) so a dp fs mg ro co fl lr gc) H := hP
    have hD : va_D A (wM h0 qa cI cZ pw (nI n) so a dp fs mg ro co fl lr gc) := hD
    refine lv_if_eq (tgt := 10) hx hb dX2_column_5 (by decide) (fun c_5 => ?_) (fun c_5 => absurd (by rw [hw_2, if_neg hq]) c_5)
    refine lv_aload_n hx hb dX2_column_10 rfl (lv_at hl 0 rfl) ?_
    refine lv_aload_n hx hb dX2_column_11 rfl (lv_at hl 0 rfl) ?_
    refine va_get (D := (dC, dI)) (ci := 1) (v := .int pw) (C := RX2) (T := TX2) (N := 12) hx hb hts in_X2 hown hK hP 0 rfl rfl 0 (by decide) (hts _ q154) (fun _ h9 => h9) rfl dX2_column_12 ?_
    refine zc_v (As := [.int pw]) (rest := []) ⟨hx, hb, hml, hown, hts⟩ (mM_lay l dC dI cI cZ h0 H.size qa pw n so a dp fs mg ro co fl lr gc pw hok) (cwV 1 hts (lw_V q224 q226 qs8 q13 q227) rfl rfl rfl (by decide +kernel) ⟨Nat.le_of_ble_eq_true rfl, Nat.le_of_ble_eq_true rfl⟩) (ci := 1) rfl rfl hK hP hD hS hA rfl hl.1 rfl (Nat.le_of_ble_eq_true rfl) dX2_column_15 ⟨Nat.zero_le _, Nat.zero_le _⟩ (fun u_15 H locs hw_15 hP hD hS => ?_)
    obtain ⟨dp2, fs2, mg2, ro2, co2, fl2, lr2, gc2⟩ := u_15
    have hla := hw_15
    have hP : va_P (dC, dI) vwCl (wM h0 qa cI cZ pw (nI n) so a dp2 fs2 mg2 ro2 co2 fl2 lr2 gc2) H := hP
    have hD : va_D A (wM h0 qa cI cZ pw (nI n) so a dp2 fs2 mg2 ro2 co2 fl2 lr2 gc2) := hD
    refine lv_aload_n hx hb dX2_column_18 rfl (lv_at hl 0 rfl) ?_
    refine va_get (D := (dC, dI)) (ci := 1) (v := .ref (qa 5)) (C := RX2) (T := TX2) (N := 12) hx hb hts in_X2 hown hK hP 0 rfl rfl 8 (by decide) (hts _ q162) (fun _ h9 => h9) rfl dX2_column_19 ?_
    refine lv_iload_n hx hb dX2_column_22 rfl (lv_at hl 1 rfl) ?_
    refine zi_ald (v := ps_C so a n pw j) hx hb hK hP 6 0 rfl rfl (by omega) (by decide) ((hla.2.2 j hj).2.1) dX2_column_23 ?_
    exact W.iret (v := ps_C so a n pw j) hx hb hr (fun t ht hW => ⟨⟨ps_C so a n pw j, (dp2, fs2, mg2, ro2, co2, fl2, lr2, gc2), rfl, (ps_q_in hj hn60).symm, by rw [ht]; exact hP, va_K.moved hW.alike hK, hD⟩, hS.F ht⟩) hS.2.2 dX2_column_24
set_option maxHeartbeats 4000000 in
set_option maxRecDepth 100000 in
/-- flat(x) -/
theorem mM_flat (l : Launch) (dC : Nat → ClassId) (dI : Nat → Nat → Nat) (cI cZ : ClassId) (h0 sz : Nat) (qa : Nat → Nat) (pw : Int32) (n : Nat) (so a : Nat → Int32) (dp : Int32) (fs mg ro co fl : Nat → Int32) (lr gc : Int32) (x : Int32) (hok : ps_ok n so) : Met l yX2_flat (ws_ yX2_flat cX2_flat 2 (some .int)) ({ frames := 3, cells := 0, slots := 0, locals := 73 }) (va_Pc [.ref h0, .int x] (preW dC dI cI cZ sz (wM h0 qa cI cZ pw (nI n) so a dp fs mg ro co fl lr gc))) (va_Qi (fun (r : Int32) (u : SM) => r = ps_q n x (fun j => if so j = 2 then ps_Z so a n pw j else -1)) (fun u t => posW dC dI cI cZ (va_A (wM h0 qa cI cZ pw (nI n) so a dp fs mg ro co fl lr gc) sz) (wMt h0 qa cI cZ pw n so a u) t) (va_A (wM h0 qa cI cZ pw (nI n) so a dp fs mg ro co fl lr gc) sz)) 0 0 (va_A (wM h0 qa cI cZ pw (nI n) so a dp fs mg ro co fl lr gc) sz) := by
  refine Met.ofW (cc := cX2_flat) (maxL := 2) (ret := (some .int)) (by decide) rfl ?_
  intro p e s m args below meth c s₁ B hml hv
  obtain ⟨rfl, hsz, hP, hK, hD0⟩ := hv
  have hx := B.exec
  have hb := B.bytes
  have hr := B.returns
  have hts := atoms_spec (ws := ws_ yX2_flat cX2_flat 2 (some .int)) B.pre
  have hts : ∀ w ∈ lw_all, w.before _ s = true := fun w h => hts w (List.mem_cons_of_mem _ h)
  have hown : s.vm.findClass RX2 = some m.cls := findClass_of_methodNamed B.named
  have hlocks := B.notSynchronized
  subst hsz
  have hD := hD0.self (sz := s.heap.size)
  generalize hAe : va_A (wM h0 qa cI cZ pw (nI n) so a dp fs mg ro co fl lr gc) s.heap.size = A at hD ⊢
  have hA : ∀ q : Nat, s.heap.size ≤ q → A q := fun q h => by rw [← hAe]; exact Or.inr h
  have hS : va_S A s.heap s.heap [] := va_S.rf
  have hl := lv_entry ([.ref h0, .int x]) (n := 2) (Nat.le_of_ble_eq_true rfl)
  rw [lg_entry_eq]
  generalize (lg_sl ([.ref h0, .int x]) ++ List.replicate (2 - (lg_sl ([.ref h0, .int x])).length) Slot.unset).toArray = ls at hl ⊢
  have hl : lv_has ls 2 [(0, .ref h0), (1, .int x)] := hl
  have hn60 := hok.1
  by_cases hq : x < 0 ∨ nI n ≤ x
  · refine lv_aload_n hx hb dX2_flat_0 rfl (lv_at hl 0 rfl) ?_
    refine lv_iload_n hx hb dX2_flat_1 rfl (lv_at hl 1 rfl) ?_
    refine zc_i (As := [.int x]) (rest := []) ⟨hx, hb, hml, hown, hts⟩ (mM_missing l dC dI cI cZ h0 s.heap.size qa pw n so a dp fs mg ro co fl lr gc x) (cwV 1 hts (lw_V q220 q222 qs7 q13 q223) rfl rfl rfl (by decide +kernel) ⟨Nat.le_of_ble_eq_true rfl, Nat.le_of_ble_eq_true rfl⟩) (ci := 1) rfl rfl hK hP hD hS hA rfl hl.1 rfl (Nat.le_of_ble_eq_true rfl) dX2_flat_2 ⟨Nat.zero_le _, Nat.zero_le _⟩ (fun r_2 u_2 H locs hw_2 hP hD hS => ?_)
    have hP : va_P (dC, dI) vwCl (wM h0 qa cI cZ pw (nI n) so a dp fs mg ro co fl lr gc) H := hP
    have hD : va_D A (wM h0 qa cI cZ pw (nI n) so a dp fs mg ro co fl lr gc) := hD
    refine lv_if_ne (tgt := 18) hx hb dX2_flat_5 (by decide) (fun c_5 => ?_) (fun c_5 => absurd c_5 (by rw [hw_2, if_pos hq]; decide))
    refine lv_iconst (v := -1) hx hb dX2_flat_18 (by decide) ?_
    exact W.iret (v := (-1)) hx hb hr (fun t ht hW => ⟨⟨(-1), (dp, fs, mg, ro, co, fl, lr, gc), rfl, (ps_q_no hq).symm, by rw [ht]; exact hP, va_K.moved hW.alike hK, hD⟩, hS.F ht⟩) hS.2.2 dX2_flat_19
  · have hqn := hq
    rw [not_or] at hqn
    obtain ⟨j, hj, rfl⟩ : ∃ j : Nat, j < n ∧ x = nI j := by
      rcases pk_ix x (n := n) (by omega) with z | z | z
      · exact absurd z hqn.1
      · exact absurd z hqn.2
      · exact z
    refine lv_aload_n hx hb dX2_flat_0 rfl (lv_at hl 0 rfl) ?_
    refine lv_iload_n hx hb dX2_flat_1 rfl (lv_at hl 1 rfl) ?_
    refine zc_i (As := [.int (nI j)]) (rest := []) ⟨hx, hb, hml, hown, hts⟩ (mM_missing l dC dI cI cZ h0 s.heap.size qa pw n so a dp fs mg ro co fl lr gc (nI j)) (cwV 1 hts (lw_V q220 q222 qs7 q13 q223) rfl rfl rfl (by decide +kernel) ⟨Nat.le_of_ble_eq_true rfl, Nat.le_of_ble_eq_true rfl⟩) (ci := 1) rfl rfl hK hP hD hS hA rfl hl.1 rfl (Nat.le_of_ble_eq_true rfl) dX2_flat_2 ⟨Nat.zero_le _, Nat.zero_le _⟩ (fun r_2 u_2 H locs hw_2 hP hD hS => ?_)
    have hP : va_P (dC, dI) vwCl (wM h0 qa cI cZ pw (nI n) so a dp fs mg ro co fl lr gc) H := hP
    have hD : va_D A (wM h0 qa cI cZ pw (nI n) so a dp fs mg ro co fl lr gc) := hD
    refine lv_if_ne (tgt := 18) hx hb dX2_flat_5 (by decide) (fun c_5 => absurd (by rw [hw_2, if_neg hq]) c_5) (fun c_5 => ?_)
    refine lv_aload_n hx hb dX2_flat_8 rfl (lv_at hl 0 rfl) ?_
    refine va_get (D := (dC, dI)) (ci := 1) (v := .ref (qa 0)) (C := RX2) (T := TX2) (N := 12) hx hb hts in_X2 hown hK hP 0 rfl rfl 2 (by decide) (hts _ q156) (fun _ h9 => h9) rfl dX2_flat_9 ?_
    refine lv_iload_n hx hb dX2_flat_12 rfl (lv_at hl 1 rfl) ?_
    refine zi_ald (v := so j) hx hb hK hP 1 0 rfl rfl (by omega) (by decide) (rfl) dX2_flat_13 ?_
    refine lv_iconst (v := 2) hx hb dX2_flat_14 (by decide) ?_
    refine lv_icmp_eq (tgt := 20) hx hb dX2_flat_15 (by decide) (fun c_15 => ?_) (fun c_15 => ?_)
    · refine lv_aload_n hx hb dX2_flat_20 rfl (lv_at hl 0 rfl) ?_
      refine lv_aload_n hx hb dX2_flat_21 rfl (lv_at hl 0 rfl) ?_
      refine va_get (D := (dC, dI)) (ci := 1) (v := .int pw) (C := RX2) (T := TX2) (N := 12) hx hb hts in_X2 hown hK hP 0 rfl rfl 0 (by decide) (hts _ q154) (fun _ h9 => h9) rfl dX2_flat_22 ?_
      refine zc_v (As := [.int pw]) (rest := []) ⟨hx, hb, hml, hown, hts⟩ (mM_lay l dC dI cI cZ h0 H.size qa pw n so a dp fs mg ro co fl lr gc pw hok) (cwV 1 hts (lw_V q224 q226 qs8 q13 q227) rfl rfl rfl (by decide +kernel) ⟨Nat.le_of_ble_eq_true rfl, Nat.le_of_ble_eq_true rfl⟩) (ci := 1) rfl rfl hK hP hD hS hA rfl hl.1 rfl (Nat.le_of_ble_eq_true rfl) dX2_flat_25 ⟨Nat.zero_le _, Nat.zero_le _⟩ (fun u_25 H locs hw_25 hP hD hS => ?_)
      obtain ⟨dp2, fs2, mg2, ro2, co2, fl2, lr2, gc2⟩ := u_25
      have hla := hw_25
      have hP : va_P (dC, dI) vwCl (wM h0 qa cI cZ pw (nI n) so a dp2 fs2 mg2 ro2 co2 fl2 lr2 gc2) H := hP
      have hD : va_D A (wM h0 qa cI cZ pw (nI n) so a dp2 fs2 mg2 ro2 co2 fl2 lr2 gc2) := hD
      refine lv_aload_n hx hb dX2_flat_28 rfl (lv_at hl 0 rfl) ?_
      refine va_get (D := (dC, dI)) (ci := 1) (v := .ref (qa 6)) (C := RX2) (T := TX2) (N := 12) hx hb hts in_X2 hown hK hP 0 rfl rfl 9 (by decide) (hts _ q163) (fun _ h9 => h9) rfl dX2_flat_29 ?_
      refine lv_iload_n hx hb dX2_flat_32 rfl (lv_at hl 1 rfl) ?_
      refine zz_ald (v := ps_Z so a n pw j) hx hb hK hP 7 1 rfl rfl (by omega) (by decide) ((hla.2.2 j hj).2.2 c_15) dX2_flat_33 ?_
      refine lv_if_eq (tgt := 41) hx hb dX2_flat_34 (by decide) (fun c_34 => ?_) (fun c_34 => ?_)
      · refine lv_iconst (v := 0) hx hb dX2_flat_41 (by decide) ?_
        exact W.iret (v := 0) hx hb hr (fun t ht hW => ⟨⟨0, (dp2, fs2, mg2, ro2, co2, fl2, lr2, gc2), rfl, by rw [ps_q_in hj hn60, if_pos c_15, c_34], by rw [ht]; exact hP, va_K.moved hW.alike hK, hD⟩, hS.F ht⟩) hS.2.2 dX2_flat_42
      · refine lv_iconst (v := 1) hx hb dX2_flat_37 (by decide) ?_
        refine lv_goto (tgt := 42) hx hb dX2_flat_38 (by decide) ?_
        exact W.iret (v := 1) hx hb hr (fun t ht hW => ⟨⟨1, (dp2, fs2, mg2, ro2, co2, fl2, lr2, gc2), rfl, by rw [ps_q_in hj hn60, if_pos c_15]; exact ((ps_en01 _ _ _ _ _).resolve_left c_34).symm, by rw [ht]; exact hP, va_K.moved hW.alike hK, hD⟩, hS.F ht⟩) hS.2.2 dX2_flat_42
    · refine lv_iconst (v := -1) hx hb dX2_flat_18 (by decide) ?_
      exact W.iret (v := (-1)) hx hb hr (fun t ht hW => ⟨⟨(-1), (dp, fs, mg, ro, co, fl, lr, gc), rfl, by rw [ps_q_in hj hn60, if_neg c_15], by rw [ht]; exact hP, va_K.moved hW.alike hK, hD⟩, hS.F ht⟩) hS.2.2 dX2_flat_19
set_option maxHeartbeats 4000000 in
set_option maxRecDepth 100000 in
/-- rows() -/
theorem mM_rows (l : Launch) (dC : Nat → ClassId) (dI : Nat → Nat → Nat) (cI cZ : ClassId) (h0 sz : Nat) (qa : Nat → Nat) (pw : Int32) (n : Nat) (so a : Nat → Int32) (dp : Int32) (fs mg ro co fl : Nat → Int32) (lr gc : Int32) (hok : ps_ok n so) : Met l yX2_rows (ws_ yX2_rows cX2_rows 1 (some .int)) ({ frames := 3, cells := 0, slots := 0, locals := 73 }) (va_Pc [.ref h0] (preW dC dI cI cZ sz (wM h0 qa cI cZ pw (nI n) so a dp fs mg ro co fl lr gc))) (va_Qi (fun (r : Int32) (u : SM) => r = ps_R so a n pw n + 1) (fun u t => posW dC dI cI cZ (va_A (wM h0 qa cI cZ pw (nI n) so a dp fs mg ro co fl lr gc) sz) (wMt h0 qa cI cZ pw n so a u) t) (va_A (wM h0 qa cI cZ pw (nI n) so a dp fs mg ro co fl lr gc) sz)) 0 0 (va_A (wM h0 qa cI cZ pw (nI n) so a dp fs mg ro co fl lr gc) sz) := by
  refine Met.ofW (cc := cX2_rows) (maxL := 1) (ret := (some .int)) (by decide) rfl ?_
  intro p e s m args below meth c s₁ B hml hv
  obtain ⟨rfl, hsz, hP, hK, hD0⟩ := hv
  have hx := B.exec
  have hb := B.bytes
  have hr := B.returns
  have hts := atoms_spec (ws := ws_ yX2_rows cX2_rows 1 (some .int)) B.pre
  have hts : ∀ w ∈ lw_all, w.before _ s = true := fun w h => hts w (List.mem_cons_of_mem _ h)
  have hown : s.vm.findClass RX2 = some m.cls := findClass_of_methodNamed B.named
  have hlocks := B.notSynchronized
  subst hsz
  have hD := hD0.self (sz := s.heap.size)
  generalize hAe : va_A (wM h0 qa cI cZ pw (nI n) so a dp fs mg ro co fl lr gc) s.heap.size = A at hD ⊢
  have hA : ∀ q : Nat, s.heap.size ≤ q → A q := fun q h => by rw [← hAe]; exact Or.inr h
  have hS : va_S A s.heap s.heap [] := va_S.rf
  have hl := lv_entry ([.ref h0]) (n := 1) (Nat.le_of_ble_eq_true rfl)
  rw [lg_entry_eq]
  generalize (lg_sl ([.ref h0]) ++ List.replicate (1 - (lg_sl ([.ref h0])).length) Slot.unset).toArray = ls at hl ⊢
  have hl : lv_has ls 1 [(0, .ref h0)] := hl
  refine lv_aload_n hx hb dX2_rows_0 rfl (lv_at hl 0 rfl) ?_
  refine lv_aload_n hx hb dX2_rows_1 rfl (lv_at hl 0 rfl) ?_
  refine va_get (D := (dC, dI)) (ci := 1) (v := .int pw) (C := RX2) (T := TX2) (N := 12) hx hb hts in_X2 hown hK hP 0 rfl rfl 0 (by decide) (hts _ q154) (fun _ h9 => h9) rfl dX2_rows_2 ?_
  refine zc_v (As := [.int pw]) (rest := []) ⟨hx, hb, hml, hown, hts⟩ (mM_lay l dC dI cI cZ h0 s.heap.size qa pw n so a dp fs mg ro co fl lr gc pw hok) (cwV 1 hts (lw_V q224 q226 qs8 q13 q227) rfl rfl rfl (by decide +kernel) ⟨Nat.le_of_ble_eq_true rfl, Nat.le_of_ble_eq_true rfl⟩) (ci := 1) rfl rfl hK hP hD hS hA rfl hl.1 rfl (Nat.le_of_ble_eq_true rfl) dX2_rows_5 ⟨Nat.zero_le _, Nat.zero_le _⟩ (fun u_5 H locs hw_5 hP hD hS => ?_)
  obtain ⟨dp2, fs2, mg2, ro2, co2, fl2, lr2, gc2⟩ := u_5
  have hla := hw_5
  have hP : va_P (dC, dI) vwCl (wM h0 qa cI cZ pw (nI n) so a dp2 fs2 mg2 ro2 co2 fl2 lr2 gc2) H := hP
  have hD : va_D A (wM h0 qa cI cZ pw (nI n) so a dp2 fs2 mg2 ro2 co2 fl2 lr2 gc2) := hD
  refine lv_aload_n hx hb dX2_rows_8 rfl (lv_at hl 0 rfl) ?_
  refine va_get (D := (dC, dI)) (ci := 1) (v := .int lr2) (C := RX2) (T := TX2) (N := 12) hx hb hts in_X2 hown hK hP 0 rfl rfl 10 (by decide) (hts _ q164) (fun _ h9 => h9) rfl dX2_rows_9 ?_
  refine lv_iconst (v := 1) hx hb dX2_rows_12 (by decide) ?_
  refine lv_iadd hx hb dX2_rows_13 ?_
  exact W.iret (v := lr2 + 1) hx hb hr (fun t ht hW => ⟨⟨lr2 + 1, (dp2, fs2, mg2, ro2, co2, fl2, lr2, gc2), rfl, by rw [← hla.1], by rw [ht]; exact hP, va_K.moved hW.alike hK, hD⟩, hS.F ht⟩) hS.2.2 dX2_rows_14
set_option maxHeartbeats 4000000 in
set_option maxRecDepth 100000 in
/-- widest() -/
theorem mM_widest (l : Launch) (dC : Nat → ClassId) (dI : Nat → Nat → Nat) (cI cZ : ClassId) (h0 sz : Nat) (qa : Nat → Nat) (pw : Int32) (n : Nat) (so a : Nat → Int32) (dp : Int32) (fs mg ro co fl : Nat → Int32) (lr gc : Int32) (hok : ps_ok n so) : Met l yX2_widest (ws_ yX2_widest cX2_widest 1 (some .int)) ({ frames := 3, cells := 0, slots := 0, locals := 73 }) (va_Pc [.ref h0] (preW dC dI cI cZ sz (wM h0 qa cI cZ pw (nI n) so a dp fs mg ro co fl lr gc))) (va_Qi (fun (r : Int32) (u : SM) => r = ps_G so a n pw n) (fun u t => posW dC dI cI cZ (va_A (wM h0 qa cI cZ pw (nI n) so a dp fs mg ro co fl lr gc) sz) (wMt h0 qa cI cZ pw n so a u) t) (va_A (wM h0 qa cI cZ pw (nI n) so a dp fs mg ro co fl lr gc) sz)) 0 0 (va_A (wM h0 qa cI cZ pw (nI n) so a dp fs mg ro co fl lr gc) sz) := by
  refine Met.ofW (cc := cX2_widest) (maxL := 1) (ret := (some .int)) (by decide) rfl ?_
  intro p e s m args below meth c s₁ B hml hv
  obtain ⟨rfl, hsz, hP, hK, hD0⟩ := hv
  have hx := B.exec
  have hb := B.bytes
  have hr := B.returns
  have hts := atoms_spec (ws := ws_ yX2_widest cX2_widest 1 (some .int)) B.pre
  have hts : ∀ w ∈ lw_all, w.before _ s = true := fun w h => hts w (List.mem_cons_of_mem _ h)
  have hown : s.vm.findClass RX2 = some m.cls := findClass_of_methodNamed B.named
  have hlocks := B.notSynchronized
  subst hsz
  have hD := hD0.self (sz := s.heap.size)
  generalize hAe : va_A (wM h0 qa cI cZ pw (nI n) so a dp fs mg ro co fl lr gc) s.heap.size = A at hD ⊢
  have hA : ∀ q : Nat, s.heap.size ≤ q → A q := fun q h => by rw [← hAe]; exact Or.inr h
  have hS : va_S A s.heap s.heap [] := va_S.rf
  have hl := lv_entry ([.ref h0]) (n := 1) (Nat.le_of_ble_eq_true rfl)
  rw [lg_entry_eq]
  generalize (lg_sl ([.ref h0]) ++ List.replicate (1 - (lg_sl ([.ref h0])).length) Slot.unset).toArray = ls at hl ⊢
  have hl : lv_has ls 1 [(0, .ref h0)] := hl
  refine lv_aload_n hx hb dX2_widest_0 rfl (lv_at hl 0 rfl) ?_
  refine lv_aload_n hx hb dX2_widest_1 rfl (lv_at hl 0 rfl) ?_
  refine va_get (D := (dC, dI)) (ci := 1) (v := .int pw) (C := RX2) (T := TX2) (N := 12) hx hb hts in_X2 hown hK hP 0 rfl rfl 0 (by decide) (hts _ q154) (fun _ h9 => h9) rfl dX2_widest_2 ?_
  refine zc_v (As := [.int pw]) (rest := []) ⟨hx, hb, hml, hown, hts⟩ (mM_lay l dC dI cI cZ h0 s.heap.size qa pw n so a dp fs mg ro co fl lr gc pw hok) (cwV 1 hts (lw_V q224 q226 qs8 q13 q227) rfl rfl rfl (by decide +kernel) ⟨Nat.le_of_ble_eq_true rfl, Nat.le_of_ble_eq_true rfl⟩) (ci := 1) rfl rfl hK hP hD hS hA rfl hl.1 rfl (Nat.le_of_ble_eq_true rfl) dX2_widest_5 ⟨Nat.zero_le _, Nat.zero_le _⟩ (fun u_5 H locs hw_5 hP hD hS => ?_)
  obtain ⟨dp2, fs2, mg2, ro2, co2, fl2, lr2, gc2⟩ := u_5
  have hla := hw_5
  have hP : va_P (dC, dI) vwCl (wM h0 qa cI cZ pw (nI n) so a dp2 fs2 mg2 ro2 co2 fl2 lr2 gc2) H := hP
  have hD : va_D A (wM h0 qa cI cZ pw (nI n) so a dp2 fs2 mg2 ro2 co2 fl2 lr2 gc2) := hD
  refine lv_aload_n hx hb dX2_widest_8 rfl (lv_at hl 0 rfl) ?_
  refine va_get (D := (dC, dI)) (ci := 1) (v := .int gc2) (C := RX2) (T := TX2) (N := 12) hx hb hts in_X2 hown hK hP 0 rfl rfl 11 (by decide) (hts _ q165) (fun _ h9 => h9) rfl dX2_widest_9 ?_
  exact W.iret (v := gc2) hx hb hr (fun t ht hW => ⟨⟨gc2, (dp2, fs2, mg2, ro2, co2, fl2, lr2, gc2), rfl, by rw [← hla.2.1], by rw [ht]; exact hP, va_K.moved hW.alike hK, hD⟩, hS.F ht⟩) hS.2.2 dX2_widest_12
set_option maxHeartbeats 4000000 in
set_option maxRecDepth 100000 in
/-- leastWidth(x) -/
theorem mM_leastWidth (l : Launch) (dC : Nat → ClassId) (dI : Nat → Nat → Nat) (cI cZ : ClassId) (h0 sz : Nat) (qa : Nat → Nat) (pw : Int32) (n : Nat) (so a : Nat → Int32) (dp : Int32) (fs mg ro co fl : Nat → Int32) (lr gc : Int32) (x : Int32) (hok : ps_ok n so) : Met l yX2_leastWidth (ws_ yX2_leastWidth cX2_leastWidth 3 (some .int)) ({ frames := 3, cells := 0, slots := 0, locals := 73 }) (va_Pc [.ref h0, .int x] (preW dC dI cI cZ sz (wM h0 qa cI cZ pw (nI n) so a dp fs mg ro co fl lr gc))) (va_Qi (fun (r : Int32) (u : SM) => r = ps_lw so a n x 100) (fun u t => posW dC dI cI cZ (va_A (wM h0 qa cI cZ pw (nI n) so a dp fs mg ro co fl lr gc) sz) (wMt h0 qa cI cZ pw n so a u) t) (va_A (wM h0 qa cI cZ pw (nI n) so a dp fs mg ro co fl lr gc) sz)) 0 0 (va_A (wM h0 qa cI cZ pw (nI n) so a dp fs mg ro co fl lr gc) sz) := by
  refine Met.ofW (cc := cX2_leastWidth) (maxL := 3) (ret := (some .int)) (by decide) rfl ?_
  intro p e s m args below meth c s₁ B hml hv
  obtain ⟨rfl, hsz, hP, hK, hD0⟩ := hv
  have hx := B.exec
  have hb := B.bytes
  have hr := B.returns
  have hts := atoms_spec (ws := ws_ yX2_leastWidth cX2_leastWidth 3 (some .int)) B.pre
  have hts : ∀ w ∈ lw_all, w.before _ s = true := fun w h => hts w (List.mem_cons_of_mem _ h)
  have hown : s.vm.findClass RX2 = some m.cls := findClass_of_methodNamed B.named
  have hlocks := B.notSynchronized
  subst hsz
  have hD := hD0.self (sz := s.heap.size)
  generalize hAe : va_A (wM h0 qa cI cZ pw (nI n) so a dp fs mg ro co fl lr gc) s.heap.size = A at hD ⊢
  have hA : ∀ q : Nat, s.heap.size ≤ q → A q := fun q h => by rw [← hAe]; exact Or.inr h
  have hS : va_S A s.heap s.heap [] := va_S.rf
  have hl := lv_entry ([.ref h0, .int x]) (n := 3) (Nat.le_of_ble_eq_true rfl)
  rw [lg_entry_eq]
  generalize (lg_sl ([.ref h0, .int x]) ++ List.replicate (3 - (lg_sl ([.ref h0, .int x])).length) Slot.unset).toArray = ls at hl ⊢
  have hl : lv_has ls 3 [(0, .ref h0), (1, .int x)] := hl
  refine lv_iconst (v := nI 1) hx hb dX2_leastWidth_0 (by decide) ?_
  refine lv_istore_n (lv' := [(2, .int (nI 1)), (0, .ref h0), (1, .int x)]) hx hb dX2_leastWidth_1 rfl hl (by decide) rfl (fun ls hl => ?_)
  refine zl_loop (I := fun k H locs ls => ∃ (v : Nat) (df : Int32) (sf : Nat → Int32) (mf : Nat → Int32) (rf : Nat → Int32) (cf : Nat → Int32) (ff : Nat → Int32) (lf : Int32) (gf : Int32), (k = 101 - v) ∧ (1 ≤ v) ∧ (v ≤ 101) ∧ (ps_lw so a n x 100 = ps_lw so a n x (101 - v)) ∧ va_P (dC, dI) vwCl (wM h0 qa cI cZ pw (nI n) so a df sf mf rf cf ff lf gf) H ∧ va_D A (wM h0 qa cI cZ pw (nI n) so a df sf mf rf cf ff lf gf) ∧ va_S A s.heap H locs ∧ lv_has ls 3 [(0, .ref h0), (1, .int x), (2, .int (nI v))]) ?_ 100 _ _ _ ⟨1, dp, fs, mg, ro, co, fl, lr, gc, rfl, Nat.le_refl 1, by omega, rfl, hP, hD, hS, lv_sub hl [1, 2, 0] rfl⟩
  intro k H locs ls hI ih
  obtain ⟨v, df, sf, mf, rf, cf, ff, lf, gf, hk, hv1, hv, hlw, hP, hD, hS, hl⟩ := hI
  refine lv_iload_n hx hb dX2_leastWidth_2 rfl (lv_at hl 2 rfl) ?_
  refine lv_bipush (v := 100) hx hb dX2_leastWidth_3 (by decide) ?_
  refine lv_icmp_gt (tgt := 31) hx hb dX2_leastWidth_5 (by decide) (fun c_5 => ?_) (fun c_5 => ?_)
  · have hv101 : v = 101 := by have := (nI_ltI (a := 100) (b := v) (by omega) (by omega)).mp c_5; omega
    refine lv_bipush (v := 101) hx hb dX2_leastWidth_31 (by decide) ?_
    exact W.iret (v := 101) hx hb hr (fun t ht hW => ⟨⟨101, (df, sf, mf, rf, cf, ff, lf, gf), rfl, by rw [hlw, hv101]; rfl, by rw [ht]; exact hP, va_K.moved hW.alike hK, hD⟩, hS.F ht⟩) hS.2.2 dX2_leastWidth_33
  · have hv100 : v ≤ 100 := by
      rcases Nat.lt_or_ge 100 v with z | z
      · exact absurd ((nI_ltI (a := 100) (b := v) (by omega) (by omega)).mpr z) c_5
      · exact z
    refine lv_aload_n hx hb dX2_leastWidth_8 rfl (lv_at hl 0 rfl) ?_
    refine lv_iload_n hx hb dX2_leastWidth_9 rfl (lv_at hl 2 rfl) ?_
    refine zc_v (As := [.int (nI v)]) (rest := []) ⟨hx, hb, hml, hown, hts⟩ (mM_lay l dC dI cI cZ h0 H.size qa pw n so a df sf mf rf cf ff lf gf (nI v) hok) (cwV 1 hts (lw_V q224 q226 qs8 q13 q227) rfl rfl rfl (by decide +kernel) ⟨Nat.le_of_ble_eq_true rfl, Nat.le_of_ble_eq_true rfl⟩) (ci := 1) rfl rfl hK hP hD hS hA rfl hl.1 rfl (Nat.le_of_ble_eq_true rfl) dX2_leastWidth_10 ⟨Nat.zero_le _, Nat.zero_le _⟩ (fun u_10 H locs hw_10 hP hD hS => ?_)
    obtain ⟨dp2, fs2, mg2, ro2, co2, fl2, lr2, gc2⟩ := u_10
    have hP : va_P (dC, dI) vwCl (wM h0 qa cI cZ pw (nI n) so a dp2 fs2 mg2 ro2 co2 fl2 lr2 gc2) H := hP
    have hD : va_D A (wM h0 qa cI cZ pw (nI n) so a dp2 fs2 mg2 ro2 co2 fl2 lr2 gc2) := hD
    refine lv_aload_n hx hb dX2_leastWidth_13 rfl (lv_at hl 0 rfl) ?_
    refine va_get (D := (dC, dI)) (ci := 1) (v := .int lr2) (C := RX2) (T := TX2) (N := 12) hx hb hts in_X2 hown hK hP 0 rfl rfl 10 (by decide) (hts _ q164) (fun _ h9 => h9) rfl dX2_leastWidth_14 ?_
    refine lv_iconst (v := 1) hx hb dX2_leastWidth_17 (by decide) ?_
    refine lv_iadd hx hb dX2_leastWidth_18 ?_
    refine lv_iload_n hx hb dX2_leastWidth_19 rfl (lv_at hl 1 rfl) ?_
    refine lv_icmp_gt (tgt := 25) hx hb dX2_leastWidth_20 (by decide) (fun c_20 => ?_) (fun c_20 => ?_)
    · refine lv_iinc (v := nI (v + 1)) (lv' := [(2, .int (nI (v + 1))), (0, .ref h0), (1, .int x)]) hx hb dX2_leastWidth_25 hl (k := 2) rfl (nI_1 _) (by decide) rfl (fun ls hl => ?_)
      refine lv_goto (tgt := 2) hx hb dX2_leastWidth_28 (by decide) ?_
      exact ih (101 - (v + 1)) _ _ _ (by omega) ⟨v + 1, _, _, _, _, _, _, _, _, rfl, by omega, by omega, by rw [hlw, ps_lw_s hv1 hv100, if_neg (by rw [← hw_10.1]; exact Int32.not_le.mpr c_20)], hP, hD, hS, lv_sub hl [1, 2, 0] rfl⟩
    · refine lv_iload_n hx hb dX2_leastWidth_23 rfl (lv_at hl 2 rfl) ?_
      exact W.iret (v := nI v) hx hb hr (fun t ht hW => ⟨⟨nI v, (dp2, fs2, mg2, ro2, co2, fl2, lr2, gc2), rfl, by rw [hlw, ps_lw_s hv1 hv100, if_pos (by rw [← hw_10.1]; exact Int32.not_lt.mp c_20)], by rw [ht]; exact hP, va_K.moved hW.alike hK, hD⟩, hS.F ht⟩) hS.2.2 dX2_leastWidth_24
end
section
theorem zk_same {D : va_G} {cl : List vw_C} {t1 t2 : List (ClassId × FieldType)} {U : State} (h1 : va_K D cl t1 U) (h2 : va_K D cl t2 U) {i j : Nat} {c1 c2 : ClassId} (e1 : t1[i]? = some (c1, .int)) (e2 : t2[j]? = some (c2, .int)) : c2 = c1 := Option.some.inj (((h2.2 j _ e2).2).symm.trans (h1.2 i _ e1).2)
theorem zk_sameZ {D : va_G} {cl : List vw_C} {t1 t2 : List (ClassId × FieldType)} {U : State} (h1 : va_K D cl t1 U) (h2 : va_K D cl t2 U) {i j : Nat} {c1 c2 : ClassId} (e1 : t1[i]? = some (c1, .boolean)) (e2 : t2[j]? = some (c2, .boolean)) : c2 = c1 := Option.some.inj (((h2.2 j _ e2).2).symm.trans (h1.2 i _ e1).2)
abbrev ps_0 : Nat → Int32 := fun _ => 0
abbrev fX : List Value := [.int 0, .int 0, .int 0, .null, .null, .int 0, .null, .null, .null, .null, .int 0, .null, .null, .null, .null, .int 0, .int 0]
abbrev fM : List Value := [.int 0, .int 0, .null, .null, .int 0, .null, .null, .null, .null, .null, .int 0, .int 0]
set_option maxHeartbeats 4000000 in
set_option maxRecDepth 100000 in
/-- PrettyStream(x): a new object with its arrays -/
theorem mX_init (l : Launch) (dC : Nat → ClassId) (dI : Nat → Nat → Nat) (h0 sz : Nat) (x : Int32) : Met l yX1_init (ws_ yX1_init cX1_init 2 none) ({ frames := 1, cells := 10, slots := 552, locals := 21 }) (va_Pc [.ref h0, .int x] (fun U => U.heap.size = sz ∧ va_P (dC, dI) vwCl [(h0, .inr (0, fX))] U.heap ∧ va_K (dC, dI) vwCl [] U ∧ va_D (fun _ => True) [(h0, .inr (0, fX))])) (va_Qv (fun _ : (Nat → Nat) × ClassId × ClassId => True) (fun u t => posW dC dI u.2.1 u.2.2 (va_A [(h0, .inr (0, fX))] sz) (wX h0 u.1 u.2.1 u.2.2 (ps_wd x) (nI 0) 0 ps_0 ps_0 0 ps_0 ps_0 ps_0 ps_0 0 ps_0 ps_0 ps_0 ps_0 0 0) t) (va_A [(h0, .inr (0, fX))] sz)) 10 552 (va_A [(h0, .inr (0, fX))] sz) := by
  refine Met.ofW (cc := cX1_init) (maxL := 2) (ret := none) (by decide) rfl ?_
  intro p e s m args below meth c s₁ B hml hv
  obtain ⟨rfl, hsz, hP, hK, hD0⟩ := hv
  have hx := B.exec
  have hb := B.bytes
  have hr := B.returns
  have hts := atoms_spec (ws := ws_ yX1_init cX1_init 2 none) B.pre
  have hts : ∀ w ∈ lw_all, w.before _ s = true := fun w h => hts w (List.mem_cons_of_mem _ h)
  have hown : s.vm.findClass RX1 = some m.cls := findClass_of_methodNamed B.named
  have hlocks := B.notSynchronized
  have hin : meth.name = "<init>" := (name_of_methodNamed B.named B.method).1
  subst hsz
  have hD := hD0.self (sz := s.heap.size)
  generalize hAe : va_A [(h0, .inr (0, fX))] s.heap.size = A at hD ⊢
  have hA : ∀ q : Nat, s.heap.size ≤ q → A q := fun q h => by rw [← hAe]; exact Or.inr h
  have hS : va_S A s.heap s.heap [] := va_S.rf
  have hl := lv_entry ([.ref h0, .int x]) (n := 2) (Nat.le_of_ble_eq_true rfl)
  rw [lg_entry_eq]
  generalize (lg_sl ([.ref h0, .int x]) ++ List.replicate (2 - (lg_sl ([.ref h0, .int x])).length) Slot.unset).toArray = ls at hl ⊢
  have hl : lv_has ls 2 [(0, .ref h0), (1, .int x)] := hl
  refine lv_aload_n hx hb dX1_init_0 rfl (lv_at hl 0 rfl) ?_
  refine W.objInit hx hb hown (hts _ q19) (hts _ q20) (hts _ q21) rfl (by rw [hml]; exact hl.1) rfl dX1_init_1 (Nat.le_of_ble_eq_true rfl) (Nat.le_of_ble_eq_true rfl) ?_
  refine W.eq (g2 := F0 m 4 ls []) rfl ?_
  refine lv_aload_n hx hb dX1_init_4 rfl (lv_at hl 0 rfl) ?_
  refine lv_bipush (v := 60) hx hb dX1_init_5 (by decide) ?_
  refine va_newa (atype := .int) (ty := .int) (N' := 60) (a0 := (60, .inl ps_0)) hx hb (hts _ q78) rfl hK hP hD hS hA (fun _ => rfl) (by decide) (by decide) (by decide) (Nat.le_of_ble_eq_true rfl) (Nat.le_of_ble_eq_true rfl) dX1_init_7 (fun q_0 cI H hK hP hD hS => ?_)
  have hK : va_K (dC, dI) vwCl [(cI, .int)] s := hK
  have hP : va_P (dC, dI) vwCl [(h0, .inr (0, [.int 0, .int 0, .int 0, .null, .null, .int 0, .null, .null, .null, .null, .int 0, .null, .null, .null, .null, .int 0, .int 0])), (q_0, .inl (cI, 60, .inl ps_0))] H := hP
  have hD : va_D A [(h0, .inr (0, [.int 0, .int 0, .int 0, .null, .null, .int 0, .null, .null, .null, .null, .int 0, .null, .null, .null, .null, .int 0, .int 0])), (q_0, .inl (cI, 60, .inl ps_0))] := hD
  refine va_putF (D := (dC, dI)) (ci := 0) (v := .ref q_0) (ty := .array .int) (C := RX1) (T := TX1) (N := 17) hx hb hts in_X1 tyX1 tyX1_ok nmX1 hown hK hP hD hS 0 rfl rfl 3 (by decide) (hts _ q29) (fun _ h9 => h9) rfl hin rfl (by decide +kernel) rfl rfl (Nat.le_of_ble_eq_true rfl) dX1_init_9 (fun H locs hP hD hS => ?_)
  have hP : va_P (dC, dI) vwCl [(h0, .inr (0, [.int 0, .int 0, .int 0, .ref q_0, .null, .int 0, .null, .null, .null, .null, .int 0, .null, .null, .null, .null, .int 0, .int 0])), (q_0, .inl (cI, 60, .inl ps_0))] H := hP
  have hD : va_D A [(h0, .inr (0, [.int 0, .int 0, .int 0, .ref q_0, .null, .int 0, .null, .null, .null, .null, .int 0, .null, .null, .null, .null, .int 0, .int 0])), (q_0, .inl (cI, 60, .inl ps_0))] := hD
  refine lv_aload_n hx hb dX1_init_12 rfl (lv_at hl 0 rfl) ?_
  refine lv_bipush (v := 60) hx hb dX1_init_13 (by decide) ?_
  refine va_newa (atype := .int) (ty := .int) (N' := 60) (a0 := (60, .inl ps_0)) hx hb (hts _ q78) rfl hK hP hD hS hA (fun _ => rfl) (by decide) (by decide) (by decide) (Nat.le_of_ble_eq_true rfl) (Nat.le_of_ble_eq_true rfl) dX1_init_15 (fun q_1 cN H hK hP hD hS => ?_)
  obtain rfl : cI = cN := zk_same hK hK (i := 1) (j := 0) rfl rfl
  have hK : va_K (dC, dI) vwCl [(cI, .int)] s := hK.sub [0] rfl
  have hP : va_P (dC, dI) vwCl [(h0, .inr (0, [.int 0, .int 0, .int 0, .ref q_0, .null, .int 0, .null, .null, .null, .null, .int 0, .null, .null, .null, .null, .int 0, .int 0])), (q_0, .inl (cI, 60, .inl ps_0)), (q_1, .inl (cI, 60, .inl ps_0))] H := hP
  have hD : va_D A [(h0, .inr (0, [.int 0, .int 0, .int 0, .ref q_0, .null, .int 0, .null, .null, .null, .null, .int 0, .null, .null, .null, .null, .int 0, .int 0])), (q_0, .inl (cI, 60, .inl ps_0)), (q_1, .inl (cI, 60, .inl ps_0))] := hD
  refine va_putF (D := (dC, dI)) (ci := 0) (v := .ref q_1) (ty := .array .int) (C := RX1) (T := TX1) (N := 17) hx hb hts in_X1 tyX1 tyX1_ok nmX1 hown hK hP hD hS 0 rfl rfl 4 (by decide) (hts _ q30) (fun _ h9 => h9) rfl hin rfl (by decide +kernel) rfl rfl (Nat.le_of_ble_eq_true rfl) dX1_init_17 (fun H locs hP hD hS => ?_)
  have hP : va_P (dC, dI) vwCl [(h0, .inr (0, [.int 0, .int 0, .int 0, .ref q_0, .ref q_1, .int 0, .null, .null, .null, .null, .int 0, .null, .null, .null, .null, .int 0, .int 0])), (q_0, .inl (cI, 60, .inl ps_0)), (q_1, .inl (cI, 60, .inl ps_0))] H := hP
  have hD : va_D A [(h0, .inr (0, [.int 0, .int 0, .int 0, .ref q_0, .ref q_1, .int 0, .null, .null, .null, .null, .int 0, .null, .null, .null, .null, .int 0, .int 0])), (q_0, .inl (cI, 60, .inl ps_0)), (q_1, .inl (cI, 60, .inl ps_0))] := hD
  refine lv_aload_n hx hb dX1_init_20 rfl (lv_at hl 0 rfl) ?_
  refine lv_bipush (v := 60) hx hb dX1_init_21 (by decide) ?_
  refine va_newa (atype := .int) (ty := .int) (N' := 60) (a0 := (60, .inl ps_0)) hx hb (hts _ q78) rfl hK hP hD hS hA (fun _ => rfl) (by decide) (by decide) (by decide) (Nat.le_of_ble_eq_true rfl) (Nat.le_of_ble_eq_true rfl) dX1_init_23 (fun q_2 cN H hK hP hD hS => ?_)
  obtain rfl : cI = cN := zk_same hK hK (i := 1) (j := 0) rfl rfl
  have hK : va_K (dC, dI) vwCl [(cI, .int)] s := hK.sub [0] rfl
  have hP : va_P (dC, dI) vwCl [(h0, .inr (0, [.int 0, .int 0, .int 0, .ref q_0, .ref q_1, .int 0, .null, .null, .null, .null, .int 0, .null, .null, .null, .null, .int 0, .int 0])), (q_0, .inl (cI, 60, .inl ps_0)), (q_1, .inl (cI, 60, .inl ps_0)), (q_2, .inl (cI, 60, .inl ps_0))] H := hP
  have hD : va_D A [(h0, .inr (0, [.int 0, .int 0, .int 0, .ref q_0, .ref q_1, .int 0, .null, .null, .null, .null, .int 0, .null, .null, .null, .null, .int 0, .int 0])), (q_0, .inl (cI, 60, .inl ps_0)), (q_1, .inl (cI, 60, .inl ps_0)), (q_2, .inl (cI, 60, .inl ps_0))] := hD
  refine va_putF (D := (dC, dI)) (ci := 0) (v := .ref q_2) (ty := .array .int) (C := RX1) (T := TX1) (N := 17) hx hb hts in_X1 tyX1 tyX1_ok nmX1 hown hK hP hD hS 0 rfl rfl 6 (by decide) (hts _ q32) (fun _ h9 => h9) rfl hin rfl (by decide +kernel) rfl rfl (Nat.le_of_ble_eq_true rfl) dX1_init_25 (fun H locs hP hD hS => ?_)
  have hP : va_P (dC, dI) vwCl [(h0, .inr (0, [.int 0, .int 0, .int 0, .ref q_0, .ref q_1, .int 0, .ref q_2, .null, .null, .null, .int 0, .null, .null, .null, .null, .int 0, .int 0])), (q_0, .inl (cI, 60, .inl ps_0)), (q_1, .inl (cI, 60, .inl ps_0)), (q_2, .inl (cI, 60, .inl ps_0))] H := hP
  have hD : va_D A [(h0, .inr (0, [.int 0, .int 0, .int 0, .ref q_0, .ref q_1, .int 0, .ref q_2, .null, .null, .null, .int 0, .null, .null, .null, .null, .int 0, .int 0])), (q_0, .inl (cI, 60, .inl ps_0)), (q_1, .inl (cI, 60, .inl ps_0)), (q_2, .inl (cI, 60, .inl ps_0))] := hD
  refine lv_aload_n hx hb dX1_init_28 rfl (lv_at hl 0 rfl) ?_
  refine lv_bipush (v := 60) hx hb dX1_init_29 (by decide) ?_
  refine va_newa (atype := .int) (ty := .int) (N' := 60) (a0 := (60, .inl ps_0)) hx hb (hts _ q78) rfl hK hP hD hS hA (fun _ => rfl) (by decide) (by decide) (by decide) (Nat.le_of_ble_eq_true rfl) (Nat.le_of_ble_eq_true rfl) dX1_init_31 (fun q_3 cN H hK hP hD hS => ?_)
  obtain rfl : cI = cN := zk_same hK hK (i := 1) (j := 0) rfl rfl
  have hK : va_K (dC, dI) vwCl [(cI, .int)] s := hK.sub [0] rfl
  have hP : va_P (dC, dI) vwCl [(h0, .inr (0, [.int 0, .int 0, .int 0, .ref q_0, .ref q_1, .int 0, .ref q_2, .null, .null, .null, .int 0, .null, .null, .null, .null, .int 0, .int 0])), (q_0, .inl (cI, 60, .inl ps_0)), (q_1, .inl (cI, 60, .inl ps_0)), (q_2, .inl (cI, 60, .inl ps_0)), (q_3, .inl (cI, 60, .inl ps_0))] H := hP
  have hD : va_D A [(h0, .inr (0, [.int 0, .int 0, .int 0, .ref q_0, .ref q_1, .int 0, .ref q_2, .null, .null, .null, .int 0, .null, .null, .null, .null, .int 0, .int 0])), (q_0, .inl (cI, 60, .inl ps_0)), (q_1, .inl (cI, 60, .inl ps_0)), (q_2, .inl (cI, 60, .inl ps_0)), (q_3, .inl (cI, 60, .inl ps_0))] := hD
  refine va_putF (D := (dC, dI)) (ci := 0) (v := .ref q_3) (ty := .array .int) (C := RX1) (T := TX1) (N := 17) hx hb hts in_X1 tyX1 tyX1_ok nmX1 hown hK hP hD hS 0 rfl rfl 7 (by decide) (hts _ q33) (fun _ h9 => h9) rfl hin rfl (by decide +kernel) rfl rfl (Nat.le_of_ble_eq_true rfl) dX1_init_33 (fun H locs hP hD hS => ?_)
  have hP : va_P (dC, dI) vwCl [(h0, .inr (0, [.int 0, .int 0, .int 0, .ref q_0, .ref q_1, .int 0, .ref q_2, .ref q_3, .null, .null, .int 0, .null, .null, .null, .null, .int 0, .int 0])), (q_0, .inl (cI, 60, .inl ps_0)), (q_1, .inl (cI, 60, .inl ps_0)), (q_2, .inl (cI, 60, .inl ps_0)), (q_3, .inl (cI, 60, .inl ps_0))] H := hP
  have hD : va_D A [(h0, .inr (0, [.int 0, .int 0, .int 0, .ref q_0, .ref q_1, .int 0, .ref q_2, .ref q_3, .null, .null, .int 0, .null, .null, .null, .null, .int 0, .int 0])), (q_0, .inl (cI, 60, .inl ps_0)), (q_1, .inl (cI, 60, .inl ps_0)), (q_2, .inl (cI, 60, .inl ps_0)), (q_3, .inl (cI, 60, .inl ps_0))] := hD
  refine lv_aload_n hx hb dX1_init_36 rfl (lv_at hl 0 rfl) ?_
  refine lv_bipush (v := 12) hx hb dX1_init_37 (by decide) ?_
  refine va_newa (atype := .int) (ty := .int) (N' := 12) (a0 := (12, .inl ps_0)) hx hb (hts _ q78) rfl hK hP hD hS hA (fun _ => rfl) (by decide) (by decide) (by decide) (Nat.le_of_ble_eq_true rfl) (Nat.le_of_ble_eq_true rfl) dX1_init_39 (fun q_4 cN H hK hP hD hS => ?_)
  obtain rfl : cI = cN := zk_same hK hK (i := 1) (j := 0) rfl rfl
  have hK : va_K (dC, dI) vwCl [(cI, .int)] s := hK.sub [0] rfl
  have hP : va_P (dC, dI) vwCl [(h0, .inr (0, [.int 0, .int 0, .int 0, .ref q_0, .ref q_1, .int 0, .ref q_2, .ref q_3, .null, .null, .int 0, .null, .null, .null, .null, .int 0, .int 0])), (q_0, .inl (cI, 60, .inl ps_0)), (q_1, .inl (cI, 60, .inl ps_0)), (q_2, .inl (cI, 60, .inl ps_0)), (q_3, .inl (cI, 60, .inl ps_0)), (q_4, .inl (cI, 12, .inl ps_0))] H := hP
  have hD : va_D A [(h0, .inr (0, [.int 0, .int 0, .int 0, .ref q_0, .ref q_1, .int 0, .ref q_2, .ref q_3, .null, .null, .int 0, .null, .null, .null, .null, .int 0, .int 0])), (q_0, .inl (cI, 60, .inl ps_0)), (q_1, .inl (cI, 60, .inl ps_0)), (q_2, .inl (cI, 60, .inl ps_0)), (q_3, .inl (cI, 60, .inl ps_0)), (q_4, .inl (cI, 12, .inl ps_0))] := hD
  refine va_putF (D := (dC, dI)) (ci := 0) (v := .ref q_4) (ty := .array .int) (C := RX1) (T := TX1) (N := 17) hx hb hts in_X1 tyX1 tyX1_ok nmX1 hown hK hP hD hS 0 rfl rfl 8 (by decide) (hts _ q34) (fun _ h9 => h9) rfl hin rfl (by decide +kernel) rfl rfl (Nat.le_of_ble_eq_true rfl) dX1_init_41 (fun H locs hP hD hS => ?_)
  have hP : va_P (dC, dI) vwCl [(h0, .inr (0, [.int 0, .int 0, .int 0, .ref q_0, .ref q_1, .int 0, .ref q_2, .ref q_3, .ref q_4, .null, .int 0, .null, .null, .null, .null, .int 0, .int 0])), (q_0, .inl (cI, 60, .inl ps_0)), (q_1, .inl (cI, 60, .inl ps_0)), (q_2, .inl (cI, 60, .inl ps_0)), (q_3, .inl (cI, 60, .inl ps_0)), (q_4, .inl (cI, 12, .inl ps_0))] H := hP
  have hD : va_D A [(h0, .inr (0, [.int 0, .int 0, .int 0, .ref q_0, .ref q_1, .int 0, .ref q_2, .ref q_3, .ref q_4, .null, .int 0, .null, .null, .null, .null, .int 0, .int 0])), (q_0, .inl (cI, 60, .inl ps_0)), (q_1, .inl (cI, 60, .inl ps_0)), (q_2, .inl (cI, 60, .inl ps_0)), (q_3, .inl (cI, 60, .inl ps_0)), (q_4, .inl (cI, 12, .inl ps_0))] := hD
  refine lv_aload_n hx hb dX1_init_44 rfl (lv_at hl 0 rfl) ?_
  refine lv_bipush (v := 60) hx hb dX1_init_45 (by decide) ?_
  refine va_newa (atype := .int) (ty := .int) (N' := 60) (a0 := (60, .inl ps_0)) hx hb (hts _ q78) rfl hK hP hD hS hA (fun _ => rfl) (by decide) (by decide) (by decide) (Nat.le_of_ble_eq_true rfl) (Nat.le_of_ble_eq_true rfl) dX1_init_47 (fun q_5 cN H hK hP hD hS => ?_)
  obtain rfl : cI = cN := zk_same hK hK (i := 1) (j := 0) rfl rfl
  have hK : va_K (dC, dI) vwCl [(cI, .int)] s := hK.sub [0] rfl
  have hP : va_P (dC, dI) vwCl [(h0, .inr (0, [.int 0, .int 0, .int 0, .ref q_0, .ref q_1, .int 0, .ref q_2, .ref q_3, .ref q_4, .null, .int 0, .null, .null, .null, .null, .int 0, .int 0])), (q_0, .inl (cI, 60, .inl ps_0)), (q_1, .inl (cI, 60, .inl ps_0)), (q_2, .inl (cI, 60, .inl ps_0)), (q_3, .inl (cI, 60, .inl ps_0)), (q_4, .inl (cI, 12, .inl ps_0)), (q_5, .inl (cI, 60, .inl ps_0))] H := hP
  have hD : va_D A [(h0, .inr (0, [.int 0, .int 0, .int 0, .ref q_0, .ref q_1, .int 0, .ref q_2, .ref q_3, .ref q_4, .null, .int 0, .null, .null, .null, .null, .int 0, .int 0])), (q_0, .inl (cI, 60, .inl ps_0)), (q_1, .inl (cI, 60, .inl ps_0)), (q_2, .inl (cI, 60, .inl ps_0)), (q_3, .inl (cI, 60, .inl ps_0)), (q_4, .inl (cI, 12, .inl ps_0)), (q_5, .inl (cI, 60, .inl ps_0))] := hD
  refine va_putF (D := (dC, dI)) (ci := 0) (v := .ref q_5) (ty := .array .int) (C := RX1) (T := TX1) (N := 17) hx hb hts in_X1 tyX1 tyX1_ok nmX1 hown hK hP hD hS 0 rfl rfl 9 (by decide) (hts _ q35) (fun _ h9 => h9) rfl hin rfl (by decide +kernel) rfl rfl (Nat.le_of_ble_eq_true rfl) dX1_init_49 (fun H locs hP hD hS => ?_)
  have hP : va_P (dC, dI) vwCl [(h0, .inr (0, [.int 0, .int 0, .int 0, .ref q_0, .ref q_1, .int 0, .ref q_2, .ref q_3, .ref q_4, .ref q_5, .int 0, .null, .null, .null, .null, .int 0, .int 0])), (q_0, .inl (cI, 60, .inl ps_0)), (q_1, .inl (cI, 60, .inl ps_0)), (q_2, .inl (cI, 60, .inl ps_0)), (q_3, .inl (cI, 60, .inl ps_0)), (q_4, .inl (cI, 12, .inl ps_0)), (q_5, .inl (cI, 60, .inl ps_0))] H := hP
  have hD : va_D A [(h0, .inr (0, [.int 0, .int 0, .int 0, .ref q_0, .ref q_1, .int 0, .ref q_2, .ref q_3, .ref q_4, .ref q_5, .int 0, .null, .null, .null, .null, .int 0, .int 0])), (q_0, .inl (cI, 60, .inl ps_0)), (q_1, .inl (cI, 60, .inl ps_0)), (q_2, .inl (cI, 60, .inl ps_0)), (q_3, .inl (cI, 60, .inl ps_0)), (q_4, .inl (cI, 12, .inl ps_0)), (q_5, .inl (cI, 60, .inl ps_0))] := hD
  refine lv_aload_n hx hb dX1_init_52 rfl (lv_at hl 0 rfl) ?_
  refine lv_bipush (v := 60) hx hb dX1_init_53 (by decide) ?_
  refine va_newa (atype := .int) (ty := .int) (N' := 60) (a0 := (60, .inl ps_0)) hx hb (hts _ q78) rfl hK hP hD hS hA (fun _ => rfl) (by decide) (by decide) (by decide) (Nat.le_of_ble_eq_true rfl) (Nat.le_of_ble_eq_true rfl) dX1_init_55 (fun q_6 cN H hK hP hD hS => ?_)
  obtain rfl : cI = cN := zk_same hK hK (i := 1) (j := 0) rfl rfl
  have hK : va_K (dC, dI) vwCl [(cI, .int)] s := hK.sub [0] rfl
  have hP : va_P (dC, dI) vwCl [(h0, .inr (0, [.int 0, .int 0, .int 0, .ref q_0, .ref q_1, .int 0, .ref q_2, .ref q_3, .ref q_4, .ref q_5, .int 0, .null, .null, .null, .null, .int 0, .int 0])), (q_0, .inl (cI, 60, .inl ps_0)), (q_1, .inl (cI, 60, .inl ps_0)), (q_2, .inl (cI, 60, .inl ps_0)), (q_3, .inl (cI, 60, .inl ps_0)), (q_4, .inl (cI, 12, .inl ps_0)), (q_5, .inl (cI, 60, .inl ps_0)), (q_6, .inl (cI, 60, .inl ps_0))] H := hP
  have hD : va_D A [(h0, .inr (0, [.int 0, .int 0, .int 0, .ref q_0, .ref q_1, .int 0, .ref q_2, .ref q_3, .ref q_4, .ref q_5, .int 0, .null, .null, .null, .null, .int 0, .int 0])), (q_0, .inl (cI, 60, .inl ps_0)), (q_1, .inl (cI, 60, .inl ps_0)), (q_2, .inl (cI, 60, .inl ps_0)), (q_3, .inl (cI, 60, .inl ps_0)), (q_4, .inl (cI, 12, .inl ps_0)), (q_5, .inl (cI, 60, .inl ps_0)), (q_6, .inl (cI, 60, .inl ps_0))] := hD
  refine va_putF (D := (dC, dI)) (ci := 0) (v := .ref q_6) (ty := .array .int) (C := RX1) (T := TX1) (N := 17) hx hb hts in_X1 tyX1 tyX1_ok nmX1 hown hK hP hD hS 0 rfl rfl 11 (by decide) (hts _ q37) (fun _ h9 => h9) rfl hin rfl (by decide +kernel) rfl rfl (Nat.le_of_ble_eq_true rfl) dX1_init_57 (fun H locs hP hD hS => ?_)
  have hP : va_P (dC, dI) vwCl [(h0, .inr (0, [.int 0, .int 0, .int 0, .ref q_0, .ref q_1, .int 0, .ref q_2, .ref q_3, .ref q_4, .ref q_5, .int 0, .ref q_6, .null, .null, .null, .int 0, .int 0])), (q_0, .inl (cI, 60, .inl ps_0)), (q_1, .inl (cI, 60, .inl ps_0)), (q_2, .inl (cI, 60, .inl ps_0)), (q_3, .inl (cI, 60, .inl ps_0)), (q_4, .inl (cI, 12, .inl ps_0)), (q_5, .inl (cI, 60, .inl ps_0)), (q_6, .inl (cI, 60, .inl ps_0))] H := hP
  have hD : va_D A [(h0, .inr (0, [.int 0, .int 0, .int 0, .ref q_0, .ref q_1, .int 0, .ref q_2, .ref q_3, .ref q_4, .ref q_5, .int 0, .ref q_6, .null, .null, .null, .int 0, .int 0])), (q_0, .inl (cI, 60, .inl ps_0)), (q_1, .inl (cI, 60, .inl ps_0)), (q_2, .inl (cI, 60, .inl ps_0)), (q_3, .inl (cI, 60, .inl ps_0)), (q_4, .inl (cI, 12, .inl ps_0)), (q_5, .inl (cI, 60, .inl ps_0)), (q_6, .inl (cI, 60, .inl ps_0))] := hD
  refine lv_aload_n hx hb dX1_init_60 rfl (lv_at hl 0 rfl) ?_
  refine lv_bipush (v := 60) hx hb dX1_init_61 (by decide) ?_
  refine va_newa (atype := .int) (ty := .int) (N' := 60) (a0 := (60, .inl ps_0)) hx hb (hts _ q78) rfl hK hP hD hS hA (fun _ => rfl) (by decide) (by decide) (by decide) (Nat.le_of_ble_eq_true rfl) (Nat.le_of_ble_eq_true rfl) dX1_init_63 (fun q_7 cN H hK hP hD hS => ?_)
  obtain rfl : cI = cN := zk_same hK hK (i := 1) (j := 0) rfl rfl
  have hK : va_K (dC, dI) vwCl [(cI, .int)] s := hK.sub [0] rfl
  have hP : va_P (dC, dI) vwCl [(h0, .inr (0, [.int 0, .int 0, .int 0, .ref q_0, .ref q_1, .int 0, .ref q_2, .ref q_3, .ref q_4, .ref q_5, .int 0, .ref q_6, .null, .null, .null, .int 0, .int 0])), (q_0, .inl (cI, 60, .inl ps_0)), (q_1, .inl (cI, 60, .inl ps_0)), (q_2, .inl (cI, 60, .inl ps_0)), (q_3, .inl (cI, 60, .inl ps_0)), (q_4, .inl (cI, 12, .inl ps_0)), (q_5, .inl (cI, 60, .inl ps_0)), (q_6, .inl (cI, 60, .inl ps_0)), (q_7, .inl (cI, 60, .inl ps_0))] H := hP
  have hD : va_D A [(h0, .inr (0, [.int 0, .int 0, .int 0, .ref q_0, .ref q_1, .int 0, .ref q_2, .ref q_3, .ref q_4, .ref q_5, .int 0, .ref q_6, .null, .null, .null, .int 0, .int 0])), (q_0, .inl (cI, 60, .inl ps_0)), (q_1, .inl (cI, 60, .inl ps_0)), (q_2, .inl (cI, 60, .inl ps_0)), (q_3, .inl (cI, 60, .inl ps_0)), (q_4, .inl (cI, 12, .inl ps_0)), (q_5, .inl (cI, 60, .inl ps_0)), (q_6, .inl (cI, 60, .inl ps_0)), (q_7, .inl (cI, 60, .inl ps_0))] := hD
  refine va_putF (D := (dC, dI)) (ci := 0) (v := .ref q_7) (ty := .array .int) (C := RX1) (T := TX1) (N := 17) hx hb hts in_X1 tyX1 tyX1_ok nmX1 hown hK hP hD hS 0 rfl rfl 12 (by decide) (hts _ q38) (fun _ h9 => h9) rfl hin rfl (by decide +kernel) rfl rfl (Nat.le_of_ble_eq_true rfl) dX1_init_65 (fun H locs hP hD hS => ?_)
  have hP : va_P (dC, dI) vwCl [(h0, .inr (0, [.int 0, .int 0, .int 0, .ref q_0, .ref q_1, .int 0, .ref q_2, .ref q_3, .ref q_4, .ref q_5, .int 0, .ref q_6, .ref q_7, .null, .null, .int 0, .int 0])), (q_0, .inl (cI, 60, .inl ps_0)), (q_1, .inl (cI, 60, .inl ps_0)), (q_2, .inl (cI, 60, .inl ps_0)), (q_3, .inl (cI, 60, .inl ps_0)), (q_4, .inl (cI, 12, .inl ps_0)), (q_5, .inl (cI, 60, .inl ps_0)), (q_6, .inl (cI, 60, .inl ps_0)), (q_7, .inl (cI, 60, .inl ps_0))] H := hP
  have hD : va_D A [(h0, .inr (0, [.int 0, .int 0, .int 0, .ref q_0, .ref q_1, .int 0, .ref q_2, .ref q_3, .ref q_4, .ref q_5, .int 0, .ref q_6, .ref q_7, .null, .null, .int 0, .int 0])), (q_0, .inl (cI, 60, .inl ps_0)), (q_1, .inl (cI, 60, .inl ps_0)), (q_2, .inl (cI, 60, .inl ps_0)), (q_3, .inl (cI, 60, .inl ps_0)), (q_4, .inl (cI, 12, .inl ps_0)), (q_5, .inl (cI, 60, .inl ps_0)), (q_6, .inl (cI, 60, .inl ps_0)), (q_7, .inl (cI, 60, .inl ps_0))] := hD
  refine lv_aload_n hx hb dX1_init_68 rfl (lv_at hl 0 rfl) ?_
  refine lv_bipush (v := 60) hx hb dX1_init_69 (by decide) ?_
  refine va_newa (atype := .boolean) (ty := .boolean) (N' := 60) (a0 := (60, .inl ps_0)) hx hb (hts _ q79) rfl hK hP hD hS hA (fun _ => rfl) (by decide) (by decide) (by decide) (Nat.le_of_ble_eq_true rfl) (Nat.le_of_ble_eq_true rfl) dX1_init_71 (fun q_8 cZ H hK hP hD hS => ?_)
  have hK : va_K (dC, dI) vwCl [(cI, .int), (cZ, .boolean)] s := hK
  have hP : va_P (dC, dI) vwCl [(h0, .inr (0, [.int 0, .int 0, .int 0, .ref q_0, .ref q_1, .int 0, .ref q_2, .ref q_3, .ref q_4, .ref q_5, .int 0, .ref q_6, .ref q_7, .null, .null, .int 0, .int 0])), (q_0, .inl (cI, 60, .inl ps_0)), (q_1, .inl (cI, 60, .inl ps_0)), (q_2, .inl (cI, 60, .inl ps_0)), (q_3, .inl (cI, 60, .inl ps_0)), (q_4, .inl (cI, 12, .inl ps_0)), (q_5, .inl (cI, 60, .inl ps_0)), (q_6, .inl (cI, 60, .inl ps_0)), (q_7, .inl (cI, 60, .inl ps_0)), (q_8, .inl (cZ, 60, .inl ps_0))] H := hP
  have hD : va_D A [(h0, .inr (0, [.int 0, .int 0, .int 0, .ref q_0, .ref q_1, .int 0, .ref q_2, .ref q_3, .ref q_4, .ref q_5, .int 0, .ref q_6, .ref q_7, .null, .null, .int 0, .int 0])), (q_0, .inl (cI, 60, .inl ps_0)), (q_1, .inl (cI, 60, .inl ps_0)), (q_2, .inl (cI, 60, .inl ps_0)), (q_3, .inl (cI, 60, .inl ps_0)), (q_4, .inl (cI, 12, .inl ps_0)), (q_5, .inl (cI, 60, .inl ps_0)), (q_6, .inl (cI, 60, .inl ps_0)), (q_7, .inl (cI, 60, .inl ps_0)), (q_8, .inl (cZ, 60, .inl ps_0))] := hD
  refine va_putF (D := (dC, dI)) (ci := 0) (v := .ref q_8) (ty := .array .boolean) (C := RX1) (T := TX1) (N := 17) hx hb hts in_X1 tyX1 tyX1_ok nmX1 hown hK hP hD hS 0 rfl rfl 13 (by decide) (hts _ q39) (fun _ h9 => h9) rfl hin rfl (by decide +kernel) rfl rfl (Nat.le_of_ble_eq_true rfl) dX1_init_73 (fun H locs hP hD hS => ?_)
  have hP : va_P (dC, dI) vwCl [(h0, .inr (0, [.int 0, .int 0, .int 0, .ref q_0, .ref q_1, .int 0, .ref q_2, .ref q_3, .ref q_4, .ref q_5, .int 0, .ref q_6, .ref q_7, .ref q_8, .null, .int 0, .int 0])), (q_0, .inl (cI, 60, .inl ps_0)), (q_1, .inl (cI, 60, .inl ps_0)), (q_2, .inl (cI, 60, .inl ps_0)), (q_3, .inl (cI, 60, .inl ps_0)), (q_4, .inl (cI, 12, .inl ps_0)), (q_5, .inl (cI, 60, .inl ps_0)), (q_6, .inl (cI, 60, .inl ps_0)), (q_7, .inl (cI, 60, .inl ps_0)), (q_8, .inl (cZ, 60, .inl ps_0))] H := hP
  have hD : va_D A [(h0, .inr (0, [.int 0, .int 0, .int 0, .ref q_0, .ref q_1, .int 0, .ref q_2, .ref q_3, .ref q_4, .ref q_5, .int 0, .ref q_6, .ref q_7, .ref q_8, .null, .int 0, .int 0])), (q_0, .inl (cI, 60, .inl ps_0)), (q_1, .inl (cI, 60, .inl ps_0)), (q_2, .inl (cI, 60, .inl ps_0)), (q_3, .inl (cI, 60, .inl ps_0)), (q_4, .inl (cI, 12, .inl ps_0)), (q_5, .inl (cI, 60, .inl ps_0)), (q_6, .inl (cI, 60, .inl ps_0)), (q_7, .inl (cI, 60, .inl ps_0)), (q_8, .inl (cZ, 60, .inl ps_0))] := hD
  refine lv_aload_n hx hb dX1_init_76 rfl (lv_at hl 0 rfl) ?_
  refine lv_bipush (v := 60) hx hb dX1_init_77 (by decide) ?_
  refine va_newa (atype := .int) (ty := .int) (N' := 60) (a0 := (60, .inl ps_0)) hx hb (hts _ q78) rfl hK hP hD hS hA (fun _ => rfl) (by decide) (by decide) (by decide) (Nat.le_of_ble_eq_true rfl) (Nat.le_of_ble_eq_true rfl) dX1_init_79 (fun q_9 cN H hK hP hD hS => ?_)
  obtain rfl : cI = cN := zk_same hK hK (i := 2) (j := 0) rfl rfl
  have hK : va_K (dC, dI) vwCl [(cI, .int), (cZ, .boolean)] s := hK.sub [0, 1] rfl
  have hP : va_P (dC, dI) vwCl [(h0, .inr (0, [.int 0, .int 0, .int 0, .ref q_0, .ref q_1, .int 0, .ref q_2, .ref q_3, .ref q_4, .ref q_5, .int 0, .ref q_6, .ref q_7, .ref q_8, .null, .int 0, .int 0])), (q_0, .inl (cI, 60, .inl ps_0)), (q_1, .inl (cI, 60, .inl ps_0)), (q_2, .inl (cI, 60, .inl ps_0)), (q_3, .inl (cI, 60, .inl ps_0)), (q_4, .inl (cI, 12, .inl ps_0)), (q_5, .inl (cI, 60, .inl ps_0)), (q_6, .inl (cI, 60, .inl ps_0)), (q_7, .inl (cI, 60, .inl ps_0)), (q_8, .inl (cZ, 60, .inl ps_0)), (q_9, .inl (cI, 60, .inl ps_0))] H := hP
  have hD : va_D A [(h0, .inr (0, [.int 0, .int 0, .int 0, .ref q_0, .ref q_1, .int 0, .ref q_2, .ref q_3, .ref q_4, .ref q_5, .int 0, .ref q_6, .ref q_7, .ref q_8, .null, .int 0, .int 0])), (q_0, .inl (cI, 60, .inl ps_0)), (q_1, .inl (cI, 60, .inl ps_0)), (q_2, .inl (cI, 60, .inl ps_0)), (q_3, .inl (cI, 60, .inl ps_0)), (q_4, .inl (cI, 12, .inl ps_0)), (q_5, .inl (cI, 60, .inl ps_0)), (q_6, .inl (cI, 60, .inl ps_0)), (q_7, .inl (cI, 60, .inl ps_0)), (q_8, .inl (cZ, 60, .inl ps_0)), (q_9, .inl (cI, 60, .inl ps_0))] := hD
  refine va_putF (D := (dC, dI)) (ci := 0) (v := .ref q_9) (ty := .array .int) (C := RX1) (T := TX1) (N := 17) hx hb hts in_X1 tyX1 tyX1_ok nmX1 hown hK hP hD hS 0 rfl rfl 14 (by decide) (hts _ q40) (fun _ h9 => h9) rfl hin rfl (by decide +kernel) rfl rfl (Nat.le_of_ble_eq_true rfl) dX1_init_81 (fun H locs hP hD hS => ?_)
  have hP : va_P (dC, dI) vwCl [(h0, .inr (0, [.int 0, .int 0, .int 0, .ref q_0, .ref q_1, .int 0, .ref q_2, .ref q_3, .ref q_4, .ref q_5, .int 0, .ref q_6, .ref q_7, .ref q_8, .ref q_9, .int 0, .int 0])), (q_0, .inl (cI, 60, .inl ps_0)), (q_1, .inl (cI, 60, .inl ps_0)), (q_2, .inl (cI, 60, .inl ps_0)), (q_3, .inl (cI, 60, .inl ps_0)), (q_4, .inl (cI, 12, .inl ps_0)), (q_5, .inl (cI, 60, .inl ps_0)), (q_6, .inl (cI, 60, .inl ps_0)), (q_7, .inl (cI, 60, .inl ps_0)), (q_8, .inl (cZ, 60, .inl ps_0)), (q_9, .inl (cI, 60, .inl ps_0))] H := hP
  have hD : va_D A [(h0, .inr (0, [.int 0, .int 0, .int 0, .ref q_0, .ref q_1, .int 0, .ref q_2, .ref q_3, .ref q_4, .ref q_5, .int 0, .ref q_6, .ref q_7, .ref q_8, .ref q_9, .int 0, .int 0])), (q_0, .inl (cI, 60, .inl ps_0)), (q_1, .inl (cI, 60, .inl ps_0)), (q_2, .inl (cI, 60, .inl ps_0)), (q_3, .inl (cI, 60, .inl ps_0)), (q_4, .inl (cI, 12, .inl ps_0)), (q_5, .inl (cI, 60, .inl ps_0)), (q_6, .inl (cI, 60, .inl ps_0)), (q_7, .inl (cI, 60, .inl ps_0)), (q_8, .inl (cZ, 60, .inl ps_0)), (q_9, .inl (cI, 60, .inl ps_0))] := hD
  obtain ⟨qa, hP, hD⟩ : ∃ qa : Nat → Nat, va_P (dC, dI) vwCl (wX h0 qa cI cZ 0 (nI 0) 0 ps_0 ps_0 0 ps_0 ps_0 ps_0 ps_0 0 ps_0 ps_0 ps_0 ps_0 0 0) H ∧ va_D A (wX h0 qa cI cZ 0 (nI 0) 0 ps_0 ps_0 0 ps_0 ps_0 ps_0 ps_0 0 ps_0 ps_0 ps_0 ps_0 0 0) := ⟨(fun k => match k with | 0 => q_0 | 1 => q_1 | 2 => q_2 | 3 => q_3 | 4 => q_4 | 5 => q_5 | 6 => q_6 | 7 => q_7 | 8 => q_8 | _ => q_9), hP, hD⟩
  refine lv_aload_n hx hb dX1_init_84 rfl (lv_at hl 0 rfl) ?_
  refine lv_iload_n hx hb dX1_init_85 rfl (lv_at hl 1 rfl) ?_
  refine zc_v (As := [.int x]) (rest := []) ⟨hx, hb, hml, hown, hts⟩ (mX_width l dC dI cI cZ h0 H.size qa 0 (nI 0) 0 ps_0 ps_0 0 ps_0 ps_0 ps_0 ps_0 0 ps_0 ps_0 ps_0 ps_0 0 0 x) (cwV 1 hts (lw_V q22 q23 q24 q12 q25) rfl rfl rfl (by decide +kernel) ⟨Nat.le_of_ble_eq_true rfl, Nat.le_of_ble_eq_true rfl⟩) (ci := 0) rfl rfl hK hP hD hS hA rfl hl.1 rfl (Nat.le_of_ble_eq_true rfl) dX1_init_86 ⟨Nat.le_of_ble_eq_true rfl, Nat.le_of_ble_eq_true rfl⟩ (fun u_9 H locs hw_9 hP hD hS => ?_)
  refine W.widen (k := 10) (n := 552) (Nat.le_of_ble_eq_true rfl) (Nat.le_of_ble_eq_true rfl) ?_
  exact W.vret hx hb hr (fun t ht hW => ⟨⟨(qa, cI, cZ), rfl, trivial, by rw [ht]; exact hP, va_K.moved hW.alike hK, hD⟩, hS.F ht⟩) hS.2.2 dX1_init_89
set_option maxHeartbeats 4000000 in
set_option maxRecDepth 100000 in
/-- PrettyStreamModel(x): a new object with its arrays -/
theorem mM_init (l : Launch) (dC : Nat → ClassId) (dI : Nat → Nat → Nat) (h0 sz : Nat) (x : Int32) : Met l yX2_init (ws_ yX2_init cX2_init 2 none) ({ frames := 1, cells := 7, slots := 420, locals := 21 }) (va_Pc [.ref h0, .int x] (fun U => U.heap.size = sz ∧ va_P (dC, dI) vwCl [(h0, .inr (1, fM))] U.heap ∧ va_K (dC, dI) vwCl [] U ∧ va_D (fun _ => True) [(h0, .inr (1, fM))])) (va_Qv (fun _ : (Nat → Nat) × ClassId × ClassId => True) (fun u t => posW dC dI u.2.1 u.2.2 (va_A [(h0, .inr (1, fM))] sz) (wM h0 u.1 u.2.1 u.2.2 (ps_wd x) (nI 0) ps_0 ps_0 0 ps_0 ps_0 ps_0 ps_0 ps_0 0 0) t) (va_A [(h0, .inr (1, fM))] sz)) 7 420 (va_A [(h0, .inr (1, fM))] sz) := by
  refine Met.ofW (cc := cX2_init) (maxL := 2) (ret := none) (by decide) rfl ?_
  intro p e s m args below meth c s₁ B hml hv
  obtain ⟨rfl, hsz, hP, hK, hD0⟩ := hv
  have hx := B.exec
  have hb := B.bytes
  have hr := B.returns
  have hts := atoms_spec (ws := ws_ yX2_init cX2_init 2 none) B.pre
  have hts : ∀ w ∈ lw_all, w.before _ s = true := fun w h => hts w (List.mem_cons_of_mem _ h)
  have hown : s.vm.findClass RX2 = some m.cls := findClass_of_methodNamed B.named
  have hlocks := B.notSynchronized
  have hin : meth.name = "<init>" := (name_of_methodNamed B.named B.method).1
  subst hsz
  have hD := hD0.self (sz := s.heap.size)
  generalize hAe : va_A [(h0, .inr (1, fM))] s.heap.size = A at hD ⊢
  have hA : ∀ q : Nat, s.heap.size ≤ q → A q := fun q h => by rw [← hAe]; exact Or.inr h
  have hS : va_S A s.heap s.heap [] := va_S.rf
  have hl := lv_entry ([.ref h0, .int x]) (n := 2) (Nat.le_of_ble_eq_true rfl)
  rw [lg_entry_eq]
  generalize (lg_sl ([.ref h0, .int x]) ++ List.replicate (2 - (lg_sl ([.ref h0, .int x])).length) Slot.unset).toArray = ls at hl ⊢
  have hl : lv_has ls 2 [(0, .ref h0), (1, .int x)] := hl
  refine lv_aload_n hx hb dX2_init_0 rfl (lv_at hl 0 rfl) ?_
  refine W.objInit hx hb hown (hts _ q149) (hts _ q20) (hts _ q21) rfl (by rw [hml]; exact hl.1) rfl dX2_init_1 (Nat.le_of_ble_eq_true rfl) (Nat.le_of_ble_eq_true rfl) ?_
  refine W.eq (g2 := F0 m 4 ls []) rfl ?_
  refine lv_aload_n hx hb dX2_init_4 rfl (lv_at hl 0 rfl) ?_
  refine lv_bipush (v := 60) hx hb dX2_init_5 (by decide) ?_
  refine va_newa (atype := .int) (ty := .int) (N' := 60) (a0 := (60, .inl ps_0)) hx hb (hts _ q78) rfl hK hP hD hS hA (fun _ => rfl) (by decide) (by decide) (by decide) (Nat.le_of_ble_eq_true rfl) (Nat.le_of_ble_eq_true rfl) dX2_init_7 (fun q_0 cI H hK hP hD hS => ?_)
  have hK : va_K (dC, dI) vwCl [(cI, .int)] s := hK
  have hP : va_P (dC, dI) vwCl [(h0, .inr (1, [.int 0, .int 0, .null, .null, .int 0, .null, .null, .null, .null, .null, .int 0, .int 0])), (q_0, .inl (cI, 60, .inl ps_0))] H := hP
  have hD : va_D A [(h0, .inr (1, [.int 0, .int 0, .null, .null, .int 0, .null, .null, .null, .null, .null, .int 0, .int 0])), (q_0, .inl (cI, 60, .inl ps_0))] := hD
  refine va_putF (D := (dC, dI)) (ci := 1) (v := .ref q_0) (ty := .array .int) (C := RX2) (T := TX2) (N := 12) hx hb hts in_X2 tyX2 tyX2_ok nmX2 hown hK hP hD hS 0 rfl rfl 2 (by decide) (hts _ q156) (fun _ h9 => h9) rfl hin rfl (by decide +kernel) rfl rfl (Nat.le_of_ble_eq_true rfl) dX2_init_9 (fun H locs hP hD hS => ?_)
  have hP : va_P (dC, dI) vwCl [(h0, .inr (1, [.int 0, .int 0, .ref q_0, .null, .int 0, .null, .null, .null, .null, .null, .int 0, .int 0])), (q_0, .inl (cI, 60, .inl ps_0))] H := hP
  have hD : va_D A [(h0, .inr (1, [.int 0, .int 0, .ref q_0, .null, .int 0, .null, .null, .null, .null, .null, .int 0, .int 0])), (q_0, .inl (cI, 60, .inl ps_0))] := hD
  refine lv_aload_n hx hb dX2_init_12 rfl (lv_at hl 0 rfl) ?_
  refine lv_bipush (v := 60) hx hb dX2_init_13 (by decide) ?_
  refine va_newa (atype := .int) (ty := .int) (N' := 60) (a0 := (60, .inl ps_0)) hx hb (hts _ q78) rfl hK hP hD hS hA (fun _ => rfl) (by decide) (by decide) (by decide) (Nat.le_of_ble_eq_true rfl) (Nat.le_of_ble_eq_true rfl) dX2_init_15 (fun q_1 cN H hK hP hD hS => ?_)
  obtain rfl : cI = cN := zk_same hK hK (i := 1) (j := 0) rfl rfl
  have hK : va_K (dC, dI) vwCl [(cI, .int)] s := hK.sub [0] rfl
  have hP : va_P (dC, dI) vwCl [(h0, .inr (1, [.int 0, .int 0, .ref q_0, .null, .int 0, .null, .null, .null, .null, .null, .int 0, .int 0])), (q_0, .inl (cI, 60, .inl ps_0)), (q_1, .inl (cI, 60, .inl ps_0))] H := hP
  have hD : va_D A [(h0, .inr (1, [.int 0, .int 0, .ref q_0, .null, .int 0, .null, .null, .null, .null, .null, .int 0, .int 0])), (q_0, .inl (cI, 60, .inl ps_0)), (q_1, .inl (cI, 60, .inl ps_0))] := hD
  refine va_putF (D := (dC, dI)) (ci := 1) (v := .ref q_1) (ty := .array .int) (C := RX2) (T := TX2) (N := 12) hx hb hts in_X2 tyX2 tyX2_ok nmX2 hown hK hP hD hS 0 rfl rfl 3 (by decide) (hts _ q157) (fun _ h9 => h9) rfl hin rfl (by decide +kernel) rfl rfl (Nat.le_of_ble_eq_true rfl) dX2_init_17 (fun H locs hP hD hS => ?_)
  have hP : va_P (dC, dI) vwCl [(h0, .inr (1, [.int 0, .int 0, .ref q_0, .ref q_1, .int 0, .null, .null, .null, .null, .null, .int 0, .int 0])), (q_0, .inl (cI, 60, .inl ps_0)), (q_1, .inl (cI, 60, .inl ps_0))] H := hP
  have hD : va_D A [(h0, .inr (1, [.int 0, .int 0, .ref q_0, .ref q_1, .int 0, .null, .null, .null, .null, .null, .int 0, .int 0])), (q_0, .inl (cI, 60, .inl ps_0)), (q_1, .inl (cI, 60, .inl ps_0))] := hD
  refine lv_aload_n hx hb dX2_init_20 rfl (lv_at hl 0 rfl) ?_
  refine lv_bipush (v := 60) hx hb dX2_init_21 (by decide) ?_
  refine va_newa (atype := .boolean) (ty := .boolean) (N' := 60) (a0 := (60, .inl ps_0)) hx hb (hts _ q79) rfl hK hP hD hS hA (fun _ => rfl) (by decide) (by decide) (by decide) (Nat.le_of_ble_eq_true rfl) (Nat.le_of_ble_eq_true rfl) dX2_init_23 (fun q_2 cZ H hK hP hD hS => ?_)
  have hK : va_K (dC, dI) vwCl [(cI, .int), (cZ, .boolean)] s := hK
  have hP : va_P (dC, dI) vwCl [(h0, .inr (1, [.int 0, .int 0, .ref q_0, .ref q_1, .int 0, .null, .null, .null, .null, .null, .int 0, .int 0])), (q_0, .inl (cI, 60, .inl ps_0)), (q_1, .inl (cI, 60, .inl ps_0)), (q_2, .inl (cZ, 60, .inl ps_0))] H := hP
  have hD : va_D A [(h0, .inr (1, [.int 0, .int 0, .ref q_0, .ref q_1, .int 0, .null, .null, .null, .null, .null, .int 0, .int 0])), (q_0, .inl (cI, 60, .inl ps_0)), (q_1, .inl (cI, 60, .inl ps_0)), (q_2, .inl (cZ, 60, .inl ps_0))] := hD
  refine va_putF (D := (dC, dI)) (ci := 1) (v := .ref q_2) (ty := .array .boolean) (C := RX2) (T := TX2) (N := 12) hx hb hts in_X2 tyX2 tyX2_ok nmX2 hown hK hP hD hS 0 rfl rfl 5 (by decide) (hts _ q159) (fun _ h9 => h9) rfl hin rfl (by decide +kernel) rfl rfl (Nat.le_of_ble_eq_true rfl) dX2_init_25 (fun H locs hP hD hS => ?_)
  have hP : va_P (dC, dI) vwCl [(h0, .inr (1, [.int 0, .int 0, .ref q_0, .ref q_1, .int 0, .ref q_2, .null, .null, .null, .null, .int 0, .int 0])), (q_0, .inl (cI, 60, .inl ps_0)), (q_1, .inl (cI, 60, .inl ps_0)), (q_2, .inl (cZ, 60, .inl ps_0))] H := hP
  have hD : va_D A [(h0, .inr (1, [.int 0, .int 0, .ref q_0, .ref q_1, .int 0, .ref q_2, .null, .null, .null, .null, .int 0, .int 0])), (q_0, .inl (cI, 60, .inl ps_0)), (q_1, .inl (cI, 60, .inl ps_0)), (q_2, .inl (cZ, 60, .inl ps_0))] := hD
  refine lv_aload_n hx hb dX2_init_28 rfl (lv_at hl 0 rfl) ?_
  refine lv_bipush (v := 60) hx hb dX2_init_29 (by decide) ?_
  refine va_newa (atype := .int) (ty := .int) (N' := 60) (a0 := (60, .inl ps_0)) hx hb (hts _ q78) rfl hK hP hD hS hA (fun _ => rfl) (by decide) (by decide) (by decide) (Nat.le_of_ble_eq_true rfl) (Nat.le_of_ble_eq_true rfl) dX2_init_31 (fun q_3 cN H hK hP hD hS => ?_)
  obtain rfl : cI = cN := zk_same hK hK (i := 2) (j := 0) rfl rfl
  have hK : va_K (dC, dI) vwCl [(cI, .int), (cZ, .boolean)] s := hK.sub [0, 1] rfl
  have hP : va_P (dC, dI) vwCl [(h0, .inr (1, [.int 0, .int 0, .ref q_0, .ref q_1, .int 0, .ref q_2, .null, .null, .null, .null, .int 0, .int 0])), (q_0, .inl (cI, 60, .inl ps_0)), (q_1, .inl (cI, 60, .inl ps_0)), (q_2, .inl (cZ, 60, .inl ps_0)), (q_3, .inl (cI, 60, .inl ps_0))] H := hP
  have hD : va_D A [(h0, .inr (1, [.int 0, .int 0, .ref q_0, .ref q_1, .int 0, .ref q_2, .null, .null, .null, .null, .int 0, .int 0])), (q_0, .inl (cI, 60, .inl ps_0)), (q_1, .inl (cI, 60, .inl ps_0)), (q_2, .inl (cZ, 60, .inl ps_0)), (q_3, .inl (cI, 60, .inl ps_0))] := hD
  refine va_putF (D := (dC, dI)) (ci := 1) (v := .ref q_3) (ty := .array .int) (C := RX2) (T := TX2) (N := 12) hx hb hts in_X2 tyX2 tyX2_ok nmX2 hown hK hP hD hS 0 rfl rfl 6 (by decide) (hts _ q160) (fun _ h9 => h9) rfl hin rfl (by decide +kernel) rfl rfl (Nat.le_of_ble_eq_true rfl) dX2_init_33 (fun H locs hP hD hS => ?_)
  have hP : va_P (dC, dI) vwCl [(h0, .inr (1, [.int 0, .int 0, .ref q_0, .ref q_1, .int 0, .ref q_2, .ref q_3, .null, .null, .null, .int 0, .int 0])), (q_0, .inl (cI, 60, .inl ps_0)), (q_1, .inl (cI, 60, .inl ps_0)), (q_2, .inl (cZ, 60, .inl ps_0)), (q_3, .inl (cI, 60, .inl ps_0))] H := hP
  have hD : va_D A [(h0, .inr (1, [.int 0, .int 0, .ref q_0, .ref q_1, .int 0, .ref q_2, .ref q_3, .null, .null, .null, .int 0, .int 0])), (q_0, .inl (cI, 60, .inl ps_0)), (q_1, .inl (cI, 60, .inl ps_0)), (q_2, .inl (cZ, 60, .inl ps_0)), (q_3, .inl (cI, 60, .inl ps_0))] := hD
  refine lv_aload_n hx hb dX2_init_36 rfl (lv_at hl 0 rfl) ?_
  refine lv_bipush (v := 60) hx hb dX2_init_37 (by decide) ?_
  refine va_newa (atype := .int) (ty := .int) (N' := 60) (a0 := (60, .inl ps_0)) hx hb (hts _ q78) rfl hK hP hD hS hA (fun _ => rfl) (by decide) (by decide) (by decide) (Nat.le_of_ble_eq_true rfl) (Nat.le_of_ble_eq_true rfl) dX2_init_39 (fun q_4 cN H hK hP hD hS => ?_)
  obtain rfl : cI = cN := zk_same hK hK (i := 2) (j := 0) rfl rfl
  have hK : va_K (dC, dI) vwCl [(cI, .int), (cZ, .boolean)] s := hK.sub [0, 1] rfl
  have hP : va_P (dC, dI) vwCl [(h0, .inr (1, [.int 0, .int 0, .ref q_0, .ref q_1, .int 0, .ref q_2, .ref q_3, .null, .null, .null, .int 0, .int 0])), (q_0, .inl (cI, 60, .inl ps_0)), (q_1, .inl (cI, 60, .inl ps_0)), (q_2, .inl (cZ, 60, .inl ps_0)), (q_3, .inl (cI, 60, .inl ps_0)), (q_4, .inl (cI, 60, .inl ps_0))] H := hP
  have hD : va_D A [(h0, .inr (1, [.int 0, .int 0, .ref q_0, .ref q_1, .int 0, .ref q_2, .ref q_3, .null, .null, .null, .int 0, .int 0])), (q_0, .inl (cI, 60, .inl ps_0)), (q_1, .inl (cI, 60, .inl ps_0)), (q_2, .inl (cZ, 60, .inl ps_0)), (q_3, .inl (cI, 60, .inl ps_0)), (q_4, .inl (cI, 60, .inl ps_0))] := hD
  refine va_putF (D := (dC, dI)) (ci := 1) (v := .ref q_4) (ty := .array .int) (C := RX2) (T := TX2) (N := 12) hx hb hts in_X2 tyX2 tyX2_ok nmX2 hown hK hP hD hS 0 rfl rfl 7 (by decide) (hts _ q161) (fun _ h9 => h9) rfl hin rfl (by decide +kernel) rfl rfl (Nat.le_of_ble_eq_true rfl) dX2_init_41 (fun H locs hP hD hS => ?_)
  have hP : va_P (dC, dI) vwCl [(h0, .inr (1, [.int 0, .int 0, .ref q_0, .ref q_1, .int 0, .ref q_2, .ref q_3, .ref q_4, .null, .null, .int 0, .int 0])), (q_0, .inl (cI, 60, .inl ps_0)), (q_1, .inl (cI, 60, .inl ps_0)), (q_2, .inl (cZ, 60, .inl ps_0)), (q_3, .inl (cI, 60, .inl ps_0)), (q_4, .inl (cI, 60, .inl ps_0))] H := hP
  have hD : va_D A [(h0, .inr (1, [.int 0, .int 0, .ref q_0, .ref q_1, .int 0, .ref q_2, .ref q_3, .ref q_4, .null, .null, .int 0, .int 0])), (q_0, .inl (cI, 60, .inl ps_0)), (q_1, .inl (cI, 60, .inl ps_0)), (q_2, .inl (cZ, 60, .inl ps_0)), (q_3, .inl (cI, 60, .inl ps_0)), (q_4, .inl (cI, 60, .inl ps_0))] := hD
  refine lv_aload_n hx hb dX2_init_44 rfl (lv_at hl 0 rfl) ?_
  refine lv_bipush (v := 60) hx hb dX2_init_45 (by decide) ?_
  refine va_newa (atype := .int) (ty := .int) (N' := 60) (a0 := (60, .inl ps_0)) hx hb (hts _ q78) rfl hK hP hD hS hA (fun _ => rfl) (by decide) (by decide) (by decide) (Nat.le_of_ble_eq_true rfl) (Nat.le_of_ble_eq_true rfl) dX2_init_47 (fun q_5 cN H hK hP hD hS => ?_)
  obtain rfl : cI = cN := zk_same hK hK (i := 2) (j := 0) rfl rfl
  have hK : va_K (dC, dI) vwCl [(cI, .int), (cZ, .boolean)] s := hK.sub [0, 1] rfl
  have hP : va_P (dC, dI) vwCl [(h0, .inr (1, [.int 0, .int 0, .ref q_0, .ref q_1, .int 0, .ref q_2, .ref q_3, .ref q_4, .null, .null, .int 0, .int 0])), (q_0, .inl (cI, 60, .inl ps_0)), (q_1, .inl (cI, 60, .inl ps_0)), (q_2, .inl (cZ, 60, .inl ps_0)), (q_3, .inl (cI, 60, .inl ps_0)), (q_4, .inl (cI, 60, .inl ps_0)), (q_5, .inl (cI, 60, .inl ps_0))] H := hP
  have hD : va_D A [(h0, .inr (1, [.int 0, .int 0, .ref q_0, .ref q_1, .int 0, .ref q_2, .ref q_3, .ref q_4, .null, .null, .int 0, .int 0])), (q_0, .inl (cI, 60, .inl ps_0)), (q_1, .inl (cI, 60, .inl ps_0)), (q_2, .inl (cZ, 60, .inl ps_0)), (q_3, .inl (cI, 60, .inl ps_0)), (q_4, .inl (cI, 60, .inl ps_0)), (q_5, .inl (cI, 60, .inl ps_0))] := hD
  refine va_putF (D := (dC, dI)) (ci := 1) (v := .ref q_5) (ty := .array .int) (C := RX2) (T := TX2) (N := 12) hx hb hts in_X2 tyX2 tyX2_ok nmX2 hown hK hP hD hS 0 rfl rfl 8 (by decide) (hts _ q162) (fun _ h9 => h9) rfl hin rfl (by decide +kernel) rfl rfl (Nat.le_of_ble_eq_true rfl) dX2_init_49 (fun H locs hP hD hS => ?_)
  have hP : va_P (dC, dI) vwCl [(h0, .inr (1, [.int 0, .int 0, .ref q_0, .ref q_1, .int 0, .ref q_2, .ref q_3, .ref q_4, .ref q_5, .null, .int 0, .int 0])), (q_0, .inl (cI, 60, .inl ps_0)), (q_1, .inl (cI, 60, .inl ps_0)), (q_2, .inl (cZ, 60, .inl ps_0)), (q_3, .inl (cI, 60, .inl ps_0)), (q_4, .inl (cI, 60, .inl ps_0)), (q_5, .inl (cI, 60, .inl ps_0))] H := hP
  have hD : va_D A [(h0, .inr (1, [.int 0, .int 0, .ref q_0, .ref q_1, .int 0, .ref q_2, .ref q_3, .ref q_4, .ref q_5, .null, .int 0, .int 0])), (q_0, .inl (cI, 60, .inl ps_0)), (q_1, .inl (cI, 60, .inl ps_0)), (q_2, .inl (cZ, 60, .inl ps_0)), (q_3, .inl (cI, 60, .inl ps_0)), (q_4, .inl (cI, 60, .inl ps_0)), (q_5, .inl (cI, 60, .inl ps_0))] := hD
  refine lv_aload_n hx hb dX2_init_52 rfl (lv_at hl 0 rfl) ?_
  refine lv_bipush (v := 60) hx hb dX2_init_53 (by decide) ?_
  refine va_newa (atype := .boolean) (ty := .boolean) (N' := 60) (a0 := (60, .inl ps_0)) hx hb (hts _ q79) rfl hK hP hD hS hA (fun _ => rfl) (by decide) (by decide) (by decide) (Nat.le_of_ble_eq_true rfl) (Nat.le_of_ble_eq_true rfl) dX2_init_55 (fun q_6 cN H hK hP hD hS => ?_)
  obtain rfl : cZ = cN := zk_sameZ hK hK (i := 2) (j := 1) rfl rfl
  have hK : va_K (dC, dI) vwCl [(cI, .int), (cZ, .boolean)] s := hK.sub [0, 1] rfl
  have hP : va_P (dC, dI) vwCl [(h0, .inr (1, [.int 0, .int 0, .ref q_0, .ref q_1, .int 0, .ref q_2, .ref q_3, .ref q_4, .ref q_5, .null, .int 0, .int 0])), (q_0, .inl (cI, 60, .inl ps_0)), (q_1, .inl (cI, 60, .inl ps_0)), (q_2, .inl (cZ, 60, .inl ps_0)), (q_3, .inl (cI, 60, .inl ps_0)), (q_4, .inl (cI, 60, .inl ps_0)), (q_5, .inl (cI, 60, .inl ps_0)), (q_6, .inl (cZ, 60, .inl ps_0))] H := hP
  have hD : va_D A [(h0, .inr (1, [.int 0, .int 0, .ref q_0, .ref q_1, .int 0, .ref q_2, .ref q_3, .ref q_4, .ref q_5, .null, .int 0, .int 0])), (q_0, .inl (cI, 60, .inl ps_0)), (q_1, .inl (cI, 60, .inl ps_0)), (q_2, .inl (cZ, 60, .inl ps_0)), (q_3, .inl (cI, 60, .inl ps_0)), (q_4, .inl (cI, 60, .inl ps_0)), (q_5, .inl (cI, 60, .inl ps_0)), (q_6, .inl (cZ, 60, .inl ps_0))] := hD
  refine va_putF (D := (dC, dI)) (ci := 1) (v := .ref q_6) (ty := .array .boolean) (C := RX2) (T := TX2) (N := 12) hx hb hts in_X2 tyX2 tyX2_ok nmX2 hown hK hP hD hS 0 rfl rfl 9 (by decide) (hts _ q163) (fun _ h9 => h9) rfl hin rfl (by decide +kernel) rfl rfl (Nat.le_of_ble_eq_true rfl) dX2_init_57 (fun H locs hP hD hS => ?_)
  have hP : va_P (dC, dI) vwCl [(h0, .inr (1, [.int 0, .int 0, .ref q_0, .ref q_1, .int 0, .ref q_2, .ref q_3, .ref q_4, .ref q_5, .ref q_6, .int 0, .int 0])), (q_0, .inl (cI, 60, .inl ps_0)), (q_1, .inl (cI, 60, .inl ps_0)), (q_2, .inl (cZ, 60, .inl ps_0)), (q_3, .inl (cI, 60, .inl ps_0)), (q_4, .inl (cI, 60, .inl ps_0)), (q_5, .inl (cI, 60, .inl ps_0)), (q_6, .inl (cZ, 60, .inl ps_0))] H := hP
  have hD : va_D A [(h0, .inr (1, [.int 0, .int 0, .ref q_0, .ref q_1, .int 0, .ref q_2, .ref q_3, .ref q_4, .ref q_5, .ref q_6, .int 0, .int 0])), (q_0, .inl (cI, 60, .inl ps_0)), (q_1, .inl (cI, 60, .inl ps_0)), (q_2, .inl (cZ, 60, .inl ps_0)), (q_3, .inl (cI, 60, .inl ps_0)), (q_4, .inl (cI, 60, .inl ps_0)), (q_5, .inl (cI, 60, .inl ps_0)), (q_6, .inl (cZ, 60, .inl ps_0))] := hD
  obtain ⟨qa, hP, hD⟩ : ∃ qa : Nat → Nat, va_P (dC, dI) vwCl (wM h0 qa cI cZ 0 (nI 0) ps_0 ps_0 0 ps_0 ps_0 ps_0 ps_0 ps_0 0 0) H ∧ va_D A (wM h0 qa cI cZ 0 (nI 0) ps_0 ps_0 0 ps_0 ps_0 ps_0 ps_0 ps_0 0 0) := ⟨(fun k => match k with | 0 => q_0 | 1 => q_1 | 2 => q_2 | 3 => q_3 | 4 => q_4 | 5 => q_5 | _ => q_6), hP, hD⟩
  refine lv_aload_n hx hb dX2_init_60 rfl (lv_at hl 0 rfl) ?_
  refine lv_iload_n hx hb dX2_init_61 rfl (lv_at hl 1 rfl) ?_
  refine zc_v (As := [.int x]) (rest := []) ⟨hx, hb, hml, hown, hts⟩ (mM_width l dC dI cI cZ h0 H.size qa 0 (nI 0) ps_0 ps_0 0 ps_0 ps_0 ps_0 ps_0 ps_0 0 0 x) (cwV 1 hts (lw_V q150 q151 q152 q13 q153) rfl rfl rfl (by decide +kernel) ⟨Nat.le_of_ble_eq_true rfl, Nat.le_of_ble_eq_true rfl⟩) (ci := 1) rfl rfl hK hP hD hS hA rfl hl.1 rfl (Nat.le_of_ble_eq_true rfl) dX2_init_62 ⟨Nat.le_of_ble_eq_true rfl, Nat.le_of_ble_eq_true rfl⟩ (fun u_9 H locs hw_9 hP hD hS => ?_)
  refine W.widen (k := 7) (n := 420) (Nat.le_of_ble_eq_true rfl) (Nat.le_of_ble_eq_true rfl) ?_
  exact W.vret hx hb hr (fun t ht hW => ⟨⟨(qa, cI, cZ), rfl, trivial, by rw [ht]; exact hP, va_K.moved hW.alike hK, hD⟩, hS.F ht⟩) hS.2.2 dX2_init_65
set_option maxHeartbeats 4000000 in
set_option maxRecDepth 100000 in
/-- cell(script, 0) -/
theorem mL_cell (l : Launch) (b L : Nat) (xs : Nat → Int32) (hL : L ≤ 129) : Met l yX0_cell (ws_ yX0_cell cX0_cell 2 (some .int)) ({ frames := 0, cells := 0, slots := 0, locals := 0 }) (va_Pc [.ref b, .int 0] (fun U => va_X b L xs U U.heap ∧ b < U.heap.size)) (va_Qi (fun (r : Int32) (_ : Unit) => r = if 0 < L then xs 0 else 0) (fun _ _ => True) (fun _ => False)) 0 0 (fun _ => False) := by
  refine Met.ofW (cc := cX0_cell) (maxL := 2) (ret := (some .int)) (by decide) rfl ?_
  intro p e s m args below meth c s₁ B hml hv
  obtain ⟨rfl, hX, hbl⟩ := hv
  have hx := B.exec
  have hb := B.bytes
  have hr := B.returns
  have hlocks := B.notSynchronized
  have hS : va_S (fun _ => False) s.heap s.heap [] := va_S.rf
  have hl := lv_entry ([.ref b, .int 0]) (n := 2) (Nat.le_of_ble_eq_true rfl)
  rw [lg_entry_eq]
  generalize (lg_sl ([.ref b, .int 0]) ++ List.replicate (2 - (lg_sl ([.ref b, .int 0])).length) Slot.unset).toArray = ls at hl ⊢
  have hl : lv_has ls 2 [(0, .ref b), (1, .int 0)] := hl
  refine lv_iload_n hx hb dX0_cell_0 rfl (lv_at hl 1 rfl) ?_
  refine lv_aload_n hx hb dX0_cell_1 rfl (lv_at hl 0 rfl) ?_
  refine va_slen hx hb hX hbl (fun h => h) hS dX0_cell_2 ?_
  refine lv_icmp_ge (tgt := 12) hx hb dX0_cell_3 (by decide) (fun c_3 => ?_) (fun c_3 => ?_)
  · have h0 : L = 0 := by
      have := (nI_leI (a := L) (b := 0) (by omega) (by omega)).mp c_3
      omega
    refine lv_iconst (v := 0) hx hb dX0_cell_12 (by decide) ?_
    exact W.iret (v := 0) hx hb hr (fun t ht hW => ⟨⟨0, (), rfl, by rw [h0]; rfl, trivial⟩, hS.F ht⟩) hS.2.2 dX0_cell_13
  · have h0 : 0 < L := by
      rcases Nat.eq_zero_or_pos L with z | z
      · exact absurd (by rw [z]; decide) c_3
      · exact z
    refine lv_aload_n hx hb dX0_cell_6 rfl (lv_at hl 0 rfl) ?_
    refine lv_iload_n hx hb dX0_cell_7 rfl (lv_at hl 1 rfl) ?_
    refine va_sld hx hb hX hbl (fun h => h) hS (vp_in_nI (n := 0) h0 (by omega)) dX0_cell_8 ?_
    refine lv_goto (tgt := 13) hx hb dX0_cell_9 (by decide) ?_
    exact W.iret (v := xs (0 : Int32).toNatClampNeg) hx hb hr (fun t ht hW => ⟨⟨xs (0 : Int32).toNatClampNeg, (), rfl, by rw [if_pos h0, sb_cl0], trivial⟩, hS.F ht⟩) hS.2.2 dX0_cell_13
end
section
/-! THE CLAIM OUT OF ONE WALK OF THE LAW'S BODY. Your part is whole_start (and what it stands on); all else here is the same for every law, but numbers. -/
def R_law : String := "PrettyStreamLaw"
def lw_P (b : Addr) (xs : List Int32) (args : Array Value) (s : State) : Prop := args = #[.ref b] ∧ s.IntsAt b xs ∧ xs.length ≤ 129 ∧ (Jvm.Cond.and given_1 narrow_1).before args s = true
def lw_Q (_ : Array Value) (s : State) (o : Outcome) (t : State) : Prop := o = .returned (some (.int 1)) ∧ Framed s o t [] 600000 7290000
def lw_Z (below : List Frame) (a : Array Value) (s : State) : State → Prop := fun t => ∃ o, t.status = .running ∧ Ended t below o ∧ lw_Q a s o t
/-- the law's own end, with 1 on the stack, nothing written that was there before, its room as the claim has it -/
theorem lw_ret {p : Program} {l : Launch} {e : Env} {s : State} {m : MethodId} {below : List Frame} {meth : Method} {c : Code} {b : Nat} (hx : p.tables.exec = Jvm.exec) (hb : c.code = code) (hr : meth.sig.returnType = ret) (hlocks : meth.locks = false) {pc : Nat} {H : Heap} {ls : Array Slot} (hdg : decode code pc = .ok (.ireturn, 1)) : W p l e room_1 s m #[Value.ref b] below meth c H [] 600000 7290000 (lw_Z below #[Value.ref b] s) (F0 m pc ls [.int 1]) := by
  intro T hT X
  obtain ⟨fs, hret, hrun, hended, hW, hframe⟩ := X.leave (v := some (.int 1)) (hlocks := hlocks) (fun h => by rw [hr] at h; cases h)
  have hmeth' : T.vm.method? m = some meth := X.method'
  refine ⟨T.setFrames fs, ?_, .returned (some (.int 1)), hrun, hended, rfl, ⟨_, rfl⟩, hW, hframe⟩
  jvm_step X.here [X.here.top, hx, hb, hdg, hmeth', hr, ret, narrow_b1]
  (try refine ⟨rfl, ?_⟩); (try refine ⟨rfl, ?_⟩)
  first | (intro acts; rw [hret _ acts rfl rfl rfl]) | rw [hret _ _ rfl rfl rfl]
  exact Steps.refl _
/-- what holds at the law's entry: the machine, the code, the tables' words (any of lw_tbl by 'hts w (by decide +kernel)'), the script of L ints xs at the cell b, what the Statement gives of the start (any of its parts by flat_of_before) -/
def lw_At (p : Program) (s : State) (m : MethodId) (meth : Method) (c : Code) (b L : Nat) (xs : Nat → Int32) : Prop :=
  p.tables.exec = Jvm.exec ∧ c.code = code ∧ meth.sig.returnType = ret ∧ c.maxLocals = 4 ∧ s.vm.findClass R_law = some m.cls ∧ (∀ w ∈ lw_tbl, w.before #[Value.ref b] s = true) ∧ va_X b L xs s s.heap ∧ b < s.heap.size ∧ meth.locks = false ∧ (Jvm.Cond.and given_1 narrow_1).before #[Value.ref b] s = true
end
section
theorem zb_cell {av : List Value} {b L : Nat} {xs : Nat → Int32} : FrameBlind (va_Pc av (fun U => va_X b L xs U U.heap ∧ b < U.heap.size)) := fun a U g mk q => ⟨q.1, va_X.moved (u := U) (U := U.calling g mk a) (Vm.Alike.refl U.vm) q.2.1, q.2.2⟩
theorem zb_new {av : List Value} {dC : Nat → ClassId} {dI : Nat → Nat → Nat} {sz : Nat} {w : va_W} : FrameBlind (va_Pc av (fun U => U.heap.size = sz ∧ va_P (dC, dI) vwCl w U.heap ∧ va_K (dC, dI) vwCl [] U ∧ va_D (fun _ => True) w)) := fun a U g mk q => by
  obtain ⟨q0, q1, qP, qK, qD⟩ := q
  exact ⟨q0, q1, qP, va_K.moved (u := U) (U := U.calling g mk a) (Vm.Alike.refl U.vm) qK, qD⟩
theorem ps_XI_0 (so a : Nat → Int32) (pw : Int32) (si re ro co fl : Nat → Int32) (lr gc : Int32) : ps_XI 0 so a pw 0 si 0 re 0 ro co fl lr gc := ⟨ps_ok_0 so, nI_0.symm, fun i h => absurd h (Nat.not_lt_zero i), Or.inl rfl, Or.inl rfl⟩
theorem ps_XI_w {n : Nat} {so a : Nat → Int32} {pw un : Int32} {si : Nat → Int32} {mb : Int32} {re : Nat → Int32} {lb : Int32} {ro co fl : Nat → Int32} {lr gc : Int32} (h : ps_XI n so a pw un si mb re lb ro co fl lr gc) (w : Int32) : ps_XI n so a w un si mb re 0 ro co fl lr gc := ⟨h.1, h.2.1, h.2.2.1, h.2.2.2.1, Or.inl rfl⟩
theorem zn_end {L i : Nat} (hL : L ≤ 129) (hi : i ≤ 131) (h : ¬ Int32.ofNat L - 2 < nI i) : i + 1 < L := by
  have h1 : nI i ≤ nI L - nI 2 := Int32.not_lt.mp h
  rw [Int32.le_iff_toInt_le, pk_sub_toInt (by omega) (by omega), nI_toInt (by omega)] at h1
  omega
set_option maxHeartbeats 16000000 in
set_option maxRecDepth 100000 in
/-- THE LAW, from its entry -/
theorem whole_start {p : Program} {e : Env} {s : State} {m : MethodId} {below : List Frame} {meth : Method} {c : Code} (l : Launch) {b L : Nat} {xs : Nat → Int32} (hL : L ≤ 129) (C0 : lw_At p s m meth c b L xs) : W p l e room_1 s m #[Value.ref b] below meth c s.heap [] 0 0 (lw_Z below #[Value.ref b] s) (entryFrame m ([Value.ref b] : List Value).toArray 4) := by
  obtain ⟨hx, hb, hr, hml, hown, hts0, hX, hbl, hlocks, hgv⟩ := id C0
  have hts : ∀ w ∈ lw_all, w.before #[Value.ref b] s = true := fun w h => hts0 w (lw_all_tbl h)
  obtain ⟨A, hAe⟩ : ∃ A : Nat → Prop, A = fun q : Nat => s.heap.size ≤ q := ⟨_, rfl⟩
  have hA : ∀ q : Nat, s.heap.size ≤ q → A q := by rw [hAe]; exact fun _ h => h
  have hbA : ¬ A b := by rw [hAe]; exact Nat.not_le.mpr hbl
  obtain ⟨c0, iS0, hKn0⟩ := u_known (C := RX1) (T := TX1) (N := 17) (n := 17) hts0 (fun w h => lw_all_tbl (in_X1 w h)) (hts0 _ (lw_all_tbl q15))
  obtain ⟨c1, iS1, hKn1⟩ := u_known (C := RX2) (T := TX2) (N := 12) (n := 12) hts0 (fun w h => lw_all_tbl (in_X2 w h)) (hts0 _ (lw_all_tbl q145))
  obtain ⟨dC, dI, hKc⟩ : ∃ (dC : Nat → ClassId) (dI : Nat → Nat → Nat), ∀ (k : Nat) (q : vw_C), vwCl[k]? = some q → u_Kn s q.1 q.2.1 q.2.2 (dC k) (dI k) := by
    refine ⟨fun k => if k = 0 then c0 else c1, fun k => if k = 0 then iS0 else iS1, ?_⟩
    intro k q hq
    match k, hq with
    | 0, hq => cases hq; exact hKn0
    | 1, hq => cases hq; exact hKn1
    | k + 2, hq => simp [vwCl] at hq
  have hS : va_S A s.heap s.heap [] := va_S.rf
  have hK : va_K (dC, dI) vwCl [] s := ⟨hKc, fun k q h => by simp at h⟩
  have hP : va_P (dC, dI) vwCl [] s.heap := fun k q h => by simp at h
  have hD : va_D A [] := ⟨fun i j p q h => by simp at h, fun k q h => by simp at h⟩
  have hl := lv_entry ([.ref b]) (n := 4) (Nat.le_of_ble_eq_true rfl)
  rw [lg_entry_eq]
  generalize (lg_sl ([.ref b]) ++ List.replicate (4 - (lg_sl ([.ref b])).length) Slot.unset).toArray = ls at hl ⊢
  have hl : lv_has ls 4 [(0, .ref b)] := hl
  refine va_new (ci := 0) (fs := fX) (C := RX1) (T := TX1) (N := 17) hx hb hts in_X1 tyX1 tyX1_ok hown (hts _ q14) (hts _ q15) (hts _ q12) hK hP hD hS hA rfl (fun j hj => by rcases (show j = 0 ∨ j = 1 ∨ j = 2 ∨ j = 3 ∨ j = 4 ∨ j = 5 ∨ j = 6 ∨ j = 7 ∨ j = 8 ∨ j = 9 ∨ j = 10 ∨ j = 11 ∨ j = 12 ∨ j = 13 ∨ j = 14 ∨ j = 15 ∨ j = 16 by omega) with rfl | rfl | rfl | rfl | rfl | rfl | rfl | rfl | rfl | rfl | rfl | rfl | rfl | rfl | rfl | rfl | rfl <;> rfl) (Nat.le_of_ble_eq_true rfl) (Nat.le_of_ble_eq_true rfl) dL_law_0 (fun ox H hP hD hS => ?_)
  have hP : va_P (dC, dI) vwCl [(ox, .inr (0, fX))] H := hP
  have hD : va_D A [(ox, .inr (0, fX))] := hD
  refine W.widen (k := 1) (n := 17) (Nat.le_of_ble_eq_true rfl) (Nat.le_of_ble_eq_true rfl) ?_
  refine lv_dup hx hb dL_law_3 rfl ?_
  refine lv_aload_n hx hb dL_law_4 rfl (lv_at hl 0 rfl) ?_
  refine lv_iconst (v := 0) hx hb dL_law_5 (by decide) ?_
  refine va_calli (va_runS (As := [.ref b, .int 0]) (rest := [.ref ox, .ref ox]) ⟨hx, hb, hml, hown, hts⟩ (mL_cell l b L xs hL) (va_cwS 2 hts (lw_S q141 q142 q11 q143) rfl rfl rfl (by decide +kernel) ⟨Nat.le_of_ble_eq_true rfl, Nat.le_of_ble_eq_true rfl⟩) ⟨zb_cell, fun U hU hW => ⟨rfl, va_X.moved hW.alike (by rw [hU]; exact hX.kept (hS.2.1 b hbl hbA)), by rw [hU]; exact Nat.lt_of_lt_of_le hbl hS.1⟩⟩ rfl rfl hl.1 rfl (lv_room (Nat.le_of_ble_eq_true rfl)) dL_law_6 ⟨Nat.le_of_ble_eq_true rfl, Nat.le_of_ble_eq_true rfl⟩) hS (fun q _ h => h.elim) (fun q h => h.elim) (fun r_6 u_6 t_6 H1 locs ht_6 hvm_6 hw_6 hB_6 hz_6 hk_6 hS => ?_)
  have hP := hP.kept (fun k q hq => hk_6 q.1 (hP k q hq).lt (fun h => h))
  generalize H1 = H at hP hS ⊢
  have hFc := va_free (wc := [(ox, .inr (0, fX))]) hD hS hA [0] rfl
  refine va_callv (va_runI (As := [.int r_6]) (rest := [.ref ox]) ⟨hx, hb, hml, hown, hts⟩ (mX_init l dC dI ox H.size r_6) (cwI 1 hts (lw_meth q18) rfl rfl rfl (hts _ q12) (hts _ q16) (hts _ q17) rfl (by decide +kernel) ⟨Nat.le_of_ble_eq_true rfl, Nat.le_of_ble_eq_true rfl⟩) ⟨zb_new, fun U hU hW => ⟨rfl, by rw [hU], by rw [hU]; exact hP, va_K.moved hW.alike hK, hD.weaken (fun _ _ _ _ => trivial)⟩⟩ rfl rfl hl.1 rfl (lv_room (Nat.le_of_ble_eq_true rfl)) dL_law_9 ⟨Nat.le_of_ble_eq_true rfl, Nat.le_of_ble_eq_true rfl⟩) hS (fun q _ h => hFc q h) hFc (fun u_9 t_9 H2 locs ht_9 hvm_9 hw_9 hB_9 hz_9 hk_9 hS => ?_)
  obtain ⟨qx, cI, cZ⟩ := u_9
  obtain ⟨hP1, hK1, hD1⟩ := hB_9
  rw [ht_9] at hP1
  have hK : va_K (dC, dI) vwCl (tyA cI cZ) s := va_K.moved hvm_9.symm hK1
  have hP : va_P (dC, dI) vwCl (wX ox qx cI cZ (ps_wd r_6) (nI 0) 0 ps_0 ps_0 0 ps_0 ps_0 ps_0 ps_0 0 ps_0 ps_0 ps_0 ps_0 0 0) H2 := hP1
  have hD : va_D A (wX ox qx cI cZ (ps_wd r_6) (nI 0) 0 ps_0 ps_0 0 ps_0 ps_0 ps_0 ps_0 0 ps_0 ps_0 ps_0 ps_0 0 0) := hD1.weaken (fun k q _ h => hFc q.1 h)
  clear hP1 hD1 hFc hK1
  generalize H2 = H at hP hS ⊢
  refine W.widen (k := 11) (n := 569) (Nat.le_of_ble_eq_true rfl) (Nat.le_of_ble_eq_true rfl) ?_
  refine lv_astore_n (lv' := [(1, .ref ox), (0, .ref b)]) hx hb dL_law_12 rfl hl (by decide) rfl (fun ls hl => ?_)
  refine va_new (ci := 1) (fs := fM) (C := RX2) (T := TX2) (N := 12) hx hb hts in_X2 tyX2 tyX2_ok hown (hts _ q144) (hts _ q145) (hts _ q13) hK hP hD hS hA rfl (fun j hj => by rcases (show j = 0 ∨ j = 1 ∨ j = 2 ∨ j = 3 ∨ j = 4 ∨ j = 5 ∨ j = 6 ∨ j = 7 ∨ j = 8 ∨ j = 9 ∨ j = 10 ∨ j = 11 by omega) with rfl | rfl | rfl | rfl | rfl | rfl | rfl | rfl | rfl | rfl | rfl | rfl <;> rfl) (Nat.le_of_ble_eq_true rfl) (Nat.le_of_ble_eq_true rfl) dL_law_13 (fun om H hP hD hS => ?_)
  refine W.widen (k := 12) (n := 581) (Nat.le_of_ble_eq_true rfl) (Nat.le_of_ble_eq_true rfl) ?_
  refine lv_dup hx hb dL_law_16 rfl ?_
  refine lv_aload_n hx hb dL_law_17 rfl (lv_at hl 1 rfl) ?_
  refine lv_iconst (v := 0) hx hb dL_law_18 (by decide) ?_
  refine va_calli (va_runS (As := [.ref b, .int 0]) (rest := [.ref om, .ref om]) ⟨hx, hb, hml, hown, hts⟩ (mL_cell l b L xs hL) (va_cwS 2 hts (lw_S q141 q142 q11 q143) rfl rfl rfl (by decide +kernel) ⟨Nat.le_of_ble_eq_true rfl, Nat.le_of_ble_eq_true rfl⟩) ⟨zb_cell, fun U hU hW => ⟨rfl, va_X.moved hW.alike (by rw [hU]; exact hX.kept (hS.2.1 b hbl hbA)), by rw [hU]; exact Nat.lt_of_lt_of_le hbl hS.1⟩⟩ rfl rfl hl.1 rfl (lv_room (Nat.le_of_ble_eq_true rfl)) dL_law_19 ⟨Nat.le_of_ble_eq_true rfl, Nat.le_of_ble_eq_true rfl⟩) hS (fun q _ h => h.elim) (fun q h => h.elim) (fun r_19 u_19 t_19 H1 locs ht_19 hvm_19 hw_19 hB_19 hz_19 hk_19 hS => ?_)
  have hP := hP.kept (fun k q hq => hk_19 q.1 (hP k q hq).lt (fun h => h))
  generalize H1 = H at hP hS ⊢
  have hPc := hP.sub (ws' := [(om, .inr (1, fM))]) [11] rfl
  have hDc := hD.sub (ws' := [(om, .inr (1, fM))]) [11] (by decide) rfl
  have hKc2 := hK.sub (tys' := []) [] rfl
  have hFc := va_free (wc := [(om, .inr (1, fM))]) hD hS hA [11] rfl
  refine va_callv (va_runI (As := [.int r_19]) (rest := [.ref om]) ⟨hx, hb, hml, hown, hts⟩ (mM_init l dC dI om H.size r_19) (cwI 1 hts (lw_meth q148) rfl rfl rfl (hts _ q13) (hts _ q146) (hts _ q147) rfl (by decide +kernel) ⟨Nat.le_of_ble_eq_true rfl, Nat.le_of_ble_eq_true rfl⟩) ⟨zb_new, fun U hU hW => ⟨rfl, by rw [hU], by rw [hU]; exact hPc, va_K.moved hW.alike hKc2, hDc.weaken (fun _ _ _ _ => trivial)⟩⟩ rfl rfl hl.1 rfl (lv_room (Nat.le_of_ble_eq_true rfl)) dL_law_22 ⟨Nat.le_of_ble_eq_true rfl, Nat.le_of_ble_eq_true rfl⟩) hS (fun q _ h => hFc q h) hFc (fun u_22 t_22 H3 locs ht_22 hvm_22 hw_22 hB_22 hz_22 hk_22 hS => ?_)
  obtain ⟨qm, cI2, cZ2⟩ := u_22
  obtain ⟨hP1, hK1, hD1⟩ := hB_22
  rw [ht_22] at hP1
  have hK2 := va_K.moved hvm_22.symm hK1
  obtain ⟨hP, hD⟩ := va_join (wr := (wX ox qx cI cZ (ps_wd r_6) (nI 0) 0 ps_0 ps_0 0 ps_0 ps_0 ps_0 ps_0 0 ps_0 ps_0 ps_0 ps_0 0 0)) (w1 := (wM om qm cI2 cZ2 (ps_wd r_19) (nI 0) ps_0 ps_0 0 ps_0 ps_0 ps_0 ps_0 ps_0 0 0)) hP hD [11] [0, 1, 2, 3, 4, 5, 6, 7, 8, 9, 10] rfl rfl (by decide) (by decide) hk_22 hFc hP1 hD1
  clear hPc hDc hP1 hD1 hFc hK1
  obtain rfl : cI = cI2 := zk_same hK2 hK (i := 0) (j := 0) rfl rfl
  obtain rfl : cZ = cZ2 := zk_sameZ hK2 hK (i := 1) (j := 1) rfl rfl
  obtain rfl : r_6 = r_19 := hw_6.trans hw_19.symm
  generalize H3 = H at hP hS ⊢
  refine W.widen (k := 19) (n := 1001) (Nat.le_of_ble_eq_true rfl) (Nat.le_of_ble_eq_true rfl) ?_
  refine lv_astore_n (lv' := [(2, .ref om), (1, .ref ox), (0, .ref b)]) hx hb dL_law_25 rfl hl (by decide) rfl (fun ls hl => ?_)
  refine lv_iconst (v := nI 1) hx hb dL_law_26 (by decide) ?_
  refine lv_istore_n (lv' := [(3, .int (nI 1)), (2, .ref om), (1, .ref ox), (0, .ref b)]) hx hb dL_law_27 rfl hl (by decide) rfl (fun ls hl => ?_)
  refine zl_loop (I := fun k H locs ls => ∃ (i n : Nat) (pw : Int32) (so a : Nat → Int32) (u : SX) (v : SM), (k = 131 - i) ∧ (i ≤ 131) ∧ ps_XIt n so a pw u ∧ va_P (dC, dI) vwCl (wXt ox qx cI cZ pw n so u ++ wMt om qm cI cZ pw n so a v) H ∧ va_D A (wXt ox qx cI cZ pw n so u ++ wMt om qm cI cZ pw n so a v) ∧ va_S A s.heap H locs ∧ lv_has ls 4 [(0, .ref b), (1, .ref ox), (2, .ref om), (3, .int (nI i))]) ?_ 130 _ _ _ ⟨1, 0, ps_wd r_6, ps_0, ps_0, (0, ps_0, 0, ps_0, ps_0, ps_0, ps_0, 0, ps_0, ps_0, ps_0, ps_0, 0, 0), (0, ps_0, ps_0, ps_0, ps_0, ps_0, 0, 0), rfl, by omega, ps_XI_0 _ _ _ _ _ _ _ _ _ _, hP, hD, hS, lv_sub hl [3, 2, 1, 0] rfl⟩
  clear hP hD hS hl
  intro k H locs ls hI ih
  obtain ⟨i, n, pw, so, a, u, v, hk, hi, hI, hP, hD, hS, hl⟩ := hI
  refine lv_iload_n hx hb dL_law_28 rfl (lv_at hl 3 rfl) ?_
  refine lv_aload_n hx hb dL_law_29 rfl (lv_at hl 0 rfl) ?_
  refine va_slen hx hb hX hbl hbA hS dL_law_30 ?_
  refine lv_iconst (v := 2) hx hb dL_law_31 (by decide) ?_
  refine lv_isub hx hb dL_law_32 ?_
  refine lv_icmp_gt (tgt := 317) hx hb dL_law_33 (by decide) (fun c_33 => ?_) (fun c_33 => ?_)
  · refine lv_iconst (v := 1) hx hb dL_law_317 (by decide) ?_
    refine va_forget (fun q hq => by have h9 := hS.2.2 q hq; rw [hAe] at h9; exact h9) ?_
    refine W.widen (k := 600000) (n := 7290000) (Nat.le_of_ble_eq_true rfl) (Nat.le_of_ble_eq_true rfl) ?_
    exact lw_ret hx hb hr hlocks dL_law_318
  have hiL := zn_end hL hi c_33
  refine lv_aload_n hx hb dL_law_36 rfl (lv_at hl 0 rfl) ?_
  refine lv_iload_n hx hb dL_law_37 rfl (lv_at hl 3 rfl) ?_
  refine va_sld hx hb hX hbl hbA hS (vp_in_nI (n := i) (N := L) (by omega) (by omega)) dL_law_38 ?_
  rw [nI_clamp (n := i) (by omega)]
  refine lv_bipush (v := 15) hx hb dL_law_39 (by decide) ?_
  refine lv_iand hx hb dL_law_41 ?_
  refine zl_cut (pc := 311) (I := fun H locs ls stk => ∃ (n : Nat) (pw : Int32) (so a : Nat → Int32) (u : SX) (v : SM), ps_XIt n so a pw u ∧ stk = [] ∧ va_P (dC, dI) vwCl (wXt ox qx cI cZ pw n so u ++ wMt om qm cI cZ pw n so a v) H ∧ va_D A (wXt ox qx cI cZ pw n so u ++ wMt om qm cI cZ pw n so a v) ∧ va_S A s.heap H locs ∧ lv_has ls 4 [(0, .ref b), (1, .ref ox), (2, .ref om), (3, .int (nI i))]) ?_ (fun J => ?_)
  · intro H locs ls stk hJ
    obtain ⟨n, pw, so, a, u, v, hI, rfl, hP, hD, hS, hl⟩ := hJ
    refine lv_iinc (v := nI (i + 2)) (lv' := [(3, .int (nI (i + 2))), (0, .ref b), (1, .ref ox), (2, .ref om)]) hx hb dL_law_311 hl (k := 3) rfl (nI_add i 2) (by decide) rfl (fun ls hl => ?_)
    refine lv_goto (tgt := 28) hx hb dL_law_314 (by decide) ?_
    exact ih (131 - (i + 2)) _ _ _ (by omega) ⟨i + 2, n, pw, so, a, u, v, rfl, by omega, hI, hP, hD, hS, lv_sub hl [1, 2, 3, 0] rfl⟩
  obtain ⟨j, hj, ej⟩ := pk_andE (xs i) (m := 15) 4 (by decide)
  rw [ej]
  by_cases hj11 : 11 ≤ j
  · refine lv_tableOut (tgt := 311) hx hb dL_law_42 (Or.inr (by rw [nI_toInt (by omega)]; omega)) (by decide) ?_
    exact J _ _ _ _ ⟨n, pw, so, a, u, v, hI, rfl, hP, hD, hS, hl⟩
  rcases (show j = 0 ∨ j = 1 ∨ j = 2 ∨ j = 3 ∨ j = 4 ∨ j = 5 ∨ j = 6 ∨ j = 7 ∨ j = 8 ∨ j = 9 ∨ j = 10 by omega) with rfl | rfl | rfl | rfl | rfl | rfl | rfl | rfl | rfl | rfl | rfl
  · refine lv_tableIn (off := 58) (tgt := 100) hx hb dL_law_42 (by decide) (by decide) (by decide) (by decide) ?_
    refine lv_aload_n hx hb dL_law_100 rfl (lv_at hl 1 rfl) ?_
    refine lv_aload_n hx hb dL_law_101 rfl (lv_at hl 0 rfl) ?_
    refine lv_iload_n hx hb dL_law_102 rfl (lv_at hl 3 rfl) ?_
    refine lv_iconst (v := 1) hx hb dL_law_103 (by decide) ?_
    refine lv_iadd hx hb dL_law_104 ?_
    rw [show nI i + 1 = nI (i + 1) from nI_1 i]
    refine va_sld hx hb hX hbl hbA hS (vp_in_nI (n := i + 1) (N := L) (by omega) (by omega)) dL_law_105 ?_
    rw [nI_clamp (n := i + 1) (by omega)]
    refine zd_i (w := (wXt ox qx cI cZ pw n so u)) (wr := (wMt om qm cI cZ pw n so a v)) (As := [.int (xs (i + 1))]) (rest := []) ⟨hx, hb, hml, hown, hts⟩ (mX_word l dC dI cI cZ ox H.size qx pw n u.1 so u.2.1 u.2.2.1 u.2.2.2.1 u.2.2.2.2.1 u.2.2.2.2.2.1 u.2.2.2.2.2.2.1 u.2.2.2.2.2.2.2.1 u.2.2.2.2.2.2.2.2.1 u.2.2.2.2.2.2.2.2.2.1 u.2.2.2.2.2.2.2.2.2.2.1 u.2.2.2.2.2.2.2.2.2.2.2.1 u.2.2.2.2.2.2.2.2.2.2.2.2.1 u.2.2.2.2.2.2.2.2.2.2.2.2.2 a (xs (i + 1)) (decide (¬ xs (i + 1) < 1 ∧ ¬ 20 < xs (i + 1) ∧ n < 60)) hI rfl) (cwV 1 hts (lw_V q80 q81 q82 q12 q83) rfl rfl rfl (by decide +kernel) ⟨Nat.le_of_ble_eq_true rfl, Nat.le_of_ble_eq_true rfl⟩) (ci := 0) rfl rfl hK hP hD hS hA [0, 1, 2, 3, 4, 5, 6, 7, 8, 9, 10] [11, 12, 13, 14, 15, 16, 17, 18] rfl rfl (by decide) (by decide) (by decide) rfl hl.1 rfl (Nat.le_of_ble_eq_true rfl) dL_law_106 ⟨Nat.le_of_ble_eq_true rfl, Nat.le_of_ble_eq_true rfl⟩ (fun r1 u1 H locs hw1 hP hD hS => ?_)
    have hP : va_P (dC, dI) vwCl ((wMt om qm cI cZ pw n so a v) ++ (wXt ox qx cI cZ pw (ps_n (decide (¬ xs (i + 1) < 1 ∧ ¬ 20 < xs (i + 1) ∧ n < 60)) n) (ps_u (decide (¬ xs (i + 1) < 1 ∧ ¬ 20 < xs (i + 1) ∧ n < 60)) n so 0) u1)) H := hP
    have hD : va_D A ((wMt om qm cI cZ pw n so a v) ++ (wXt ox qx cI cZ pw (ps_n (decide (¬ xs (i + 1) < 1 ∧ ¬ 20 < xs (i + 1) ∧ n < 60)) n) (ps_u (decide (¬ xs (i + 1) < 1 ∧ ¬ 20 < xs (i + 1) ∧ n < 60)) n so 0) u1)) := hD
    refine lv_aload_n hx hb dL_law_109 rfl (lv_at hl 2 rfl) ?_
    refine lv_aload_n hx hb dL_law_110 rfl (lv_at hl 0 rfl) ?_
    refine lv_iload_n hx hb dL_law_111 rfl (lv_at hl 3 rfl) ?_
    refine lv_iconst (v := 1) hx hb dL_law_112 (by decide) ?_
    refine lv_iadd hx hb dL_law_113 ?_
    rw [show nI i + 1 = nI (i + 1) from nI_1 i]
    refine va_sld hx hb hX hbl hbA hS (vp_in_nI (n := i + 1) (N := L) (by omega) (by omega)) dL_law_114 ?_
    rw [nI_clamp (n := i + 1) (by omega)]
    refine zd_i (w := (wMt om qm cI cZ pw n so a v)) (wr := (wXt ox qx cI cZ pw (ps_n (decide (¬ xs (i + 1) < 1 ∧ ¬ 20 < xs (i + 1) ∧ n < 60)) n) (ps_u (decide (¬ xs (i + 1) < 1 ∧ ¬ 20 < xs (i + 1) ∧ n < 60)) n so 0) u1)) (As := [.int (xs (i + 1))]) (rest := [.int r1]) ⟨hx, hb, hml, hown, hts⟩ (mM_word l dC dI cI cZ om H.size qm pw n so a v.1 v.2.1 v.2.2.1 v.2.2.2.1 v.2.2.2.2.1 v.2.2.2.2.2.1 v.2.2.2.2.2.2.1 v.2.2.2.2.2.2.2 (xs (i + 1)) (decide (¬ xs (i + 1) < 1 ∧ ¬ 20 < xs (i + 1) ∧ n < 60)) hI.1 rfl) (cwV 1 hts (lw_V q191 q192 q193 q13 q194) rfl rfl rfl (by decide +kernel) ⟨Nat.le_of_ble_eq_true rfl, Nat.le_of_ble_eq_true rfl⟩) (ci := 1) rfl rfl hK hP hD hS hA [0, 1, 2, 3, 4, 5, 6, 7] [8, 9, 10, 11, 12, 13, 14, 15, 16, 17, 18] rfl rfl (by decide) (by decide) (by decide) rfl hl.1 rfl (Nat.le_of_ble_eq_true rfl) dL_law_115 ⟨Nat.le_of_ble_eq_true rfl, Nat.le_of_ble_eq_true rfl⟩ (fun r2 v1 H locs hw2 hP hD hS => ?_)
    refine lv_icmp_eq (tgt := 311) hx hb dL_law_118 (by decide) (fun _ => ?_) (fun c_118 => absurd (hw1.1.trans hw2.symm) c_118)
    exact J _ _ _ _ ⟨(ps_n (decide (¬ xs (i + 1) < 1 ∧ ¬ 20 < xs (i + 1) ∧ n < 60)) n), pw, (ps_u (decide (¬ xs (i + 1) < 1 ∧ ¬ 20 < xs (i + 1) ∧ n < 60)) n so 0), (ps_u (decide (¬ xs (i + 1) < 1 ∧ ¬ 20 < xs (i + 1) ∧ n < 60)) n a (xs (i + 1))), u1, v, hw1.2, rfl, hP, hD, hS, hl⟩
  · refine lv_tableIn (off := 81) (tgt := 123) hx hb dL_law_42 (by decide) (by decide) (by decide) (by decide) ?_
    refine lv_aload_n hx hb dL_law_123 rfl (lv_at hl 1 rfl) ?_
    refine zd_i (w := (wXt ox qx cI cZ pw n so u)) (wr := (wMt om qm cI cZ pw n so a v)) (As := []) (rest := []) ⟨hx, hb, hml, hown, hts⟩ (mX_lineBreak l dC dI cI cZ ox H.size qx pw n u.1 so u.2.1 u.2.2.1 u.2.2.2.1 u.2.2.2.2.1 u.2.2.2.2.2.1 u.2.2.2.2.2.2.1 u.2.2.2.2.2.2.2.1 u.2.2.2.2.2.2.2.2.1 u.2.2.2.2.2.2.2.2.2.1 u.2.2.2.2.2.2.2.2.2.2.1 u.2.2.2.2.2.2.2.2.2.2.2.1 u.2.2.2.2.2.2.2.2.2.2.2.2.1 u.2.2.2.2.2.2.2.2.2.2.2.2.2 a (decide (n < 60)) hI rfl) (cwV 0 hts (lw_V q88 q89 q90 q12 q91) rfl rfl rfl (by decide +kernel) ⟨Nat.le_of_ble_eq_true rfl, Nat.le_of_ble_eq_true rfl⟩) (ci := 0) rfl rfl hK hP hD hS hA [0, 1, 2, 3, 4, 5, 6, 7, 8, 9, 10] [11, 12, 13, 14, 15, 16, 17, 18] rfl rfl (by decide) (by decide) (by decide) rfl hl.1 rfl (Nat.le_of_ble_eq_true rfl) dL_law_124 ⟨Nat.le_of_ble_eq_true rfl, Nat.le_of_ble_eq_true rfl⟩ (fun r1 u1 H locs hw1 hP hD hS => ?_)
    have hP : va_P (dC, dI) vwCl ((wMt om qm cI cZ pw n so a v) ++ (wXt ox qx cI cZ pw (ps_n (decide (n < 60)) n) (ps_u (decide (n < 60)) n so 1) u1)) H := hP
    have hD : va_D A ((wMt om qm cI cZ pw n so a v) ++ (wXt ox qx cI cZ pw (ps_n (decide (n < 60)) n) (ps_u (decide (n < 60)) n so 1) u1)) := hD
    refine lv_aload_n hx hb dL_law_127 rfl (lv_at hl 2 rfl) ?_
    refine zd_i (w := (wMt om qm cI cZ pw n so a v)) (wr := (wXt ox qx cI cZ pw (ps_n (decide (n < 60)) n) (ps_u (decide (n < 60)) n so 1) u1)) (As := []) (rest := [.int r1]) ⟨hx, hb, hml, hown, hts⟩ (mM_lineBreak l dC dI cI cZ om H.size qm pw n so a v.1 v.2.1 v.2.2.1 v.2.2.2.1 v.2.2.2.2.1 v.2.2.2.2.2.1 v.2.2.2.2.2.2.1 v.2.2.2.2.2.2.2 (decide (n < 60)) hI.1 rfl) (cwV 0 hts (lw_V q199 q200 q201 q13 q202) rfl rfl rfl (by decide +kernel) ⟨Nat.le_of_ble_eq_true rfl, Nat.le_of_ble_eq_true rfl⟩) (ci := 1) rfl rfl hK hP hD hS hA [0, 1, 2, 3, 4, 5, 6, 7] [8, 9, 10, 11, 12, 13, 14, 15, 16, 17, 18] rfl rfl (by decide) (by decide) (by decide) rfl hl.1 rfl (Nat.le_of_ble_eq_true rfl) dL_law_128 ⟨Nat.le_of_ble_eq_true rfl, Nat.le_of_ble_eq_true rfl⟩ (fun r2 v1 H locs hw2 hP hD hS => ?_)
    refine lv_icmp_eq (tgt := 311) hx hb dL_law_131 (by decide) (fun _ => ?_) (fun c_131 => absurd (hw1.1.trans hw2.symm) c_131)
    exact J _ _ _ _ ⟨(ps_n (decide (n < 60)) n), pw, (ps_u (decide (n < 60)) n so 1), (ps_u (decide (n < 60)) n a 0), u1, v, hw1.2, rfl, hP, hD, hS, hl⟩
  · refine lv_tableIn (off := 94) (tgt := 136) hx hb dL_law_42 (by decide) (by decide) (by decide) (by decide) ?_
    refine lv_aload_n hx hb dL_law_136 rfl (lv_at hl 1 rfl) ?_
    refine lv_aload_n hx hb dL_law_137 rfl (lv_at hl 0 rfl) ?_
    refine lv_iload_n hx hb dL_law_138 rfl (lv_at hl 3 rfl) ?_
    refine lv_iconst (v := 1) hx hb dL_law_139 (by decide) ?_
    refine lv_iadd hx hb dL_law_140 ?_
    rw [show nI i + 1 = nI (i + 1) from nI_1 i]
    refine va_sld hx hb hX hbl hbA hS (vp_in_nI (n := i + 1) (N := L) (by omega) (by omega)) dL_law_141 ?_
    rw [nI_clamp (n := i + 1) (by omega)]
    refine zd_i (w := (wXt ox qx cI cZ pw n so u)) (wr := (wMt om qm cI cZ pw n so a v)) (As := [.int (xs (i + 1))]) (rest := []) ⟨hx, hb, hml, hown, hts⟩ (mX_open l dC dI cI cZ ox H.size qx pw n u.1 so u.2.1 u.2.2.1 u.2.2.2.1 u.2.2.2.2.1 u.2.2.2.2.2.1 u.2.2.2.2.2.2.1 u.2.2.2.2.2.2.2.1 u.2.2.2.2.2.2.2.2.1 u.2.2.2.2.2.2.2.2.2.1 u.2.2.2.2.2.2.2.2.2.2.1 u.2.2.2.2.2.2.2.2.2.2.2.1 u.2.2.2.2.2.2.2.2.2.2.2.2.1 u.2.2.2.2.2.2.2.2.2.2.2.2.2 a (xs (i + 1)) (decide (¬ xs (i + 1) < 0 ∧ ¬ 8 < xs (i + 1) ∧ ps_dp so n < 12 ∧ n < 60)) hI rfl) (cwV 1 hts (lw_V q92 q93 q94 q12 q95) rfl rfl rfl (by decide +kernel) ⟨Nat.le_of_ble_eq_true rfl, Nat.le_of_ble_eq_true rfl⟩) (ci := 0) rfl rfl hK hP hD hS hA [0, 1, 2, 3, 4, 5, 6, 7, 8, 9, 10] [11, 12, 13, 14, 15, 16, 17, 18] rfl rfl (by decide) (by decide) (by decide) rfl hl.1 rfl (Nat.le_of_ble_eq_true rfl) dL_law_142 ⟨Nat.le_of_ble_eq_true rfl, Nat.le_of_ble_eq_true rfl⟩ (fun r1 u1 H locs hw1 hP hD hS => ?_)
    have hP : va_P (dC, dI) vwCl ((wMt om qm cI cZ pw n so a v) ++ (wXt ox qx cI cZ pw (ps_n (decide (¬ xs (i + 1) < 0 ∧ ¬ 8 < xs (i + 1) ∧ ps_dp so n < 12 ∧ n < 60)) n) (ps_u (decide (¬ xs (i + 1) < 0 ∧ ¬ 8 < xs (i + 1) ∧ ps_dp so n < 12 ∧ n < 60)) n so 2) u1)) H := hP
    have hD : va_D A ((wMt om qm cI cZ pw n so a v) ++ (wXt ox qx cI cZ pw (ps_n (decide (¬ xs (i + 1) < 0 ∧ ¬ 8 < xs (i + 1) ∧ ps_dp so n < 12 ∧ n < 60)) n) (ps_u (decide (¬ xs (i + 1) < 0 ∧ ¬ 8 < xs (i + 1) ∧ ps_dp so n < 12 ∧ n < 60)) n so 2) u1)) := hD
    refine lv_aload_n hx hb dL_law_145 rfl (lv_at hl 2 rfl) ?_
    refine lv_aload_n hx hb dL_law_146 rfl (lv_at hl 0 rfl) ?_
    refine lv_iload_n hx hb dL_law_147 rfl (lv_at hl 3 rfl) ?_
    refine lv_iconst (v := 1) hx hb dL_law_148 (by decide) ?_
    refine lv_iadd hx hb dL_law_149 ?_
    rw [show nI i + 1 = nI (i + 1) from nI_1 i]
    refine va_sld hx hb hX hbl hbA hS (vp_in_nI (n := i + 1) (N := L) (by omega) (by omega)) dL_law_150 ?_
    rw [nI_clamp (n := i + 1) (by omega)]
    refine zd_i (w := (wMt om qm cI cZ pw n so a v)) (wr := (wXt ox qx cI cZ pw (ps_n (decide (¬ xs (i + 1) < 0 ∧ ¬ 8 < xs (i + 1) ∧ ps_dp so n < 12 ∧ n < 60)) n) (ps_u (decide (¬ xs (i + 1) < 0 ∧ ¬ 8 < xs (i + 1) ∧ ps_dp so n < 12 ∧ n < 60)) n so 2) u1)) (As := [.int (xs (i + 1))]) (rest := [.int r1]) ⟨hx, hb, hml, hown, hts⟩ (mM_open l dC dI cI cZ om H.size qm pw n so a v.1 v.2.1 v.2.2.1 v.2.2.2.1 v.2.2.2.2.1 v.2.2.2.2.2.1 v.2.2.2.2.2.2.1 v.2.2.2.2.2.2.2 (xs (i + 1)) (decide (¬ xs (i + 1) < 0 ∧ ¬ 8 < xs (i + 1) ∧ ps_dp so n < 12 ∧ n < 60)) hI.1 rfl) (cwV 1 hts (lw_V q203 q204 q205 q13 q206) rfl rfl rfl (by decide +kernel) ⟨Nat.le_of_ble_eq_true rfl, Nat.le_of_ble_eq_true rfl⟩) (ci := 1) rfl rfl hK hP hD hS hA [0, 1, 2, 3, 4, 5, 6, 7] [8, 9, 10, 11, 12, 13, 14, 15, 16, 17, 18] rfl rfl (by decide) (by decide) (by decide) rfl hl.1 rfl (Nat.le_of_ble_eq_true rfl) dL_law_151 ⟨Nat.le_of_ble_eq_true rfl, Nat.le_of_ble_eq_true rfl⟩ (fun r2 v1 H locs hw2 hP hD hS => ?_)
    refine lv_icmp_eq (tgt := 311) hx hb dL_law_154 (by decide) (fun _ => ?_) (fun c_154 => absurd (hw1.1.trans hw2.symm) c_154)
    exact J _ _ _ _ ⟨(ps_n (decide (¬ xs (i + 1) < 0 ∧ ¬ 8 < xs (i + 1) ∧ ps_dp so n < 12 ∧ n < 60)) n), pw, (ps_u (decide (¬ xs (i + 1) < 0 ∧ ¬ 8 < xs (i + 1) ∧ ps_dp so n < 12 ∧ n < 60)) n so 2), (ps_u (decide (¬ xs (i + 1) < 0 ∧ ¬ 8 < xs (i + 1) ∧ ps_dp so n < 12 ∧ n < 60)) n a (xs (i + 1))), u1, v, hw1.2, rfl, hP, hD, hS, hl⟩
  · refine lv_tableIn (off := 117) (tgt := 159) hx hb dL_law_42 (by decide) (by decide) (by decide) (by decide) ?_
    refine lv_aload_n hx hb dL_law_159 rfl (lv_at hl 1 rfl) ?_
    refine zd_i (w := (wXt ox qx cI cZ pw n so u)) (wr := (wMt om qm cI cZ pw n so a v)) (As := []) (rest := []) ⟨hx, hb, hml, hown, hts⟩ (mX_close l dC dI cI cZ ox H.size qx pw n u.1 so u.2.1 u.2.2.1 u.2.2.2.1 u.2.2.2.2.1 u.2.2.2.2.2.1 u.2.2.2.2.2.2.1 u.2.2.2.2.2.2.2.1 u.2.2.2.2.2.2.2.2.1 u.2.2.2.2.2.2.2.2.2.1 u.2.2.2.2.2.2.2.2.2.2.1 u.2.2.2.2.2.2.2.2.2.2.2.1 u.2.2.2.2.2.2.2.2.2.2.2.2.1 u.2.2.2.2.2.2.2.2.2.2.2.2.2 a (decide (0 < ps_dp so n ∧ n < 60)) hI rfl) (cwV 0 hts (lw_V q96 q97 q98 q12 q99) rfl rfl rfl (by decide +kernel) ⟨Nat.le_of_ble_eq_true rfl, Nat.le_of_ble_eq_true rfl⟩) (ci := 0) rfl rfl hK hP hD hS hA [0, 1, 2, 3, 4, 5, 6, 7, 8, 9, 10] [11, 12, 13, 14, 15, 16, 17, 18] rfl rfl (by decide) (by decide) (by decide) rfl hl.1 rfl (Nat.le_of_ble_eq_true rfl) dL_law_160 ⟨Nat.le_of_ble_eq_true rfl, Nat.le_of_ble_eq_true rfl⟩ (fun r1 u1 H locs hw1 hP hD hS => ?_)
    have hP : va_P (dC, dI) vwCl ((wMt om qm cI cZ pw n so a v) ++ (wXt ox qx cI cZ pw (ps_n (decide (0 < ps_dp so n ∧ n < 60)) n) (ps_u (decide (0 < ps_dp so n ∧ n < 60)) n so 3) u1)) H := hP
    have hD : va_D A ((wMt om qm cI cZ pw n so a v) ++ (wXt ox qx cI cZ pw (ps_n (decide (0 < ps_dp so n ∧ n < 60)) n) (ps_u (decide (0 < ps_dp so n ∧ n < 60)) n so 3) u1)) := hD
    refine lv_aload_n hx hb dL_law_163 rfl (lv_at hl 2 rfl) ?_
    refine zd_i (w := (wMt om qm cI cZ pw n so a v)) (wr := (wXt ox qx cI cZ pw (ps_n (decide (0 < ps_dp so n ∧ n < 60)) n) (ps_u (decide (0 < ps_dp so n ∧ n < 60)) n so 3) u1)) (As := []) (rest := [.int r1]) ⟨hx, hb, hml, hown, hts⟩ (mM_close l dC dI cI cZ om H.size qm pw n so a v.1 v.2.1 v.2.2.1 v.2.2.2.1 v.2.2.2.2.1 v.2.2.2.2.2.1 v.2.2.2.2.2.2.1 v.2.2.2.2.2.2.2 (decide (0 < ps_dp so n ∧ n < 60)) hI.1 rfl) (cwV 0 hts (lw_V q211 q212 q213 q13 q214) rfl rfl rfl (by decide +kernel) ⟨Nat.le_of_ble_eq_true rfl, Nat.le_of_ble_eq_true rfl⟩) (ci := 1) rfl rfl hK hP hD hS hA [0, 1, 2, 3, 4, 5, 6, 7] [8, 9, 10, 11, 12, 13, 14, 15, 16, 17, 18] rfl rfl (by decide) (by decide) (by decide) rfl hl.1 rfl (Nat.le_of_ble_eq_true rfl) dL_law_164 ⟨Nat.le_of_ble_eq_true rfl, Nat.le_of_ble_eq_true rfl⟩ (fun r2 v1 H locs hw2 hP hD hS => ?_)
    refine lv_icmp_eq (tgt := 311) hx hb dL_law_167 (by decide) (fun _ => ?_) (fun c_167 => absurd (hw1.1.trans hw2.symm) c_167)
    exact J _ _ _ _ ⟨(ps_n (decide (0 < ps_dp so n ∧ n < 60)) n), pw, (ps_u (decide (0 < ps_dp so n ∧ n < 60)) n so 3), (ps_u (decide (0 < ps_dp so n ∧ n < 60)) n a 0), u1, v, hw1.2, rfl, hP, hD, hS, hl⟩
  · refine lv_tableIn (off := 130) (tgt := 172) hx hb dL_law_42 (by decide) (by decide) (by decide) (by decide) ?_
    refine lv_aload_n hx hb dL_law_172 rfl (lv_at hl 1 rfl) ?_
    refine lv_aload_n hx hb dL_law_173 rfl (lv_at hl 0 rfl) ?_
    refine lv_iload_n hx hb dL_law_174 rfl (lv_at hl 3 rfl) ?_
    refine lv_iconst (v := 1) hx hb dL_law_175 (by decide) ?_
    refine lv_iadd hx hb dL_law_176 ?_
    rw [show nI i + 1 = nI (i + 1) from nI_1 i]
    refine va_sld hx hb hX hbl hbA hS (vp_in_nI (n := i + 1) (N := L) (by omega) (by omega)) dL_law_177 ?_
    rw [nI_clamp (n := i + 1) (by omega)]
    refine zd_v (w := (wXt ox qx cI cZ pw n so u)) (wr := (wMt om qm cI cZ pw n so a v)) (As := [.int (xs (i + 1))]) (rest := []) ⟨hx, hb, hml, hown, hts⟩ (mX_width l dC dI cI cZ ox H.size qx pw (nI n) u.1 so u.2.1 u.2.2.1 u.2.2.2.1 u.2.2.2.2.1 u.2.2.2.2.2.1 u.2.2.2.2.2.2.1 u.2.2.2.2.2.2.2.1 u.2.2.2.2.2.2.2.2.1 u.2.2.2.2.2.2.2.2.2.1 u.2.2.2.2.2.2.2.2.2.2.1 u.2.2.2.2.2.2.2.2.2.2.2.1 u.2.2.2.2.2.2.2.2.2.2.2.2.1 u.2.2.2.2.2.2.2.2.2.2.2.2.2 (xs (i + 1))) (cwV 1 hts (lw_V q100 q23 q24 q12 q25) rfl rfl rfl (by decide +kernel) ⟨Nat.le_of_ble_eq_true rfl, Nat.le_of_ble_eq_true rfl⟩) (ci := 0) rfl rfl hK hP hD hS hA [0, 1, 2, 3, 4, 5, 6, 7, 8, 9, 10] [11, 12, 13, 14, 15, 16, 17, 18] rfl rfl (by decide) (by decide) (by decide) rfl hl.1 rfl (Nat.le_of_ble_eq_true rfl) dL_law_178 ⟨Nat.le_of_ble_eq_true rfl, Nat.le_of_ble_eq_true rfl⟩ (fun u1 H locs hw1 hP hD hS => ?_)
    have hP : va_P (dC, dI) vwCl ((wMt om qm cI cZ pw n so a v) ++ (wXt ox qx cI cZ (ps_wd (xs (i + 1))) n so (u.1, u.2.1, u.2.2.1, u.2.2.2.1, u.2.2.2.2.1, u.2.2.2.2.2.1, u.2.2.2.2.2.2.1, 0, u.2.2.2.2.2.2.2.2.1, u.2.2.2.2.2.2.2.2.2.1, u.2.2.2.2.2.2.2.2.2.2.1, u.2.2.2.2.2.2.2.2.2.2.2.1, u.2.2.2.2.2.2.2.2.2.2.2.2.1, u.2.2.2.2.2.2.2.2.2.2.2.2.2))) H := hP
    have hD : va_D A ((wMt om qm cI cZ pw n so a v) ++ (wXt ox qx cI cZ (ps_wd (xs (i + 1))) n so (u.1, u.2.1, u.2.2.1, u.2.2.2.1, u.2.2.2.2.1, u.2.2.2.2.2.1, u.2.2.2.2.2.2.1, 0, u.2.2.2.2.2.2.2.2.1, u.2.2.2.2.2.2.2.2.2.1, u.2.2.2.2.2.2.2.2.2.2.1, u.2.2.2.2.2.2.2.2.2.2.2.1, u.2.2.2.2.2.2.2.2.2.2.2.2.1, u.2.2.2.2.2.2.2.2.2.2.2.2.2))) := hD
    refine lv_aload_n hx hb dL_law_181 rfl (lv_at hl 2 rfl) ?_
    refine lv_aload_n hx hb dL_law_182 rfl (lv_at hl 0 rfl) ?_
    refine lv_iload_n hx hb dL_law_183 rfl (lv_at hl 3 rfl) ?_
    refine lv_iconst (v := 1) hx hb dL_law_184 (by decide) ?_
    refine lv_iadd hx hb dL_law_185 ?_
    rw [show nI i + 1 = nI (i + 1) from nI_1 i]
    refine va_sld hx hb hX hbl hbA hS (vp_in_nI (n := i + 1) (N := L) (by omega) (by omega)) dL_law_186 ?_
    rw [nI_clamp (n := i + 1) (by omega)]
    refine zd_v (w := (wMt om qm cI cZ pw n so a v)) (wr := (wXt ox qx cI cZ (ps_wd (xs (i + 1))) n so (u.1, u.2.1, u.2.2.1, u.2.2.2.1, u.2.2.2.2.1, u.2.2.2.2.2.1, u.2.2.2.2.2.2.1, 0, u.2.2.2.2.2.2.2.2.1, u.2.2.2.2.2.2.2.2.2.1, u.2.2.2.2.2.2.2.2.2.2.1, u.2.2.2.2.2.2.2.2.2.2.2.1, u.2.2.2.2.2.2.2.2.2.2.2.2.1, u.2.2.2.2.2.2.2.2.2.2.2.2.2))) (As := [.int (xs (i + 1))]) (rest := []) ⟨hx, hb, hml, hown, hts⟩ (mM_width l dC dI cI cZ om H.size qm pw (nI n) so a v.1 v.2.1 v.2.2.1 v.2.2.2.1 v.2.2.2.2.1 v.2.2.2.2.2.1 v.2.2.2.2.2.2.1 v.2.2.2.2.2.2.2 (xs (i + 1))) (cwV 1 hts (lw_V q215 q151 q152 q13 q153) rfl rfl rfl (by decide +kernel) ⟨Nat.le_of_ble_eq_true rfl, Nat.le_of_ble_eq_true rfl⟩) (ci := 1) rfl rfl hK hP hD hS hA [0, 1, 2, 3, 4, 5, 6, 7] [8, 9, 10, 11, 12, 13, 14, 15, 16, 17, 18] rfl rfl (by decide) (by decide) (by decide) rfl hl.1 rfl (Nat.le_of_ble_eq_true rfl) dL_law_187 ⟨Nat.le_of_ble_eq_true rfl, Nat.le_of_ble_eq_true rfl⟩ (fun v1 H locs hw2 hP hD hS => ?_)
    refine lv_goto (tgt := 311) hx hb dL_law_190 (by decide) ?_
    exact J _ _ _ _ ⟨n, (ps_wd (xs (i + 1))), so, a, (u.1, u.2.1, u.2.2.1, u.2.2.2.1, u.2.2.2.2.1, u.2.2.2.2.2.1, u.2.2.2.2.2.2.1, 0, u.2.2.2.2.2.2.2.2.1, u.2.2.2.2.2.2.2.2.2.1, u.2.2.2.2.2.2.2.2.2.2.1, u.2.2.2.2.2.2.2.2.2.2.2.1, u.2.2.2.2.2.2.2.2.2.2.2.2.1, u.2.2.2.2.2.2.2.2.2.2.2.2.2), v, ps_XI_w hI _, rfl, hP, hD, hS, hl⟩
  · refine lv_tableIn (off := 151) (tgt := 193) hx hb dL_law_42 (by decide) (by decide) (by decide) (by decide) ?_
    refine lv_aload_n hx hb dL_law_193 rfl (lv_at hl 1 rfl) ?_
    refine lv_aload_n hx hb dL_law_194 rfl (lv_at hl 0 rfl) ?_
    refine lv_iload_n hx hb dL_law_195 rfl (lv_at hl 3 rfl) ?_
    refine lv_iconst (v := 1) hx hb dL_law_196 (by decide) ?_
    refine lv_iadd hx hb dL_law_197 ?_
    rw [show nI i + 1 = nI (i + 1) from nI_1 i]
    refine va_sld hx hb hX hbl hbA hS (vp_in_nI (n := i + 1) (N := L) (by omega) (by omega)) dL_law_198 ?_
    rw [nI_clamp (n := i + 1) (by omega)]
    refine zd_i (w := (wXt ox qx cI cZ pw n so u)) (wr := (wMt om qm cI cZ pw n so a v)) (As := [.int (xs (i + 1))]) (rest := []) ⟨hx, hb, hml, hown, hts⟩ (mX_row l dC dI cI cZ ox H.size qx pw n u.1 so u.2.1 u.2.2.1 u.2.2.2.1 u.2.2.2.2.1 u.2.2.2.2.2.1 u.2.2.2.2.2.2.1 u.2.2.2.2.2.2.2.1 u.2.2.2.2.2.2.2.2.1 u.2.2.2.2.2.2.2.2.2.1 u.2.2.2.2.2.2.2.2.2.2.1 u.2.2.2.2.2.2.2.2.2.2.2.1 u.2.2.2.2.2.2.2.2.2.2.2.2.1 u.2.2.2.2.2.2.2.2.2.2.2.2.2 a (xs (i + 1)) hI) (cwV 1 hts (lw_V q101 q102 q103 q12 q104) rfl rfl rfl (by decide +kernel) ⟨Nat.le_of_ble_eq_true rfl, Nat.le_of_ble_eq_true rfl⟩) (ci := 0) rfl rfl hK hP hD hS hA [0, 1, 2, 3, 4, 5, 6, 7, 8, 9, 10] [11, 12, 13, 14, 15, 16, 17, 18] rfl rfl (by decide) (by decide) (by decide) rfl hl.1 rfl (Nat.le_of_ble_eq_true rfl) dL_law_199 ⟨Nat.le_of_ble_eq_true rfl, Nat.le_of_ble_eq_true rfl⟩ (fun r1 u1 H locs hw1 hP hD hS => ?_)
    have hP : va_P (dC, dI) vwCl ((wMt om qm cI cZ pw n so a v) ++ (wXt ox qx cI cZ pw n so u1)) H := hP
    have hD : va_D A ((wMt om qm cI cZ pw n so a v) ++ (wXt ox qx cI cZ pw n so u1)) := hD
    refine lv_aload_n hx hb dL_law_202 rfl (lv_at hl 2 rfl) ?_
    refine lv_aload_n hx hb dL_law_203 rfl (lv_at hl 0 rfl) ?_
    refine lv_iload_n hx hb dL_law_204 rfl (lv_at hl 3 rfl) ?_
    refine lv_iconst (v := 1) hx hb dL_law_205 (by decide) ?_
    refine lv_iadd hx hb dL_law_206 ?_
    rw [show nI i + 1 = nI (i + 1) from nI_1 i]
    refine va_sld hx hb hX hbl hbA hS (vp_in_nI (n := i + 1) (N := L) (by omega) (by omega)) dL_law_207 ?_
    rw [nI_clamp (n := i + 1) (by omega)]
    refine zd_i (w := (wMt om qm cI cZ pw n so a v)) (wr := (wXt ox qx cI cZ pw n so u1)) (As := [.int (xs (i + 1))]) (rest := [.int r1]) ⟨hx, hb, hml, hown, hts⟩ (mM_row l dC dI cI cZ om H.size qm pw n so a v.1 v.2.1 v.2.2.1 v.2.2.2.1 v.2.2.2.2.1 v.2.2.2.2.2.1 v.2.2.2.2.2.2.1 v.2.2.2.2.2.2.2 (xs (i + 1)) hI.1) (cwV 1 hts (lw_V q216 q217 q218 q13 q219) rfl rfl rfl (by decide +kernel) ⟨Nat.le_of_ble_eq_true rfl, Nat.le_of_ble_eq_true rfl⟩) (ci := 1) rfl rfl hK hP hD hS hA [0, 1, 2, 3, 4, 5, 6, 7] [8, 9, 10, 11, 12, 13, 14, 15, 16, 17, 18] rfl rfl (by decide) (by decide) (by decide) rfl hl.1 rfl (Nat.le_of_ble_eq_true rfl) dL_law_208 ⟨Nat.le_of_ble_eq_true rfl, Nat.le_of_ble_eq_true rfl⟩ (fun r2 v1 H locs hw2 hP hD hS => ?_)
    refine lv_icmp_eq (tgt := 311) hx hb dL_law_211 (by decide) (fun _ => ?_) (fun c_211 => absurd (hw1.1.trans hw2.symm) c_211)
    exact J _ _ _ _ ⟨n, pw, so, a, u1, v1, hw1.2, rfl, hP, hD, hS, hl⟩
  · refine lv_tableIn (off := 174) (tgt := 216) hx hb dL_law_42 (by decide) (by decide) (by decide) (by decide) ?_
    refine lv_aload_n hx hb dL_law_216 rfl (lv_at hl 1 rfl) ?_
    refine lv_aload_n hx hb dL_law_217 rfl (lv_at hl 0 rfl) ?_
    refine lv_iload_n hx hb dL_law_218 rfl (lv_at hl 3 rfl) ?_
    refine lv_iconst (v := 1) hx hb dL_law_219 (by decide) ?_
    refine lv_iadd hx hb dL_law_220 ?_
    rw [show nI i + 1 = nI (i + 1) from nI_1 i]
    refine va_sld hx hb hX hbl hbA hS (vp_in_nI (n := i + 1) (N := L) (by omega) (by omega)) dL_law_221 ?_
    rw [nI_clamp (n := i + 1) (by omega)]
    refine zd_i (w := (wXt ox qx cI cZ pw n so u)) (wr := (wMt om qm cI cZ pw n so a v)) (As := [.int (xs (i + 1))]) (rest := []) ⟨hx, hb, hml, hown, hts⟩ (mX_column l dC dI cI cZ ox H.size qx pw n u.1 so u.2.1 u.2.2.1 u.2.2.2.1 u.2.2.2.2.1 u.2.2.2.2.2.1 u.2.2.2.2.2.2.1 u.2.2.2.2.2.2.2.1 u.2.2.2.2.2.2.2.2.1 u.2.2.2.2.2.2.2.2.2.1 u.2.2.2.2.2.2.2.2.2.2.1 u.2.2.2.2.2.2.2.2.2.2.2.1 u.2.2.2.2.2.2.2.2.2.2.2.2.1 u.2.2.2.2.2.2.2.2.2.2.2.2.2 a (xs (i + 1)) hI) (cwV 1 hts (lw_V q121 q122 q123 q12 q124) rfl rfl rfl (by decide +kernel) ⟨Nat.le_of_ble_eq_true rfl, Nat.le_of_ble_eq_true rfl⟩) (ci := 0) rfl rfl hK hP hD hS hA [0, 1, 2, 3, 4, 5, 6, 7, 8, 9, 10] [11, 12, 13, 14, 15, 16, 17, 18] rfl rfl (by decide) (by decide) (by decide) rfl hl.1 rfl (Nat.le_of_ble_eq_true rfl) dL_law_222 ⟨Nat.le_of_ble_eq_true rfl, Nat.le_of_ble_eq_true rfl⟩ (fun r1 u1 H locs hw1 hP hD hS => ?_)
    have hP : va_P (dC, dI) vwCl ((wMt om qm cI cZ pw n so a v) ++ (wXt ox qx cI cZ pw n so u1)) H := hP
    have hD : va_D A ((wMt om qm cI cZ pw n so a v) ++ (wXt ox qx cI cZ pw n so u1)) := hD
    refine lv_aload_n hx hb dL_law_225 rfl (lv_at hl 2 rfl) ?_
    refine lv_aload_n hx hb dL_law_226 rfl (lv_at hl 0 rfl) ?_
    refine lv_iload_n hx hb dL_law_227 rfl (lv_at hl 3 rfl) ?_
    refine lv_iconst (v := 1) hx hb dL_law_228 (by decide) ?_
    refine lv_iadd hx hb dL_law_229 ?_
    rw [show nI i + 1 = nI (i + 1) from nI_1 i]
    refine va_sld hx hb hX hbl hbA hS (vp_in_nI (n := i + 1) (N := L) (by omega) (by omega)) dL_law_230 ?_
    rw [nI_clamp (n := i + 1) (by omega)]
    refine zd_i (w := (wMt om qm cI cZ pw n so a v)) (wr := (wXt ox qx cI cZ pw n so u1)) (As := [.int (xs (i + 1))]) (rest := [.int r1]) ⟨hx, hb, hml, hown, hts⟩ (mM_column l dC dI cI cZ om H.size qm pw n so a v.1 v.2.1 v.2.2.1 v.2.2.2.1 v.2.2.2.2.1 v.2.2.2.2.2.1 v.2.2.2.2.2.2.1 v.2.2.2.2.2.2.2 (xs (i + 1)) hI.1) (cwV 1 hts (lw_V q236 q237 q238 q13 q239) rfl rfl rfl (by decide +kernel) ⟨Nat.le_of_ble_eq_true rfl, Nat.le_of_ble_eq_true rfl⟩) (ci := 1) rfl rfl hK hP hD hS hA [0, 1, 2, 3, 4, 5, 6, 7] [8, 9, 10, 11, 12, 13, 14, 15, 16, 17, 18] rfl rfl (by decide) (by decide) (by decide) rfl hl.1 rfl (Nat.le_of_ble_eq_true rfl) dL_law_231 ⟨Nat.le_of_ble_eq_true rfl, Nat.le_of_ble_eq_true rfl⟩ (fun r2 v1 H locs hw2 hP hD hS => ?_)
    refine lv_icmp_eq (tgt := 311) hx hb dL_law_234 (by decide) (fun _ => ?_) (fun c_234 => absurd (hw1.1.trans hw2.symm) c_234)
    exact J _ _ _ _ ⟨n, pw, so, a, u1, v1, hw1.2, rfl, hP, hD, hS, hl⟩
  · refine lv_tableIn (off := 197) (tgt := 239) hx hb dL_law_42 (by decide) (by decide) (by decide) (by decide) ?_
    refine lv_aload_n hx hb dL_law_239 rfl (lv_at hl 1 rfl) ?_
    refine lv_aload_n hx hb dL_law_240 rfl (lv_at hl 0 rfl) ?_
    refine lv_iload_n hx hb dL_law_241 rfl (lv_at hl 3 rfl) ?_
    refine lv_iconst (v := 1) hx hb dL_law_242 (by decide) ?_
    refine lv_iadd hx hb dL_law_243 ?_
    rw [show nI i + 1 = nI (i + 1) from nI_1 i]
    refine va_sld hx hb hX hbl hbA hS (vp_in_nI (n := i + 1) (N := L) (by omega) (by omega)) dL_law_244 ?_
    rw [nI_clamp (n := i + 1) (by omega)]
    refine zd_i (w := (wXt ox qx cI cZ pw n so u)) (wr := (wMt om qm cI cZ pw n so a v)) (As := [.int (xs (i + 1))]) (rest := []) ⟨hx, hb, hml, hown, hts⟩ (mX_flat l dC dI cI cZ ox H.size qx pw n u.1 so u.2.1 u.2.2.1 u.2.2.2.1 u.2.2.2.2.1 u.2.2.2.2.2.1 u.2.2.2.2.2.2.1 u.2.2.2.2.2.2.2.1 u.2.2.2.2.2.2.2.2.1 u.2.2.2.2.2.2.2.2.2.1 u.2.2.2.2.2.2.2.2.2.2.1 u.2.2.2.2.2.2.2.2.2.2.2.1 u.2.2.2.2.2.2.2.2.2.2.2.2.1 u.2.2.2.2.2.2.2.2.2.2.2.2.2 a (xs (i + 1)) hI) (cwV 1 hts (lw_V q125 q126 q127 q12 q128) rfl rfl rfl (by decide +kernel) ⟨Nat.le_of_ble_eq_true rfl, Nat.le_of_ble_eq_true rfl⟩) (ci := 0) rfl rfl hK hP hD hS hA [0, 1, 2, 3, 4, 5, 6, 7, 8, 9, 10] [11, 12, 13, 14, 15, 16, 17, 18] rfl rfl (by decide) (by decide) (by decide) rfl hl.1 rfl (Nat.le_of_ble_eq_true rfl) dL_law_245 ⟨Nat.le_of_ble_eq_true rfl, Nat.le_of_ble_eq_true rfl⟩ (fun r1 u1 H locs hw1 hP hD hS => ?_)
    have hP : va_P (dC, dI) vwCl ((wMt om qm cI cZ pw n so a v) ++ (wXt ox qx cI cZ pw n so u1)) H := hP
    have hD : va_D A ((wMt om qm cI cZ pw n so a v) ++ (wXt ox qx cI cZ pw n so u1)) := hD
    refine lv_aload_n hx hb dL_law_248 rfl (lv_at hl 2 rfl) ?_
    refine lv_aload_n hx hb dL_law_249 rfl (lv_at hl 0 rfl) ?_
    refine lv_iload_n hx hb dL_law_250 rfl (lv_at hl 3 rfl) ?_
    refine lv_iconst (v := 1) hx hb dL_law_251 (by decide) ?_
    refine lv_iadd hx hb dL_law_252 ?_
    rw [show nI i + 1 = nI (i + 1) from nI_1 i]
    refine va_sld hx hb hX hbl hbA hS (vp_in_nI (n := i + 1) (N := L) (by omega) (by omega)) dL_law_253 ?_
    rw [nI_clamp (n := i + 1) (by omega)]
    refine zd_i (w := (wMt om qm cI cZ pw n so a v)) (wr := (wXt ox qx cI cZ pw n so u1)) (As := [.int (xs (i + 1))]) (rest := [.int r1]) ⟨hx, hb, hml, hown, hts⟩ (mM_flat l dC dI cI cZ om H.size qm pw n so a v.1 v.2.1 v.2.2.1 v.2.2.2.1 v.2.2.2.2.1 v.2.2.2.2.2.1 v.2.2.2.2.2.2.1 v.2.2.2.2.2.2.2 (xs (i + 1)) hI.1) (cwV 1 hts (lw_V q240 q241 q242 q13 q243) rfl rfl rfl (by decide +kernel) ⟨Nat.le_of_ble_eq_true rfl, Nat.le_of_ble_eq_true rfl⟩) (ci := 1) rfl rfl hK hP hD hS hA [0, 1, 2, 3, 4, 5, 6, 7] [8, 9, 10, 11, 12, 13, 14, 15, 16, 17, 18] rfl rfl (by decide) (by decide) (by decide) rfl hl.1 rfl (Nat.le_of_ble_eq_true rfl) dL_law_254 ⟨Nat.le_of_ble_eq_true rfl, Nat.le_of_ble_eq_true rfl⟩ (fun r2 v1 H locs hw2 hP hD hS => ?_)
    refine lv_icmp_eq (tgt := 311) hx hb dL_law_257 (by decide) (fun _ => ?_) (fun c_257 => absurd (hw1.1.trans hw2.symm) c_257)
    exact J _ _ _ _ ⟨n, pw, so, a, u1, v1, hw1.2, rfl, hP, hD, hS, hl⟩
  · refine lv_tableIn (off := 220) (tgt := 262) hx hb dL_law_42 (by decide) (by decide) (by decide) (by decide) ?_
    refine lv_aload_n hx hb dL_law_262 rfl (lv_at hl 1 rfl) ?_
    refine zd_i (w := (wXt ox qx cI cZ pw n so u)) (wr := (wMt om qm cI cZ pw n so a v)) (As := []) (rest := []) ⟨hx, hb, hml, hown, hts⟩ (mX_rows l dC dI cI cZ ox H.size qx pw n u.1 so u.2.1 u.2.2.1 u.2.2.2.1 u.2.2.2.2.1 u.2.2.2.2.2.1 u.2.2.2.2.2.2.1 u.2.2.2.2.2.2.2.1 u.2.2.2.2.2.2.2.2.1 u.2.2.2.2.2.2.2.2.2.1 u.2.2.2.2.2.2.2.2.2.2.1 u.2.2.2.2.2.2.2.2.2.2.2.1 u.2.2.2.2.2.2.2.2.2.2.2.2.1 u.2.2.2.2.2.2.2.2.2.2.2.2.2 a hI) (cwV 0 hts (lw_V q129 q130 q131 q12 q132) rfl rfl rfl (by decide +kernel) ⟨Nat.le_of_ble_eq_true rfl, Nat.le_of_ble_eq_true rfl⟩) (ci := 0) rfl rfl hK hP hD hS hA [0, 1, 2, 3, 4, 5, 6, 7, 8, 9, 10] [11, 12, 13, 14, 15, 16, 17, 18] rfl rfl (by decide) (by decide) (by decide) rfl hl.1 rfl (Nat.le_of_ble_eq_true rfl) dL_law_263 ⟨Nat.le_of_ble_eq_true rfl, Nat.le_of_ble_eq_true rfl⟩ (fun r1 u1 H locs hw1 hP hD hS => ?_)
    have hP : va_P (dC, dI) vwCl ((wMt om qm cI cZ pw n so a v) ++ (wXt ox qx cI cZ pw n so u1)) H := hP
    have hD : va_D A ((wMt om qm cI cZ pw n so a v) ++ (wXt ox qx cI cZ pw n so u1)) := hD
    refine lv_aload_n hx hb dL_law_266 rfl (lv_at hl 2 rfl) ?_
    refine zd_i (w := (wMt om qm cI cZ pw n so a v)) (wr := (wXt ox qx cI cZ pw n so u1)) (As := []) (rest := [.int r1]) ⟨hx, hb, hml, hown, hts⟩ (mM_rows l dC dI cI cZ om H.size qm pw n so a v.1 v.2.1 v.2.2.1 v.2.2.2.1 v.2.2.2.2.1 v.2.2.2.2.2.1 v.2.2.2.2.2.2.1 v.2.2.2.2.2.2.2 hI.1) (cwV 0 hts (lw_V q244 q245 q246 q13 q247) rfl rfl rfl (by decide +kernel) ⟨Nat.le_of_ble_eq_true rfl, Nat.le_of_ble_eq_true rfl⟩) (ci := 1) rfl rfl hK hP hD hS hA [0, 1, 2, 3, 4, 5, 6, 7] [8, 9, 10, 11, 12, 13, 14, 15, 16, 17, 18] rfl rfl (by decide) (by decide) (by decide) rfl hl.1 rfl (Nat.le_of_ble_eq_true rfl) dL_law_267 ⟨Nat.le_of_ble_eq_true rfl, Nat.le_of_ble_eq_true rfl⟩ (fun r2 v1 H locs hw2 hP hD hS => ?_)
    refine lv_icmp_eq (tgt := 311) hx hb dL_law_270 (by decide) (fun _ => ?_) (fun c_270 => absurd (hw1.1.trans hw2.symm) c_270)
    exact J _ _ _ _ ⟨n, pw, so, a, u1, v1, hw1.2, rfl, hP, hD, hS, hl⟩
  · refine lv_tableIn (off := 233) (tgt := 275) hx hb dL_law_42 (by decide) (by decide) (by decide) (by decide) ?_
    refine lv_aload_n hx hb dL_law_275 rfl (lv_at hl 1 rfl) ?_
    refine zd_i (w := (wXt ox qx cI cZ pw n so u)) (wr := (wMt om qm cI cZ pw n so a v)) (As := []) (rest := []) ⟨hx, hb, hml, hown, hts⟩ (mX_widest l dC dI cI cZ ox H.size qx pw n u.1 so u.2.1 u.2.2.1 u.2.2.2.1 u.2.2.2.2.1 u.2.2.2.2.2.1 u.2.2.2.2.2.2.1 u.2.2.2.2.2.2.2.1 u.2.2.2.2.2.2.2.2.1 u.2.2.2.2.2.2.2.2.2.1 u.2.2.2.2.2.2.2.2.2.2.1 u.2.2.2.2.2.2.2.2.2.2.2.1 u.2.2.2.2.2.2.2.2.2.2.2.2.1 u.2.2.2.2.2.2.2.2.2.2.2.2.2 a hI) (cwV 0 hts (lw_V q133 q134 q135 q12 q136) rfl rfl rfl (by decide +kernel) ⟨Nat.le_of_ble_eq_true rfl, Nat.le_of_ble_eq_true rfl⟩) (ci := 0) rfl rfl hK hP hD hS hA [0, 1, 2, 3, 4, 5, 6, 7, 8, 9, 10] [11, 12, 13, 14, 15, 16, 17, 18] rfl rfl (by decide) (by decide) (by decide) rfl hl.1 rfl (Nat.le_of_ble_eq_true rfl) dL_law_276 ⟨Nat.le_of_ble_eq_true rfl, Nat.le_of_ble_eq_true rfl⟩ (fun r1 u1 H locs hw1 hP hD hS => ?_)
    have hP : va_P (dC, dI) vwCl ((wMt om qm cI cZ pw n so a v) ++ (wXt ox qx cI cZ pw n so u1)) H := hP
    have hD : va_D A ((wMt om qm cI cZ pw n so a v) ++ (wXt ox qx cI cZ pw n so u1)) := hD
    refine lv_aload_n hx hb dL_law_279 rfl (lv_at hl 2 rfl) ?_
    refine zd_i (w := (wMt om qm cI cZ pw n so a v)) (wr := (wXt ox qx cI cZ pw n so u1)) (As := []) (rest := [.int r1]) ⟨hx, hb, hml, hown, hts⟩ (mM_widest l dC dI cI cZ om H.size qm pw n so a v.1 v.2.1 v.2.2.1 v.2.2.2.1 v.2.2.2.2.1 v.2.2.2.2.2.1 v.2.2.2.2.2.2.1 v.2.2.2.2.2.2.2 hI.1) (cwV 0 hts (lw_V q248 q249 q250 q13 q251) rfl rfl rfl (by decide +kernel) ⟨Nat.le_of_ble_eq_true rfl, Nat.le_of_ble_eq_true rfl⟩) (ci := 1) rfl rfl hK hP hD hS hA [0, 1, 2, 3, 4, 5, 6, 7] [8, 9, 10, 11, 12, 13, 14, 15, 16, 17, 18] rfl rfl (by decide) (by decide) (by decide) rfl hl.1 rfl (Nat.le_of_ble_eq_true rfl) dL_law_280 ⟨Nat.le_of_ble_eq_true rfl, Nat.le_of_ble_eq_true rfl⟩ (fun r2 v1 H locs hw2 hP hD hS => ?_)
    refine lv_icmp_eq (tgt := 311) hx hb dL_law_283 (by decide) (fun _ => ?_) (fun c_283 => absurd (hw1.1.trans hw2.symm) c_283)
    exact J _ _ _ _ ⟨n, pw, so, a, u1, v1, hw1.2, rfl, hP, hD, hS, hl⟩
  · refine lv_tableIn (off := 246) (tgt := 288) hx hb dL_law_42 (by decide) (by decide) (by decide) (by decide) ?_
    refine lv_aload_n hx hb dL_law_288 rfl (lv_at hl 1 rfl) ?_
    refine lv_aload_n hx hb dL_law_289 rfl (lv_at hl 0 rfl) ?_
    refine lv_iload_n hx hb dL_law_290 rfl (lv_at hl 3 rfl) ?_
    refine lv_iconst (v := 1) hx hb dL_law_291 (by decide) ?_
    refine lv_iadd hx hb dL_law_292 ?_
    rw [show nI i + 1 = nI (i + 1) from nI_1 i]
    refine va_sld hx hb hX hbl hbA hS (vp_in_nI (n := i + 1) (N := L) (by omega) (by omega)) dL_law_293 ?_
    rw [nI_clamp (n := i + 1) (by omega)]
    refine zd_i (w := (wXt ox qx cI cZ pw n so u)) (wr := (wMt om qm cI cZ pw n so a v)) (As := [.int (xs (i + 1))]) (rest := []) ⟨hx, hb, hml, hown, hts⟩ (mX_leastWidth l dC dI cI cZ ox H.size qx pw n u.1 so u.2.1 u.2.2.1 u.2.2.2.1 u.2.2.2.2.1 u.2.2.2.2.2.1 u.2.2.2.2.2.2.1 u.2.2.2.2.2.2.2.1 u.2.2.2.2.2.2.2.2.1 u.2.2.2.2.2.2.2.2.2.1 u.2.2.2.2.2.2.2.2.2.2.1 u.2.2.2.2.2.2.2.2.2.2.2.1 u.2.2.2.2.2.2.2.2.2.2.2.2.1 u.2.2.2.2.2.2.2.2.2.2.2.2.2 a (xs (i + 1)) hI) (cwV 1 hts (lw_V q137 q138 q139 q12 q140) rfl rfl rfl (by decide +kernel) ⟨Nat.le_of_ble_eq_true rfl, Nat.le_of_ble_eq_true rfl⟩) (ci := 0) rfl rfl hK hP hD hS hA [0, 1, 2, 3, 4, 5, 6, 7, 8, 9, 10] [11, 12, 13, 14, 15, 16, 17, 18] rfl rfl (by decide) (by decide) (by decide) rfl hl.1 rfl (Nat.le_of_ble_eq_true rfl) dL_law_294 ⟨Nat.le_of_ble_eq_true rfl, Nat.le_of_ble_eq_true rfl⟩ (fun r1 u1 H locs hw1 hP hD hS => ?_)
    have hP : va_P (dC, dI) vwCl ((wMt om qm cI cZ pw n so a v) ++ (wXt ox qx cI cZ pw n so u1)) H := hP
    have hD : va_D A ((wMt om qm cI cZ pw n so a v) ++ (wXt ox qx cI cZ pw n so u1)) := hD
    refine lv_aload_n hx hb dL_law_297 rfl (lv_at hl 2 rfl) ?_
    refine lv_aload_n hx hb dL_law_298 rfl (lv_at hl 0 rfl) ?_
    refine lv_iload_n hx hb dL_law_299 rfl (lv_at hl 3 rfl) ?_
    refine lv_iconst (v := 1) hx hb dL_law_300 (by decide) ?_
    refine lv_iadd hx hb dL_law_301 ?_
    rw [show nI i + 1 = nI (i + 1) from nI_1 i]
    refine va_sld hx hb hX hbl hbA hS (vp_in_nI (n := i + 1) (N := L) (by omega) (by omega)) dL_law_302 ?_
    rw [nI_clamp (n := i + 1) (by omega)]
    refine zd_i (w := (wMt om qm cI cZ pw n so a v)) (wr := (wXt ox qx cI cZ pw n so u1)) (As := [.int (xs (i + 1))]) (rest := [.int r1]) ⟨hx, hb, hml, hown, hts⟩ (mM_leastWidth l dC dI cI cZ om H.size qm pw n so a v.1 v.2.1 v.2.2.1 v.2.2.2.1 v.2.2.2.2.1 v.2.2.2.2.2.1 v.2.2.2.2.2.2.1 v.2.2.2.2.2.2.2 (xs (i + 1)) hI.1) (cwV 1 hts (lw_V q252 q253 q254 q13 q255) rfl rfl rfl (by decide +kernel) ⟨Nat.le_of_ble_eq_true rfl, Nat.le_of_ble_eq_true rfl⟩) (ci := 1) rfl rfl hK hP hD hS hA [0, 1, 2, 3, 4, 5, 6, 7] [8, 9, 10, 11, 12, 13, 14, 15, 16, 17, 18] rfl rfl (by decide) (by decide) (by decide) rfl hl.1 rfl (Nat.le_of_ble_eq_true rfl) dL_law_303 ⟨Nat.le_of_ble_eq_true rfl, Nat.le_of_ble_eq_true rfl⟩ (fun r2 v1 H locs hw2 hP hD hS => ?_)
    refine lv_icmp_eq (tgt := 311) hx hb dL_law_306 (by decide) (fun _ => ?_) (fun c_306 => absurd (hw1.1.trans hw2.symm) c_306)
    exact J _ _ _ _ ⟨n, pw, so, a, u1, v1, hw1.2, rfl, hP, hD, hS, hl⟩
end
section
set_option maxHeartbeats 4000000 in
theorem lw_walk (l : Launch) (b : Addr) (xs : List Int32) : MetFree l x (headSpec (Jvm.Cond.code x code maxLocals ret :: tables_1) room_1) (lw_P b xs) (fun _ _ _ _ _ => True) lw_Q := by
  refine MetFree.of_bodyS (code := code) (maxLocals := maxLocals) (ret := ret) (by decide) ?_ ?_
  · intro args s m h hn
    obtain ⟨meth, c, h1, h2, h3, h4, h5, h6, -, -⟩ := Cond.code_spec hn (atoms_spec (ws := Jvm.Cond.code x code maxLocals ret :: tables_1) h _ List.mem_cons_self)
    exact ⟨meth, c, h1, h2, h3, h4, h5, h6⟩
  · intro p e s m args below meth c s₁ B hml0 hP _
    obtain ⟨rfl, hx, hbd, hgv⟩ := hP
    obtain ⟨scr, harrAt, hlist, hof, hsmall⟩ := hx
    obtain ⟨hcb, hkn, -, -⟩ := State.arrayAt?_spec harrAt
    have hown : s.vm.findClass R_law = some m.cls := findClass_of_methodNamed B.named
    have hts0 : ∀ c ∈ (Jvm.Cond.code x code maxLocals ret :: tables_1), c.before #[Value.ref b] s = true := atoms_spec (ws := Jvm.Cond.code x code maxLocals ret :: tables_1) B.pre
    have hts : ∀ w ∈ lw_tbl, w.before #[Value.ref b] s = true := k2_hts_sels lw_privs (fun w hw => hts0 w (List.mem_cons_of_mem _ hw)) lw_privs_ok
    have hml : c.maxLocals = 4 := B.maxLocals_eq (hts0 _ List.mem_cons_self)
    have X₀ : Stand p l e room_1 s m #[Value.ref b] below meth c s₁ [] 0 0 := Stand.of_body B
    have hh0 : s₁.heap = s.heap := by rw [B.state]; rfl
    have hsz : scr.slots.size = xs.length := by rw [← Array.length_toList, hlist, List.length_map]
    have hval : ∀ j : Nat, j < xs.length → scr.slots[j]? = some (.int (xs.getD j 0)) := fun j hj => by
      rw [← Array.getElem?_toList, hlist]
      simp [hj]
    have hbl : b < s.heap.size := (Array.getElem?_eq_some_iff.mp hcb).1
    have hX : va_X b xs.length (fun j => xs.getD j 0) s s.heap := ⟨scr, hcb, hof, hkn, hsz, hval⟩
    have K : W p l e room_1 s m #[Value.ref b] below meth c s₁.heap [] 0 0 (lw_Z below #[Value.ref b] s) (entryFrame m ([Value.ref b] : List Value).toArray 4) := by
      rw [hh0]
      exact whole_start l hbd ⟨B.exec, B.bytes, B.returns, hml, hown, hts, hX, hbl, B.notSynchronized, hgv⟩
    obtain ⟨t, a1, o, b1, b2, b3⟩ := K s₁ rfl X₀
    exact ⟨t, o, a1, b1, b2, b3⟩
theorem lw_pre_spec {args : Array Value} {s : State} (h : (Jvm.Cond.and given_1 narrow_1).before args s = true) (hr : rest_1_c.before args s = true) : ∃ (b : Addr) (xs : List Int32), lw_P b xs args s := by
  have hs := flat_of_before _ h
  have hq := flat_of_before _ hr
  have hc : (Cond.count 1).before args s = true := hs _ (by decide +kernel)
  have harr : (Cond.arrayOf (.arg 0) .int).before args s = true := hs _ (by decide +kernel)
  have hle : (Cond.le (.length (.arg 0)) (.int 129)).before args s = true := hs _ (by decide +kernel)
  have hlen : (Cond.isInt (.length (.arg 0))).before args s = true := hq _ (by decide +kernel)
  have hall : (Cond.all (.arg 0) (.isInt (.elem (.arg 0) (.index 0)))).before args s = true := hq _ (by decide +kernel)
  obtain ⟨b, xs, hb, hx⟩ := State.ints_of_pre rfl harr hlen hall
  have hsm : xs.length < 2 ^ 31 := hx.choose_spec.2.2.2
  have hev : (Term.length (.arg 0)).eval args s none [] s = some (.int xs.length.toInt32) := hx.length_eval hb
  have hv := Cond.le_ints hev (show (Term.int 129).eval args s none [] s = some (.int 129) from rfl)
  have hd : xs.length.toInt32 ≤ 129 := by
    simpa [Cond.before, Cond.holds, hv] using hle
  have hN : xs.length ≤ 129 := (Int32.ofNat_le_ofNat hsm (by decide)).mp (show Int32.ofNat xs.length ≤ Int32.ofNat 129 from hd)
  exact ⟨b, xs, Cond.one_arg hc (show args[0]? = some (.ref b) from hb), hx, hN, h⟩
theorem lw_comes (l : Launch) : Comes l x (Jvm.Cond.code x code maxLocals ret :: tables_1) room_1 (fun tb e args s => Calls_1 tb e args s ∧ rest_1 tb e args s ∧ Pre_1 tb e args s)
    (fun _ _ args s o t => lw_Q args s o t) := by
  intro p e ha hc hk s m args below hf hfit hheap happ hpre
  obtain ⟨b, xs, hP⟩ := lw_pre_spec hpre.2.2 hpre.2.1
  obtain ⟨k, o, h1, h2, h3, hQ⟩ := lw_walk l b xs p e ha hc hk s m args below hf ((Spec.applies_iff_loose hf).mp happ).1 hP trivial
  exact ⟨k, o, h1, h2, h3, hQ⟩
theorem lw_frame {s t : State} {o : Outcome} {args : Array Value} (h : Framed s o t [] 600000 7290000) :
    Framed s o t (fieldLocs frame_1_writes args s ++ arrayLocs frame_1_arrays args s ++ staticLocs frame_1_statics s) 600000 7290000 := h
theorem lw_limb (L : Cond) (hL : ∀ (args : Array Value) (s t : State), L.after args s (.returned (some (.int 1))) t = true) :
    ArmFor flags0 classFile x code maxLocals ret World_1 tables_1 room_1 Calls_1 rest_1 Pre_1
      (fun tb e a s o t => postC L tb e a s o t ∧ Framed s o t (fieldLocs frame_1_writes a s ++ arrayLocs frame_1_arrays a s ++ staticLocs frame_1_statics s) 600000 7290000) := by
  intro l _ _ _ p e ha hc hk s m args below hf hfit hheap happ hpre
  obtain ⟨k, o, h1, h2, h3, rfl, hF⟩ := lw_comes l p e ha hc hk s m args below hf hfit hheap happ hpre
  exact ⟨k, _, h1, h2, h3, hL args s _, lw_frame hF⟩
theorem i_vc : Claimed_1_1 ∧ Claimed_1_2 := ⟨lw_limb limb_1_1 (fun args s t => by simp [limb_1_1, Cond.after, Cond.holds, Cond.value]), lw_limb limb_1_2 (fun args s t => Cond.after_iff.mpr (by
  first | (rw [show limb_1_2 = Cond.eq .result (.int 1) from rfl, Cond.eq_ints (x := 1) (y := 1) rfl rfl]; simp; done) | (simp [limb_1_2, Cond.value, Term.eval]; done)))⟩
end
