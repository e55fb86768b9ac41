section
-- ===== PART A: goes FIRST, ahead of the names: the tables' words, and 'selects' of the private methods out of them =====
/-- a private method of a class that the tables say can be made, by its rows of tables_1 -/
def lw_okq (q : MethodName × Nat) : Prop := (q.1.cls ≠ "java/lang/invoke/MethodHandle" ∧ q.1.cls ≠ "java/lang/invoke/VarHandle") ∧ Cond.instantiable q.1.cls q.2 ∈ tables_1 ∧ Cond.privateMethod q.1 ∈ tables_1 ∧ Cond.instanceMethod q.1 ∈ tables_1
set_option maxRecDepth 100000
theorem lw_t1 {w : Cond} (h : w ∈ tables_1_1) : w ∈ tables_1 := List.mem_append_left _ h
theorem lw_t2 {w : Cond} (h : w ∈ tables_1_2) : w ∈ tables_1 := List.mem_append_right _ h
theorem lw_p0 : lw_okq (⟨"CrdtTable", "refusal", "(II)I"⟩, 15) := ⟨⟨by decide +kernel, by decide +kernel⟩, lw_t1 (List.mem_of_getElem? (i := 4) rfl), lw_t1 (List.mem_of_getElem? (i := 64) rfl), lw_t1 (List.mem_of_getElem? (i := 65) rfl)⟩
theorem lw_p1 : lw_okq (⟨"CrdtTable", "act", "(IIII)I"⟩, 15) := ⟨⟨by decide +kernel, by decide +kernel⟩, lw_t1 (List.mem_of_getElem? (i := 4) rfl), lw_t1 (List.mem_of_getElem? (i := 74) rfl), lw_t1 (List.mem_of_getElem? (i := 75) rfl)⟩
theorem lw_p2 : lw_okq (⟨"CrdtTable", "takeIn", "(II)V"⟩, 15) := ⟨⟨by decide +kernel, by decide +kernel⟩, lw_t1 (List.mem_of_getElem? (i := 4) rfl), lw_t1 (List.mem_of_getElem? (i := 78) rfl), lw_t1 (List.mem_of_getElem? (i := 79) rfl)⟩
theorem lw_p3 : lw_okq (⟨"CrdtTable", "later", "(II)Z"⟩, 15) := ⟨⟨by decide +kernel, by decide +kernel⟩, lw_t1 (List.mem_of_getElem? (i := 4) rfl), lw_t1 (List.mem_of_getElem? (i := 83) rfl), lw_t1 (List.mem_of_getElem? (i := 84) rfl)⟩
theorem lw_p4 : lw_okq (⟨"CrdtTable", "refusalAbsent", "(II)I"⟩, 15) := ⟨⟨by decide +kernel, by decide +kernel⟩, lw_t1 (List.mem_of_getElem? (i := 4) rfl), lw_t1 (List.mem_of_getElem? (i := 91) rfl), lw_t1 (List.mem_of_getElem? (i := 92) rfl)⟩
theorem lw_p5 : lw_okq (⟨"CrdtTable", "isThere", "(II)Z"⟩, 15) := ⟨⟨by decide +kernel, by decide +kernel⟩, lw_t1 (List.mem_of_getElem? (i := 4) rfl), lw_t1 (List.mem_of_getElem? (i := 95) rfl), lw_t1 (List.mem_of_getElem? (i := 96) rfl)⟩
theorem lw_p6 : lw_okq (⟨"CrdtTable", "hidden", "(II)Z"⟩, 15) := ⟨⟨by decide +kernel, by decide +kernel⟩, lw_t1 (List.mem_of_getElem? (i := 4) rfl), lw_t1 (List.mem_of_getElem? (i := 128) rfl), lw_t1 (List.mem_of_getElem? (i := 129) rfl)⟩
theorem lw_p7 : lw_okq (⟨"CrdtTable", "sameRow", "(III)Z"⟩, 15) := ⟨⟨by decide +kernel, by decide +kernel⟩, lw_t1 (List.mem_of_getElem? (i := 4) rfl), lw_t1 (List.mem_of_getElem? (i := 157) rfl), lw_t1 (List.mem_of_getElem? (i := 158) rfl)⟩
theorem lw_p8 : lw_okq (⟨"CrdtTableModel", "act", "(IIII)I"⟩, 9) := ⟨⟨by decide +kernel, by decide +kernel⟩, lw_t1 (List.mem_of_getElem? (i := 163) rfl), lw_t1 (List.mem_of_getElem? (i := 201) rfl), lw_t1 (List.mem_of_getElem? (i := 202) rfl)⟩
theorem lw_p9 : lw_okq (⟨"CrdtTableModel", "badReplica", "(I)Z"⟩, 9) := ⟨⟨by decide +kernel, by decide +kernel⟩, lw_t1 (List.mem_of_getElem? (i := 163) rfl), lw_t1 (List.mem_of_getElem? (i := 205) rfl), lw_t1 (List.mem_of_getElem? (i := 206) rfl)⟩
theorem lw_p10 : lw_okq (⟨"CrdtTableModel", "badRow", "(I)Z"⟩, 9) := ⟨⟨by decide +kernel, by decide +kernel⟩, lw_t1 (List.mem_of_getElem? (i := 163) rfl), lw_t1 (List.mem_of_getElem? (i := 209) rfl), lw_t1 (List.mem_of_getElem? (i := 210) rfl)⟩
theorem lw_p11 : lw_okq (⟨"CrdtTableModel", "in", "(JI)Z"⟩, 9) := ⟨⟨by decide +kernel, by decide +kernel⟩, lw_t1 (List.mem_of_getElem? (i := 163) rfl), lw_t1 (List.mem_of_getElem? (i := 217) rfl), lw_t1 (List.mem_of_getElem? (i := 218) rfl)⟩
theorem lw_p12 : lw_okq (⟨"CrdtTableModel", "cancelled", "(II)Z"⟩, 9) := ⟨⟨by decide +kernel, by decide +kernel⟩, lw_t1 (List.mem_of_getElem? (i := 163) rfl), lw_t1 (List.mem_of_getElem? (i := 221) rfl), lw_t1 (List.mem_of_getElem? (i := 222) rfl)⟩
theorem lw_p13 : lw_okq (⟨"CrdtTableModel", "last", "(III)I"⟩, 9) := ⟨⟨by decide +kernel, by decide +kernel⟩, lw_t1 (List.mem_of_getElem? (i := 163) rfl), lw_t2 (List.mem_of_getElem? (i := 15) rfl), lw_t2 (List.mem_of_getElem? (i := 16) rfl)⟩
def lw_privs_1 : List (MethodName × Nat) := [(⟨"CrdtTable", "refusal", "(II)I"⟩, 15), (⟨"CrdtTable", "act", "(IIII)I"⟩, 15), (⟨"CrdtTable", "takeIn", "(II)V"⟩, 15), (⟨"CrdtTable", "later", "(II)Z"⟩, 15), (⟨"CrdtTable", "refusalAbsent", "(II)I"⟩, 15), (⟨"CrdtTable", "isThere", "(II)Z"⟩, 15), (⟨"CrdtTable", "hidden", "(II)Z"⟩, 15), (⟨"CrdtTable", "sameRow", "(III)Z"⟩, 15), (⟨"CrdtTableModel", "act", "(IIII)I"⟩, 9), (⟨"CrdtTableModel", "badReplica", "(I)Z"⟩, 9), (⟨"CrdtTableModel", "badRow", "(I)Z"⟩, 9), (⟨"CrdtTableModel", "in", "(JI)Z"⟩, 9), (⟨"CrdtTableModel", "cancelled", "(II)Z"⟩, 9), (⟨"CrdtTableModel", "last", "(III)I"⟩, 9)]
theorem lw_r1 : ∀ q ∈ lw_privs_1, lw_okq q := List.forall_mem_cons.mpr ⟨lw_p0, List.forall_mem_cons.mpr ⟨lw_p1, List.forall_mem_cons.mpr ⟨lw_p2, List.forall_mem_cons.mpr ⟨lw_p3, List.forall_mem_cons.mpr ⟨lw_p4, List.forall_mem_cons.mpr ⟨lw_p5, List.forall_mem_cons.mpr ⟨lw_p6, List.forall_mem_cons.mpr ⟨lw_p7, List.forall_mem_cons.mpr ⟨lw_p8, List.forall_mem_cons.mpr ⟨lw_p9, List.forall_mem_cons.mpr ⟨lw_p10, List.forall_mem_cons.mpr ⟨lw_p11, List.forall_mem_cons.mpr ⟨lw_p12, List.forall_mem_cons.mpr ⟨lw_p13, fun _ h => absurd h List.not_mem_nil⟩⟩⟩⟩⟩⟩⟩⟩⟩⟩⟩⟩⟩⟩
def lw_privs : List (MethodName × Nat) := lw_privs_1
def lw_tbl : List Cond := k2_sels lw_privs ++ tables_1
theorem lw_privs_ok : ∀ q ∈ lw_privs, lw_okq q := lw_r1
-- ===== ONE list of words for every method: the tables' words that hold all through a run =====
def lw_all : List Cond := lw_tbl.filter goodWord
/-- a word of the tables by its place: claim/WORDS.tsv -/
theorem lw_w {w : Cond} (i : Nat) (h : lw_tbl[i]? = some w) (g : goodWord w = true) : w ∈ lw_all := List.mem_filter.mpr ⟨List.mem_of_getElem? h, g⟩
theorem lw_all_tbl {w : Cond} (h : w ∈ lw_all) : w ∈ lw_tbl := (List.mem_filter.mp h).1
theorem lw_self : GoodIn lw_all lw_all := fun w h => ⟨h, good_of_word (List.mem_filter.mp h).2⟩
/-- a class's field words, by their places -/
theorem lw_in (ws : List Cond) (ps : List Nat) (hp : ws = ps.filterMap (fun i => lw_tbl[i]?)) (hg : ws.all goodWord = true) : ∀ w ∈ ws, w ∈ lw_all := by
  intro w h
  have h1 := List.all_eq_true.mp hg w h
  rw [hp] at h
  obtain ⟨i, -, hi⟩ := List.mem_filterMap.mp h
  exact lw_w i hi h1
/-- the words of a contract for the method y with code b, L locals, answer r -/
abbrev ws_ (y : MethodName) (b : ByteArray) (L : Nat) (r : Option FieldType) : List Cond := Cond.code y b L r :: lw_all
theorem lw_meth {y : MethodName} {b : ByteArray} {L : Nat} {r : Option FieldType} (h : Cond.code y b L r ∈ lw_all) : GoodIn lw_all (ws_ y b L r) := by
  intro w hw
  rcases List.mem_cons.mp hw with e | e
  · rw [e]
    exact lw_self _ h
  · exact lw_self _ e
theorem lw_app {a c : List Cond} (ha : ∀ w ∈ a, w ∈ lw_all) (hc : GoodIn lw_all c) : GoodIn lw_all (a ++ c) := by
  intro w hw
  rcases List.mem_append.mp hw with e | e
  · exact lw_self w (ha w e)
  · exact hc w e
/-- what a call through an object asks: cwV n hts (lw_V ..) -/
theorem lw_V {own : String} {idx : Nat} {C : String} {y : MethodName} {b : ByteArray} {L : Nat} {r : Option FieldType} (h1 : Cond.methodLink own idx y ∈ lw_all) (h2 : Cond.instanceMethod y ∈ lw_all) (h3 : Cond.selects C y y ∈ lw_all) (h4 : Cond.initialized C ∈ lw_all) (h5 : Cond.code y b L r ∈ lw_all) : GoodIn lw_all (wsV own idx C y (ws_ y b L r)) := by
  refine lw_app ?_ (lw_meth h5)
  intro w hw
  simp only [List.mem_cons, List.not_mem_nil, or_false] at hw
  rcases hw with e | e | e | e
  · rw [e]; exact h1
  · rw [e]; exact h2
  · rw [e]; exact h3
  · rw [e]; exact h4
/-- what a static call asks: va_cwS n hts (lw_S ..) -/
theorem lw_S {own : String} {idx : Nat} {y : MethodName} {b : ByteArray} {L : Nat} {r : Option FieldType} (h1 : Cond.methodLink own idx y ∈ lw_all) (h2 : Cond.static y ∈ lw_all) (h3 : Cond.initialized y.cls ∈ lw_all) (h4 : Cond.code y b L r ∈ lw_all) : GoodIn lw_all (va_wsS own idx y (ws_ y b L r)) := by
  refine lw_app ?_ (lw_meth h4)
  intro w hw
  simp only [List.mem_cons, List.not_mem_nil, or_false] at hw
  rcases hw with e | e | e
  · rw [e]; exact h1
  · rw [e]; exact h2
  · rw [e]; exact h3
/-- the words of a contract for a method WITH HANDLERS (hh: its table) -/
abbrev wsW_ (y : MethodName) (b : ByteArray) (L : Nat) (r : Option FieldType) (hh : List (Nat × Nat × Nat × Nat)) : List Cond := Cond.codeWith y b L r hh :: lw_all
theorem lw_methW {y : MethodName} {b : ByteArray} {L : Nat} {r : Option FieldType} {hh : List (Nat × Nat × Nat × Nat)} (h : Cond.codeWith y b L r hh ∈ lw_all) : GoodIn lw_all (wsW_ y b L r hh) := by
  intro w hw
  rcases List.mem_cons.mp hw with e | e
  · rw [e]
    exact lw_self _ h
  · exact lw_self _ e
/-- any list of words by their places (lw_in), good -/
theorem lw_good {ws : List Cond} (h : ∀ w ∈ ws, w ∈ lw_all) : GoodIn lw_all ws := fun w hw => lw_self w (h w hw)
/-- what a call of a method with handlers asks: vx_cwVW n hts (lw_VW ..), vx_cwSW n hts (lw_SW ..) -/
theorem lw_VW {own : String} {idx : Nat} {C : String} {y : MethodName} {b : ByteArray} {L : Nat} {r : Option FieldType} {hh : List (Nat × Nat × Nat × Nat)} (h1 : Cond.methodLink own idx y ∈ lw_all) (h2 : Cond.instanceMethod y ∈ lw_all) (h3 : Cond.selects C y y ∈ lw_all) (h4 : Cond.initialized C ∈ lw_all) (h5 : Cond.codeWith y b L r hh ∈ lw_all) : GoodIn lw_all (wsV own idx C y (wsW_ y b L r hh)) := by
  refine lw_app ?_ (lw_methW h5)
  intro w hw
  simp only [List.mem_cons, List.not_mem_nil, or_false] at hw
  rcases hw with e | e | e | e
  · rw [e]; exact h1
  · rw [e]; exact h2
  · rw [e]; exact h3
  · rw [e]; exact h4
theorem lw_SW {own : String} {idx : Nat} {y : MethodName} {b : ByteArray} {L : Nat} {r : Option FieldType} {hh : List (Nat × Nat × Nat × Nat)} (h1 : Cond.methodLink own idx y ∈ lw_all) (h2 : Cond.static y ∈ lw_all) (h3 : Cond.initialized y.cls ∈ lw_all) (h4 : Cond.codeWith y b L r hh ∈ lw_all) : GoodIn lw_all (va_wsS own idx y (wsW_ y b L r hh)) := by
  refine lw_app ?_ (lw_methW h4)
  intro w hw
  simp only [List.mem_cons, List.not_mem_nil, or_false] at hw
  rcases hw with e | e | e
  · rw [e]; exact h1
  · rw [e]; exact h2
  · rw [e]; exact h3
/-- a word by its place in its run of the tables -/
theorem lw_at {r : List Cond} (hr : ∀ w ∈ r, w ∈ lw_tbl) {w : Cond} (i : Nat) (h : r[i]? = some w) : w ∈ lw_tbl := hr w (List.mem_of_getElem? h)
theorem lw_g {w : Cond} (h : w ∈ lw_tbl) (g : goodWord w = true) : w ∈ lw_all := List.mem_filter.mpr ⟨h, g⟩
theorem lw_ms : ∀ w ∈ k2_sels lw_privs, w ∈ lw_tbl := fun w h => show w ∈ k2_sels lw_privs ++ tables_1 from List.mem_append_left _ h
theorem lw_m1 : ∀ w ∈ tables_1_1, w ∈ lw_tbl := fun w h => show w ∈ k2_sels lw_privs ++ tables_1 from List.mem_append_right (k2_sels lw_privs) (show w ∈ tables_1 from List.mem_append_left _ h)
theorem lw_m2 : ∀ w ∈ tables_1_2, w ∈ lw_tbl := fun w h => show w ∈ k2_sels lw_privs ++ tables_1 from List.mem_append_right (k2_sels lw_privs) (show w ∈ tables_1 from List.mem_append_right _ h)
theorem qs0 : (Cond.selects "CrdtTable" ⟨"CrdtTable", "refusal", "(II)I"⟩ ⟨"CrdtTable", "refusal", "(II)I"⟩) ∈ lw_all := lw_g (lw_at lw_ms 0 rfl) rfl
theorem qs1 : (Cond.selects "CrdtTable" ⟨"CrdtTable", "act", "(IIII)I"⟩ ⟨"CrdtTable", "act", "(IIII)I"⟩) ∈ lw_all := lw_g (lw_at lw_ms 1 rfl) rfl
theorem qs2 : (Cond.selects "CrdtTable" ⟨"CrdtTable", "takeIn", "(II)V"⟩ ⟨"CrdtTable", "takeIn", "(II)V"⟩) ∈ lw_all := lw_g (lw_at lw_ms 2 rfl) rfl
theorem qs3 : (Cond.selects "CrdtTable" ⟨"CrdtTable", "later", "(II)Z"⟩ ⟨"CrdtTable", "later", "(II)Z"⟩) ∈ lw_all := lw_g (lw_at lw_ms 3 rfl) rfl
theorem qs4 : (Cond.selects "CrdtTable" ⟨"CrdtTable", "refusalAbsent", "(II)I"⟩ ⟨"CrdtTable", "refusalAbsent", "(II)I"⟩) ∈ lw_all := lw_g (lw_at lw_ms 4 rfl) rfl
theorem qs5 : (Cond.selects "CrdtTable" ⟨"CrdtTable", "isThere", "(II)Z"⟩ ⟨"CrdtTable", "isThere", "(II)Z"⟩) ∈ lw_all := lw_g (lw_at lw_ms 5 rfl) rfl
theorem qs6 : (Cond.selects "CrdtTable" ⟨"CrdtTable", "hidden", "(II)Z"⟩ ⟨"CrdtTable", "hidden", "(II)Z"⟩) ∈ lw_all := lw_g (lw_at lw_ms 6 rfl) rfl
theorem qs7 : (Cond.selects "CrdtTable" ⟨"CrdtTable", "sameRow", "(III)Z"⟩ ⟨"CrdtTable", "sameRow", "(III)Z"⟩) ∈ lw_all := lw_g (lw_at lw_ms 7 rfl) rfl
theorem qs8 : (Cond.selects "CrdtTableModel" ⟨"CrdtTableModel", "act", "(IIII)I"⟩ ⟨"CrdtTableModel", "act", "(IIII)I"⟩) ∈ lw_all := lw_g (lw_at lw_ms 8 rfl) rfl
theorem qs9 : (Cond.selects "CrdtTableModel" ⟨"CrdtTableModel", "badReplica", "(I)Z"⟩ ⟨"CrdtTableModel", "badReplica", "(I)Z"⟩) ∈ lw_all := lw_g (lw_at lw_ms 9 rfl) rfl
theorem qs10 : (Cond.selects "CrdtTableModel" ⟨"CrdtTableModel", "badRow", "(I)Z"⟩ ⟨"CrdtTableModel", "badRow", "(I)Z"⟩) ∈ lw_all := lw_g (lw_at lw_ms 10 rfl) rfl
theorem qs11 : (Cond.selects "CrdtTableModel" ⟨"CrdtTableModel", "in", "(JI)Z"⟩ ⟨"CrdtTableModel", "in", "(JI)Z"⟩) ∈ lw_all := lw_g (lw_at lw_ms 11 rfl) rfl
theorem qs12 : (Cond.selects "CrdtTableModel" ⟨"CrdtTableModel", "cancelled", "(II)Z"⟩ ⟨"CrdtTableModel", "cancelled", "(II)Z"⟩) ∈ lw_all := lw_g (lw_at lw_ms 12 rfl) rfl
theorem qs13 : (Cond.selects "CrdtTableModel" ⟨"CrdtTableModel", "last", "(III)I"⟩ ⟨"CrdtTableModel", "last", "(III)I"⟩) ∈ lw_all := lw_g (lw_at lw_ms 13 rfl) rfl
end
section
set_option maxRecDepth 100000
theorem q71 : (Jvm.Cond.arrayClass Jvm.ClassFile.FieldType.int) ∈ lw_all := lw_g (lw_at lw_m1 57 rfl) rfl
theorem q72 : (Jvm.Cond.arrayClass Jvm.ClassFile.FieldType.long) ∈ lw_all := lw_g (lw_at lw_m1 58 rfl) rfl

/-! java/lang/Object -/
def RJ0 : String := "java/lang/Object"
abbrev cJ0_init : ByteArray := object_method_1_code
def yJ0_init : MethodName := ⟨RJ0, "<init>", "()V"⟩
theorem dJ0_init_0 : decode cJ0_init 0 = .ok (.return_, 1) := by decide +kernel
theorem q23 : (Jvm.Cond.instanceMethod ({ cls := "java/lang/Object", name := "<init>", desc := "()V" } : Jvm.MethodName)) ∈ lw_all := lw_g (lw_at lw_m1 9 rfl) rfl
theorem q24 : (Jvm.Cond.code ({ cls := "java/lang/Object", name := "<init>", desc := "()V" } : Jvm.MethodName) object_method_1_code (1 : Nat) (Option.none : Option Jvm.ClassFile.FieldType)) ∈ lw_all := lw_g (lw_at lw_m1 10 rfl) rfl

theorem q14 : (Jvm.Cond.initialized "CrdtTableLaw") ∈ lw_all := lw_g (lw_at lw_m1 0 rfl) rfl
theorem q17 : (Jvm.Cond.classLink "CrdtTableLaw" (7 : Nat) "CrdtTable") ∈ lw_all := lw_g (lw_at lw_m1 3 rfl) rfl
theorem q19 : (Jvm.Cond.methodLink "CrdtTableLaw" (9 : Nat) ({ cls := "CrdtTable", name := "<init>", desc := "()V" } : Jvm.MethodName)) ∈ lw_all := lw_g (lw_at lw_m1 5 rfl) rfl
theorem q73 : (Jvm.Cond.methodLink "CrdtTableLaw" (13 : Nat) ({ cls := "CrdtTable", name := "add", desc := "(II)I" } : Jvm.MethodName)) ∈ lw_all := lw_g (lw_at lw_m1 59 rfl) rfl
theorem q100 : (Jvm.Cond.methodLink "CrdtTableLaw" (18 : Nat) ({ cls := "CrdtTable", name := "drop", desc := "(II)I" } : Jvm.MethodName)) ∈ lw_all := lw_g (lw_at lw_m1 86 rfl) rfl
theorem q112 : (Jvm.Cond.methodLink "CrdtTableLaw" (22 : Nat) ({ cls := "CrdtTable", name := "name", desc := "(III)I" } : Jvm.MethodName)) ∈ lw_all := lw_g (lw_at lw_m1 98 rfl) rfl
theorem q116 : (Jvm.Cond.methodLink "CrdtTableLaw" (27 : Nat) ({ cls := "CrdtTable", name := "count", desc := "(III)I" } : Jvm.MethodName)) ∈ lw_all := lw_g (lw_at lw_m1 102 rfl) rfl
theorem q120 : (Jvm.Cond.methodLink "CrdtTableLaw" (31 : Nat) ({ cls := "CrdtTable", name := "link", desc := "(III)I" } : Jvm.MethodName)) ∈ lw_all := lw_g (lw_at lw_m1 106 rfl) rfl
theorem q124 : (Jvm.Cond.methodLink "CrdtTableLaw" (35 : Nat) ({ cls := "CrdtTable", name := "learn", desc := "(II)I" } : Jvm.MethodName)) ∈ lw_all := lw_g (lw_at lw_m1 110 rfl) rfl
theorem q132 : (Jvm.Cond.methodLink "CrdtTableLaw" (39 : Nat) ({ cls := "CrdtTable", name := "learnSome", desc := "(III)I" } : Jvm.MethodName)) ∈ lw_all := lw_g (lw_at lw_m1 118 rfl) rfl
theorem q133 : (Jvm.Cond.methodLink "CrdtTableLaw" (43 : Nat) ({ cls := "CrdtTable", name := "there", desc := "(II)Z" } : Jvm.MethodName)) ∈ lw_all := lw_g (lw_at lw_m1 119 rfl) rfl
theorem q137 : (Jvm.Cond.methodLink "CrdtTableLaw" (48 : Nat) ({ cls := "CrdtTable", name := "nameOf", desc := "(II)I" } : Jvm.MethodName)) ∈ lw_all := lw_g (lw_at lw_m1 123 rfl) rfl
theorem q145 : (Jvm.Cond.methodLink "CrdtTableLaw" (52 : Nat) ({ cls := "CrdtTable", name := "countOf", desc := "(II)I" } : Jvm.MethodName)) ∈ lw_all := lw_g (lw_at lw_m1 131 rfl) rfl
theorem q149 : (Jvm.Cond.methodLink "CrdtTableLaw" (56 : Nat) ({ cls := "CrdtTable", name := "linkOf", desc := "(II)I" } : Jvm.MethodName)) ∈ lw_all := lw_g (lw_at lw_m1 135 rfl) rfl
theorem q153 : (Jvm.Cond.methodLink "CrdtTableLaw" (60 : Nat) ({ cls := "CrdtTable", name := "rows", desc := "(I)I" } : Jvm.MethodName)) ∈ lw_all := lw_g (lw_at lw_m1 139 rfl) rfl
theorem q157 : (Jvm.Cond.methodLink "CrdtTableLaw" (65 : Nat) ({ cls := "CrdtTable", name := "sum", desc := "(I)I" } : Jvm.MethodName)) ∈ lw_all := lw_g (lw_at lw_m1 143 rfl) rfl
theorem q162 : (Jvm.Cond.methodLink "CrdtTableLaw" (69 : Nat) ({ cls := "CrdtTable", name := "known", desc := "(I)I" } : Jvm.MethodName)) ∈ lw_all := lw_g (lw_at lw_m1 148 rfl) rfl
theorem q166 : (Jvm.Cond.methodLink "CrdtTableLaw" (73 : Nat) ({ cls := "CrdtTable", name := "agree", desc := "(II)Z" } : Jvm.MethodName)) ∈ lw_all := lw_g (lw_at lw_m1 152 rfl) rfl
theorem q176 : (Jvm.Cond.classLink "CrdtTableLaw" (10 : Nat) "CrdtTableModel") ∈ lw_all := lw_g (lw_at lw_m1 162 rfl) rfl
theorem q178 : (Jvm.Cond.methodLink "CrdtTableLaw" (12 : Nat) ({ cls := "CrdtTableModel", name := "<init>", desc := "()V" } : Jvm.MethodName)) ∈ lw_all := lw_g (lw_at lw_m1 164 rfl) rfl
theorem q210 : (Jvm.Cond.methodLink "CrdtTableLaw" (17 : Nat) ({ cls := "CrdtTableModel", name := "add", desc := "(II)I" } : Jvm.MethodName)) ∈ lw_all := lw_g (lw_at lw_m1 196 rfl) rfl
theorem q238 : (Jvm.Cond.methodLink "CrdtTableLaw" (21 : Nat) ({ cls := "CrdtTableModel", name := "drop", desc := "(II)I" } : Jvm.MethodName)) ∈ lw_all := lw_g (lw_at lw_m1 224 rfl) rfl
theorem q242 : (Jvm.Cond.methodLink "CrdtTableLaw" (26 : Nat) ({ cls := "CrdtTableModel", name := "name", desc := "(III)I" } : Jvm.MethodName)) ∈ lw_all := lw_g (lw_at lw_m1 228 rfl) rfl
theorem q246 : (Jvm.Cond.methodLink "CrdtTableLaw" (30 : Nat) ({ cls := "CrdtTableModel", name := "count", desc := "(III)I" } : Jvm.MethodName)) ∈ lw_all := lw_g (lw_at lw_m1 232 rfl) rfl
theorem q250 : (Jvm.Cond.methodLink "CrdtTableLaw" (34 : Nat) ({ cls := "CrdtTableModel", name := "link", desc := "(III)I" } : Jvm.MethodName)) ∈ lw_all := lw_g (lw_at lw_m1 236 rfl) rfl
theorem q254 : (Jvm.Cond.methodLink "CrdtTableLaw" (38 : Nat) ({ cls := "CrdtTableModel", name := "learn", desc := "(II)I" } : Jvm.MethodName)) ∈ lw_all := lw_g (lw_at lw_m2 0 rfl) rfl
theorem q262 : (Jvm.Cond.methodLink "CrdtTableLaw" (42 : Nat) ({ cls := "CrdtTableModel", name := "learnSome", desc := "(III)I" } : Jvm.MethodName)) ∈ lw_all := lw_g (lw_at lw_m2 8 rfl) rfl
theorem q263 : (Jvm.Cond.methodLink "CrdtTableLaw" (47 : Nat) ({ cls := "CrdtTableModel", name := "there", desc := "(II)Z" } : Jvm.MethodName)) ∈ lw_all := lw_g (lw_at lw_m2 9 rfl) rfl
theorem q264 : (Jvm.Cond.methodLink "CrdtTableLaw" (51 : Nat) ({ cls := "CrdtTableModel", name := "nameOf", desc := "(II)I" } : Jvm.MethodName)) ∈ lw_all := lw_g (lw_at lw_m2 10 rfl) rfl
theorem q272 : (Jvm.Cond.methodLink "CrdtTableLaw" (55 : Nat) ({ cls := "CrdtTableModel", name := "countOf", desc := "(II)I" } : Jvm.MethodName)) ∈ lw_all := lw_g (lw_at lw_m2 18 rfl) rfl
theorem q276 : (Jvm.Cond.methodLink "CrdtTableLaw" (59 : Nat) ({ cls := "CrdtTableModel", name := "linkOf", desc := "(II)I" } : Jvm.MethodName)) ∈ lw_all := lw_g (lw_at lw_m2 22 rfl) rfl
theorem q280 : (Jvm.Cond.methodLink "CrdtTableLaw" (64 : Nat) ({ cls := "CrdtTableModel", name := "rows", desc := "(I)I" } : Jvm.MethodName)) ∈ lw_all := lw_g (lw_at lw_m2 26 rfl) rfl
theorem q284 : (Jvm.Cond.methodLink "CrdtTableLaw" (68 : Nat) ({ cls := "CrdtTableModel", name := "sum", desc := "(I)I" } : Jvm.MethodName)) ∈ lw_all := lw_g (lw_at lw_m2 30 rfl) rfl
theorem q289 : (Jvm.Cond.methodLink "CrdtTableLaw" (72 : Nat) ({ cls := "CrdtTableModel", name := "known", desc := "(I)I" } : Jvm.MethodName)) ∈ lw_all := lw_g (lw_at lw_m2 35 rfl) rfl
theorem q293 : (Jvm.Cond.methodLink "CrdtTableLaw" (76 : Nat) ({ cls := "CrdtTableModel", name := "agree", desc := "(II)Z" } : Jvm.MethodName)) ∈ lw_all := lw_g (lw_at lw_m2 39 rfl) rfl
end
section
/-! CrdtTable -/
set_option maxRecDepth 100000
def RX0 : String := "CrdtTable"
def TX0 : u_T := fun k => match k with
  | 0 => ("CrdtTable", "actions", "I", false)
  | 1 => ("CrdtTable", "kind", "[I", true)
  | 2 => ("CrdtTable", "rowOf", "[I", true)
  | 3 => ("CrdtTable", "number", "[I", true)
  | 4 => ("CrdtTable", "stampOf", "[I", true)
  | 5 => ("CrdtTable", "origin", "[I", true)
  | 6 => ("CrdtTable", "cancels", "[J", true)
  | 7 => ("CrdtTable", "stamp", "[I", true)
  | 8 => ("CrdtTable", "knows", "[J", true)
  | 9 => ("CrdtTable", "cancelled", "[J", true)
  | 10 => ("CrdtTable", "adds", "[J", true)
  | 11 => ("CrdtTable", "standing", "[J", true)
  | 12 => ("CrdtTable", "lastName", "[I", true)
  | 13 => ("CrdtTable", "lastLink", "[I", true)
  | _ => ("CrdtTable", "total", "[I", true)
def tyX0 : Nat → FieldType := fun k => match k with
  | 0 => .int
  | 1 => .array .int
  | 2 => .array .int
  | 3 => .array .int
  | 4 => .array .int
  | 5 => .array .int
  | 6 => .array .long
  | 7 => .array .int
  | 8 => .array .long
  | 9 => .array .long
  | 10 => .array .long
  | 11 => .array .long
  | 12 => .array .int
  | 13 => .array .int
  | _ => .array .int
abbrev wsX00 : List Cond := u_ws RX0 TX0 15
set_option maxRecDepth 100000 in
theorem nmX0 : ∀ a, a < 15 → ∀ b, b < 15 → a ≠ b → (TX0 a).2.1 ≠ (TX0 b).2.1 := by decide +kernel
set_option maxRecDepth 100000 in
theorem tyX0_ok : ∀ k, k < 15 → parseFieldDescriptor (TX0 k).2.2.1 = some (tyX0 k) := by decide +kernel
abbrev cX0_init : ByteArray := prog_1_method_1_code
def yX0_init : MethodName := ⟨RX0, "<init>", "()V"⟩
theorem dX0_init_0 : decode cX0_init 0 = .ok (.aload_n 0, 1) := by decide +kernel
theorem dX0_init_1 : decode cX0_init 1 = .ok (.invokespecial 1, 3) := by decide +kernel
theorem dX0_init_4 : decode cX0_init 4 = .ok (.aload_n 0, 1) := by decide +kernel
theorem dX0_init_5 : decode cX0_init 5 = .ok (.bipush 60, 2) := by decide +kernel
theorem dX0_init_7 : decode cX0_init 7 = .ok (.newarray .int, 2) := by decide +kernel
theorem dX0_init_9 : decode cX0_init 9 = .ok (.putfield 7, 3) := by decide +kernel
theorem dX0_init_12 : decode cX0_init 12 = .ok (.aload_n 0, 1) := by decide +kernel
theorem dX0_init_13 : decode cX0_init 13 = .ok (.bipush 60, 2) := by decide +kernel
theorem dX0_init_15 : decode cX0_init 15 = .ok (.newarray .int, 2) := by decide +kernel
theorem dX0_init_17 : decode cX0_init 17 = .ok (.putfield 13, 3) := by decide +kernel
theorem dX0_init_20 : decode cX0_init 20 = .ok (.aload_n 0, 1) := by decide +kernel
theorem dX0_init_21 : decode cX0_init 21 = .ok (.bipush 60, 2) := by decide +kernel
theorem dX0_init_23 : decode cX0_init 23 = .ok (.newarray .int, 2) := by decide +kernel
theorem dX0_init_25 : decode cX0_init 25 = .ok (.putfield 16, 3) := by decide +kernel
theorem dX0_init_28 : decode cX0_init 28 = .ok (.aload_n 0, 1) := by decide +kernel
theorem dX0_init_29 : decode cX0_init 29 = .ok (.bipush 60, 2) := by decide +kernel
theorem dX0_init_31 : decode cX0_init 31 = .ok (.newarray .int, 2) := by decide +kernel
theorem dX0_init_33 : decode cX0_init 33 = .ok (.putfield 19, 3) := by decide +kernel
theorem dX0_init_36 : decode cX0_init 36 = .ok (.aload_n 0, 1) := by decide +kernel
theorem dX0_init_37 : decode cX0_init 37 = .ok (.bipush 60, 2) := by decide +kernel
theorem dX0_init_39 : decode cX0_init 39 = .ok (.newarray .int, 2) := by decide +kernel
theorem dX0_init_41 : decode cX0_init 41 = .ok (.putfield 22, 3) := by decide +kernel
theorem dX0_init_44 : decode cX0_init 44 = .ok (.aload_n 0, 1) := by decide +kernel
theorem dX0_init_45 : decode cX0_init 45 = .ok (.bipush 60, 2) := by decide +kernel
theorem dX0_init_47 : decode cX0_init 47 = .ok (.newarray .long, 2) := by decide +kernel
theorem dX0_init_49 : decode cX0_init 49 = .ok (.putfield 25, 3) := by decide +kernel
theorem dX0_init_52 : decode cX0_init 52 = .ok (.aload_n 0, 1) := by decide +kernel
theorem dX0_init_53 : decode cX0_init 53 = .ok (.iconst 3, 1) := by decide +kernel
theorem dX0_init_54 : decode cX0_init 54 = .ok (.newarray .int, 2) := by decide +kernel
theorem dX0_init_56 : decode cX0_init 56 = .ok (.putfield 29, 3) := by decide +kernel
theorem dX0_init_59 : decode cX0_init 59 = .ok (.aload_n 0, 1) := by decide +kernel
theorem dX0_init_60 : decode cX0_init 60 = .ok (.iconst 3, 1) := by decide +kernel
theorem dX0_init_61 : decode cX0_init 61 = .ok (.newarray .long, 2) := by decide +kernel
theorem dX0_init_63 : decode cX0_init 63 = .ok (.putfield 32, 3) := by decide +kernel
theorem dX0_init_66 : decode cX0_init 66 = .ok (.aload_n 0, 1) := by decide +kernel
theorem dX0_init_67 : decode cX0_init 67 = .ok (.iconst 3, 1) := by decide +kernel
theorem dX0_init_68 : decode cX0_init 68 = .ok (.newarray .long, 2) := by decide +kernel
theorem dX0_init_70 : decode cX0_init 70 = .ok (.putfield 35, 3) := by decide +kernel
theorem dX0_init_73 : decode cX0_init 73 = .ok (.aload_n 0, 1) := by decide +kernel
theorem dX0_init_74 : decode cX0_init 74 = .ok (.bipush 24, 2) := by decide +kernel
theorem dX0_init_76 : decode cX0_init 76 = .ok (.newarray .long, 2) := by decide +kernel
theorem dX0_init_78 : decode cX0_init 78 = .ok (.putfield 38, 3) := by decide +kernel
theorem dX0_init_81 : decode cX0_init 81 = .ok (.aload_n 0, 1) := by decide +kernel
theorem dX0_init_82 : decode cX0_init 82 = .ok (.bipush 24, 2) := by decide +kernel
theorem dX0_init_84 : decode cX0_init 84 = .ok (.newarray .long, 2) := by decide +kernel
theorem dX0_init_86 : decode cX0_init 86 = .ok (.putfield 41, 3) := by decide +kernel
theorem dX0_init_89 : decode cX0_init 89 = .ok (.aload_n 0, 1) := by decide +kernel
theorem dX0_init_90 : decode cX0_init 90 = .ok (.bipush 24, 2) := by decide +kernel
theorem dX0_init_92 : decode cX0_init 92 = .ok (.newarray .int, 2) := by decide +kernel
theorem dX0_init_94 : decode cX0_init 94 = .ok (.putfield 44, 3) := by decide +kernel
theorem dX0_init_97 : decode cX0_init 97 = .ok (.aload_n 0, 1) := by decide +kernel
theorem dX0_init_98 : decode cX0_init 98 = .ok (.bipush 24, 2) := by decide +kernel
theorem dX0_init_100 : decode cX0_init 100 = .ok (.newarray .int, 2) := by decide +kernel
theorem dX0_init_102 : decode cX0_init 102 = .ok (.putfield 47, 3) := by decide +kernel
theorem dX0_init_105 : decode cX0_init 105 = .ok (.aload_n 0, 1) := by decide +kernel
theorem dX0_init_106 : decode cX0_init 106 = .ok (.bipush 24, 2) := by decide +kernel
theorem dX0_init_108 : decode cX0_init 108 = .ok (.newarray .int, 2) := by decide +kernel
theorem dX0_init_110 : decode cX0_init 110 = .ok (.putfield 50, 3) := by decide +kernel
theorem dX0_init_113 : decode cX0_init 113 = .ok (.iconst 0, 1) := by decide +kernel
theorem dX0_init_114 : decode cX0_init 114 = .ok (.istore_n 1, 1) := by decide +kernel
theorem dX0_init_115 : decode cX0_init 115 = .ok (.iload_n 1, 1) := by decide +kernel
theorem dX0_init_116 : decode cX0_init 116 = .ok (.bipush 24, 2) := by decide +kernel
theorem dX0_init_118 : decode cX0_init 118 = .ok (.if_icmp .ge 23, 3) := by decide +kernel
theorem dX0_init_121 : decode cX0_init 121 = .ok (.aload_n 0, 1) := by decide +kernel
theorem dX0_init_122 : decode cX0_init 122 = .ok (.getfield 44, 3) := by decide +kernel
theorem dX0_init_125 : decode cX0_init 125 = .ok (.iload_n 1, 1) := by decide +kernel
theorem dX0_init_126 : decode cX0_init 126 = .ok (.iconst (-1), 1) := by decide +kernel
theorem dX0_init_127 : decode cX0_init 127 = .ok (.iastore, 1) := by decide +kernel
theorem dX0_init_128 : decode cX0_init 128 = .ok (.aload_n 0, 1) := by decide +kernel
theorem dX0_init_129 : decode cX0_init 129 = .ok (.getfield 47, 3) := by decide +kernel
theorem dX0_init_132 : decode cX0_init 132 = .ok (.iload_n 1, 1) := by decide +kernel
theorem dX0_init_133 : decode cX0_init 133 = .ok (.iconst (-1), 1) := by decide +kernel
theorem dX0_init_134 : decode cX0_init 134 = .ok (.iastore, 1) := by decide +kernel
theorem dX0_init_135 : decode cX0_init 135 = .ok (.iinc 1 1, 3) := by decide +kernel
theorem dX0_init_138 : decode cX0_init 138 = .ok (.goto (-23), 3) := by decide +kernel
theorem dX0_init_141 : decode cX0_init 141 = .ok (.return_, 1) := by decide +kernel
abbrev cX0_add : ByteArray := prog_1_method_10_code
def yX0_add : MethodName := ⟨RX0, "add", "(II)I"⟩
theorem dX0_add_0 : decode cX0_add 0 = .ok (.aload_n 0, 1) := by decide +kernel
theorem dX0_add_1 : decode cX0_add 1 = .ok (.iload_n 1, 1) := by decide +kernel
theorem dX0_add_2 : decode cX0_add 2 = .ok (.iload_n 2, 1) := by decide +kernel
theorem dX0_add_3 : decode cX0_add 3 = .ok (.invokevirtual 74, 3) := by decide +kernel
theorem dX0_add_6 : decode cX0_add 6 = .ok (.istore_n 3, 1) := by decide +kernel
theorem dX0_add_7 : decode cX0_add 7 = .ok (.iload_n 3, 1) := by decide +kernel
theorem dX0_add_8 : decode cX0_add 8 = .ok (.ifCond .eq 7, 3) := by decide +kernel
theorem dX0_add_11 : decode cX0_add 11 = .ok (.iload_n 3, 1) := by decide +kernel
theorem dX0_add_12 : decode cX0_add 12 = .ok (.goto 11, 3) := by decide +kernel
theorem dX0_add_15 : decode cX0_add 15 = .ok (.aload_n 0, 1) := by decide +kernel
theorem dX0_add_16 : decode cX0_add 16 = .ok (.iload_n 1, 1) := by decide +kernel
theorem dX0_add_17 : decode cX0_add 17 = .ok (.iconst 0, 1) := by decide +kernel
theorem dX0_add_18 : decode cX0_add 18 = .ok (.iload_n 2, 1) := by decide +kernel
theorem dX0_add_19 : decode cX0_add 19 = .ok (.iconst 0, 1) := by decide +kernel
theorem dX0_add_20 : decode cX0_add 20 = .ok (.invokevirtual 81, 3) := by decide +kernel
theorem dX0_add_23 : decode cX0_add 23 = .ok (.ireturn, 1) := by decide +kernel
abbrev cX0_refusal : ByteArray := prog_1_method_8_code
def yX0_refusal : MethodName := ⟨RX0, "refusal", "(II)I"⟩
theorem dX0_refusal_0 : decode cX0_refusal 0 = .ok (.iload_n 1, 1) := by decide +kernel
theorem dX0_refusal_1 : decode cX0_refusal 1 = .ok (.invokestatic 67, 3) := by decide +kernel
theorem dX0_refusal_4 : decode cX0_refusal 4 = .ok (.ifCond .eq 5, 3) := by decide +kernel
theorem dX0_refusal_7 : decode cX0_refusal 7 = .ok (.iconst (-1), 1) := by decide +kernel
theorem dX0_refusal_8 : decode cX0_refusal 8 = .ok (.ireturn, 1) := by decide +kernel
theorem dX0_refusal_9 : decode cX0_refusal 9 = .ok (.iload_n 2, 1) := by decide +kernel
theorem dX0_refusal_10 : decode cX0_refusal 10 = .ok (.invokestatic 71, 3) := by decide +kernel
theorem dX0_refusal_13 : decode cX0_refusal 13 = .ok (.ifCond .eq 8, 3) := by decide +kernel
theorem dX0_refusal_16 : decode cX0_refusal 16 = .ok (.bipush (-2), 2) := by decide +kernel
theorem dX0_refusal_18 : decode cX0_refusal 18 = .ok (.goto 4, 3) := by decide +kernel
theorem dX0_refusal_21 : decode cX0_refusal 21 = .ok (.iconst 0, 1) := by decide +kernel
theorem dX0_refusal_22 : decode cX0_refusal 22 = .ok (.ireturn, 1) := by decide +kernel
abbrev cX0_badReplica : ByteArray := prog_1_method_2_code
def yX0_badReplica : MethodName := ⟨RX0, "badReplica", "(I)Z"⟩
theorem dX0_badReplica_0 : decode cX0_badReplica 0 = .ok (.iload_n 0, 1) := by decide +kernel
theorem dX0_badReplica_1 : decode cX0_badReplica 1 = .ok (.ifCond .lt 8, 3) := by decide +kernel
theorem dX0_badReplica_4 : decode cX0_badReplica 4 = .ok (.iload_n 0, 1) := by decide +kernel
theorem dX0_badReplica_5 : decode cX0_badReplica 5 = .ok (.iconst 2, 1) := by decide +kernel
theorem dX0_badReplica_6 : decode cX0_badReplica 6 = .ok (.if_icmp .le 7, 3) := by decide +kernel
theorem dX0_badReplica_9 : decode cX0_badReplica 9 = .ok (.iconst 1, 1) := by decide +kernel
theorem dX0_badReplica_10 : decode cX0_badReplica 10 = .ok (.goto 4, 3) := by decide +kernel
theorem dX0_badReplica_13 : decode cX0_badReplica 13 = .ok (.iconst 0, 1) := by decide +kernel
theorem dX0_badReplica_14 : decode cX0_badReplica 14 = .ok (.ireturn, 1) := by decide +kernel
abbrev cX0_badRow : ByteArray := prog_1_method_3_code
def yX0_badRow : MethodName := ⟨RX0, "badRow", "(I)Z"⟩
theorem dX0_badRow_0 : decode cX0_badRow 0 = .ok (.iload_n 0, 1) := by decide +kernel
theorem dX0_badRow_1 : decode cX0_badRow 1 = .ok (.ifCond .lt 9, 3) := by decide +kernel
theorem dX0_badRow_4 : decode cX0_badRow 4 = .ok (.iload_n 0, 1) := by decide +kernel
theorem dX0_badRow_5 : decode cX0_badRow 5 = .ok (.bipush 8, 2) := by decide +kernel
theorem dX0_badRow_7 : decode cX0_badRow 7 = .ok (.if_icmp .lt 7, 3) := by decide +kernel
theorem dX0_badRow_10 : decode cX0_badRow 10 = .ok (.iconst 1, 1) := by decide +kernel
theorem dX0_badRow_11 : decode cX0_badRow 11 = .ok (.goto 4, 3) := by decide +kernel
theorem dX0_badRow_14 : decode cX0_badRow 14 = .ok (.iconst 0, 1) := by decide +kernel
theorem dX0_badRow_15 : decode cX0_badRow 15 = .ok (.ireturn, 1) := by decide +kernel
abbrev cX0_act : ByteArray := prog_1_method_7_code
def yX0_act : MethodName := ⟨RX0, "act", "(IIII)I"⟩
theorem dX0_act_0 : decode cX0_act 0 = .ok (.aload_n 0, 1) := by decide +kernel
theorem dX0_act_1 : decode cX0_act 1 = .ok (.getfield 59, 3) := by decide +kernel
theorem dX0_act_4 : decode cX0_act 4 = .ok (.bipush 60, 2) := by decide +kernel
theorem dX0_act_6 : decode cX0_act 6 = .ok (.if_icmp .lt 6, 3) := by decide +kernel
theorem dX0_act_9 : decode cX0_act 9 = .ok (.bipush (-3), 2) := by decide +kernel
theorem dX0_act_11 : decode cX0_act 11 = .ok (.ireturn, 1) := by decide +kernel
theorem dX0_act_12 : decode cX0_act 12 = .ok (.aload_n 0, 1) := by decide +kernel
theorem dX0_act_13 : decode cX0_act 13 = .ok (.getfield 59, 3) := by decide +kernel
theorem dX0_act_16 : decode cX0_act 16 = .ok (.istore 5, 2) := by decide +kernel
theorem dX0_act_18 : decode cX0_act 18 = .ok (.aload_n 0, 1) := by decide +kernel
theorem dX0_act_19 : decode cX0_act 19 = .ok (.getfield 7, 3) := by decide +kernel
theorem dX0_act_22 : decode cX0_act 22 = .ok (.iload 5, 2) := by decide +kernel
theorem dX0_act_24 : decode cX0_act 24 = .ok (.iload_n 2, 1) := by decide +kernel
theorem dX0_act_25 : decode cX0_act 25 = .ok (.iastore, 1) := by decide +kernel
theorem dX0_act_26 : decode cX0_act 26 = .ok (.aload_n 0, 1) := by decide +kernel
theorem dX0_act_27 : decode cX0_act 27 = .ok (.getfield 13, 3) := by decide +kernel
theorem dX0_act_30 : decode cX0_act 30 = .ok (.iload 5, 2) := by decide +kernel
theorem dX0_act_32 : decode cX0_act 32 = .ok (.iload_n 3, 1) := by decide +kernel
theorem dX0_act_33 : decode cX0_act 33 = .ok (.iastore, 1) := by decide +kernel
theorem dX0_act_34 : decode cX0_act 34 = .ok (.aload_n 0, 1) := by decide +kernel
theorem dX0_act_35 : decode cX0_act 35 = .ok (.getfield 16, 3) := by decide +kernel
theorem dX0_act_38 : decode cX0_act 38 = .ok (.iload 5, 2) := by decide +kernel
theorem dX0_act_40 : decode cX0_act 40 = .ok (.iload 4, 2) := by decide +kernel
theorem dX0_act_42 : decode cX0_act 42 = .ok (.iastore, 1) := by decide +kernel
theorem dX0_act_43 : decode cX0_act 43 = .ok (.aload_n 0, 1) := by decide +kernel
theorem dX0_act_44 : decode cX0_act 44 = .ok (.getfield 19, 3) := by decide +kernel
theorem dX0_act_47 : decode cX0_act 47 = .ok (.iload 5, 2) := by decide +kernel
theorem dX0_act_49 : decode cX0_act 49 = .ok (.aload_n 0, 1) := by decide +kernel
theorem dX0_act_50 : decode cX0_act 50 = .ok (.getfield 29, 3) := by decide +kernel
theorem dX0_act_53 : decode cX0_act 53 = .ok (.iload_n 1, 1) := by decide +kernel
theorem dX0_act_54 : decode cX0_act 54 = .ok (.iaload, 1) := by decide +kernel
theorem dX0_act_55 : decode cX0_act 55 = .ok (.iconst 1, 1) := by decide +kernel
theorem dX0_act_56 : decode cX0_act 56 = .ok (.iadd, 1) := by decide +kernel
theorem dX0_act_57 : decode cX0_act 57 = .ok (.iastore, 1) := by decide +kernel
theorem dX0_act_58 : decode cX0_act 58 = .ok (.aload_n 0, 1) := by decide +kernel
theorem dX0_act_59 : decode cX0_act 59 = .ok (.getfield 22, 3) := by decide +kernel
theorem dX0_act_62 : decode cX0_act 62 = .ok (.iload 5, 2) := by decide +kernel
theorem dX0_act_64 : decode cX0_act 64 = .ok (.iload_n 1, 1) := by decide +kernel
theorem dX0_act_65 : decode cX0_act 65 = .ok (.iastore, 1) := by decide +kernel
theorem dX0_act_66 : decode cX0_act 66 = .ok (.aload_n 0, 1) := by decide +kernel
theorem dX0_act_67 : decode cX0_act 67 = .ok (.getfield 25, 3) := by decide +kernel
theorem dX0_act_70 : decode cX0_act 70 = .ok (.iload 5, 2) := by decide +kernel
theorem dX0_act_72 : decode cX0_act 72 = .ok (.iload_n 2, 1) := by decide +kernel
theorem dX0_act_73 : decode cX0_act 73 = .ok (.iconst 1, 1) := by decide +kernel
theorem dX0_act_74 : decode cX0_act 74 = .ok (.if_icmp .ne 17, 3) := by decide +kernel
theorem dX0_act_77 : decode cX0_act 77 = .ok (.aload_n 0, 1) := by decide +kernel
theorem dX0_act_78 : decode cX0_act 78 = .ok (.getfield 38, 3) := by decide +kernel
theorem dX0_act_81 : decode cX0_act 81 = .ok (.iload_n 1, 1) := by decide +kernel
theorem dX0_act_82 : decode cX0_act 82 = .ok (.bipush 8, 2) := by decide +kernel
theorem dX0_act_84 : decode cX0_act 84 = .ok (.imul, 1) := by decide +kernel
theorem dX0_act_85 : decode cX0_act 85 = .ok (.iload_n 3, 1) := by decide +kernel
theorem dX0_act_86 : decode cX0_act 86 = .ok (.iadd, 1) := by decide +kernel
theorem dX0_act_87 : decode cX0_act 87 = .ok (.laload, 1) := by decide +kernel
theorem dX0_act_88 : decode cX0_act 88 = .ok (.goto 4, 3) := by decide +kernel
theorem dX0_act_91 : decode cX0_act 91 = .ok (.lconst 0, 1) := by decide +kernel
theorem dX0_act_92 : decode cX0_act 92 = .ok (.lastore, 1) := by decide +kernel
theorem dX0_act_93 : decode cX0_act 93 = .ok (.aload_n 0, 1) := by decide +kernel
theorem dX0_act_94 : decode cX0_act 94 = .ok (.dup, 1) := by decide +kernel
theorem dX0_act_95 : decode cX0_act 95 = .ok (.getfield 59, 3) := by decide +kernel
theorem dX0_act_98 : decode cX0_act 98 = .ok (.iconst 1, 1) := by decide +kernel
theorem dX0_act_99 : decode cX0_act 99 = .ok (.iadd, 1) := by decide +kernel
theorem dX0_act_100 : decode cX0_act 100 = .ok (.putfield 59, 3) := by decide +kernel
theorem dX0_act_103 : decode cX0_act 103 = .ok (.aload_n 0, 1) := by decide +kernel
theorem dX0_act_104 : decode cX0_act 104 = .ok (.iload_n 1, 1) := by decide +kernel
theorem dX0_act_105 : decode cX0_act 105 = .ok (.iload 5, 2) := by decide +kernel
theorem dX0_act_107 : decode cX0_act 107 = .ok (.invokevirtual 63, 3) := by decide +kernel
theorem dX0_act_110 : decode cX0_act 110 = .ok (.iload 5, 2) := by decide +kernel
theorem dX0_act_112 : decode cX0_act 112 = .ok (.ireturn, 1) := by decide +kernel
abbrev cX0_takeIn : ByteArray := prog_1_method_6_code
def yX0_takeIn : MethodName := ⟨RX0, "takeIn", "(II)V"⟩
theorem dX0_takeIn_0 : decode cX0_takeIn 0 = .ok (.aload_n 0, 1) := by decide +kernel
theorem dX0_takeIn_1 : decode cX0_takeIn 1 = .ok (.getfield 32, 3) := by decide +kernel
theorem dX0_takeIn_4 : decode cX0_takeIn 4 = .ok (.iload_n 1, 1) := by decide +kernel
theorem dX0_takeIn_5 : decode cX0_takeIn 5 = .ok (.dup2, 1) := by decide +kernel
theorem dX0_takeIn_6 : decode cX0_takeIn 6 = .ok (.laload, 1) := by decide +kernel
theorem dX0_takeIn_7 : decode cX0_takeIn 7 = .ok (.lconst 1, 1) := by decide +kernel
theorem dX0_takeIn_8 : decode cX0_takeIn 8 = .ok (.iload_n 2, 1) := by decide +kernel
theorem dX0_takeIn_9 : decode cX0_takeIn 9 = .ok (.lshl, 1) := by decide +kernel
theorem dX0_takeIn_10 : decode cX0_takeIn 10 = .ok (.lor, 1) := by decide +kernel
theorem dX0_takeIn_11 : decode cX0_takeIn 11 = .ok (.lastore, 1) := by decide +kernel
theorem dX0_takeIn_12 : decode cX0_takeIn 12 = .ok (.aload_n 0, 1) := by decide +kernel
theorem dX0_takeIn_13 : decode cX0_takeIn 13 = .ok (.getfield 29, 3) := by decide +kernel
theorem dX0_takeIn_16 : decode cX0_takeIn 16 = .ok (.iload_n 1, 1) := by decide +kernel
theorem dX0_takeIn_17 : decode cX0_takeIn 17 = .ok (.iaload, 1) := by decide +kernel
theorem dX0_takeIn_18 : decode cX0_takeIn 18 = .ok (.aload_n 0, 1) := by decide +kernel
theorem dX0_takeIn_19 : decode cX0_takeIn 19 = .ok (.getfield 19, 3) := by decide +kernel
theorem dX0_takeIn_22 : decode cX0_takeIn 22 = .ok (.iload_n 2, 1) := by decide +kernel
theorem dX0_takeIn_23 : decode cX0_takeIn 23 = .ok (.iaload, 1) := by decide +kernel
theorem dX0_takeIn_24 : decode cX0_takeIn 24 = .ok (.if_icmp .ge 15, 3) := by decide +kernel
theorem dX0_takeIn_27 : decode cX0_takeIn 27 = .ok (.aload_n 0, 1) := by decide +kernel
theorem dX0_takeIn_28 : decode cX0_takeIn 28 = .ok (.getfield 29, 3) := by decide +kernel
theorem dX0_takeIn_31 : decode cX0_takeIn 31 = .ok (.iload_n 1, 1) := by decide +kernel
theorem dX0_takeIn_32 : decode cX0_takeIn 32 = .ok (.aload_n 0, 1) := by decide +kernel
theorem dX0_takeIn_33 : decode cX0_takeIn 33 = .ok (.getfield 19, 3) := by decide +kernel
theorem dX0_takeIn_36 : decode cX0_takeIn 36 = .ok (.iload_n 2, 1) := by decide +kernel
theorem dX0_takeIn_37 : decode cX0_takeIn 37 = .ok (.iaload, 1) := by decide +kernel
theorem dX0_takeIn_38 : decode cX0_takeIn 38 = .ok (.iastore, 1) := by decide +kernel
theorem dX0_takeIn_39 : decode cX0_takeIn 39 = .ok (.iload_n 1, 1) := by decide +kernel
theorem dX0_takeIn_40 : decode cX0_takeIn 40 = .ok (.bipush 8, 2) := by decide +kernel
theorem dX0_takeIn_42 : decode cX0_takeIn 42 = .ok (.imul, 1) := by decide +kernel
theorem dX0_takeIn_43 : decode cX0_takeIn 43 = .ok (.aload_n 0, 1) := by decide +kernel
theorem dX0_takeIn_44 : decode cX0_takeIn 44 = .ok (.getfield 13, 3) := by decide +kernel
theorem dX0_takeIn_47 : decode cX0_takeIn 47 = .ok (.iload_n 2, 1) := by decide +kernel
theorem dX0_takeIn_48 : decode cX0_takeIn 48 = .ok (.iaload, 1) := by decide +kernel
theorem dX0_takeIn_49 : decode cX0_takeIn 49 = .ok (.iadd, 1) := by decide +kernel
theorem dX0_takeIn_50 : decode cX0_takeIn 50 = .ok (.istore_n 3, 1) := by decide +kernel
theorem dX0_takeIn_51 : decode cX0_takeIn 51 = .ok (.aload_n 0, 1) := by decide +kernel
theorem dX0_takeIn_52 : decode cX0_takeIn 52 = .ok (.getfield 7, 3) := by decide +kernel
theorem dX0_takeIn_55 : decode cX0_takeIn 55 = .ok (.iload_n 2, 1) := by decide +kernel
theorem dX0_takeIn_56 : decode cX0_takeIn 56 = .ok (.iaload, 1) := by decide +kernel
theorem dX0_takeIn_57 : decode cX0_takeIn 57 = .ok (.tableswitch 148 0 3 #[31, 69, 106, 130], 31) := by decide +kernel
theorem dX0_takeIn_88 : decode cX0_takeIn 88 = .ok (.aload_n 0, 1) := by decide +kernel
theorem dX0_takeIn_89 : decode cX0_takeIn 89 = .ok (.getfield 38, 3) := by decide +kernel
theorem dX0_takeIn_92 : decode cX0_takeIn 92 = .ok (.iload_n 3, 1) := by decide +kernel
theorem dX0_takeIn_93 : decode cX0_takeIn 93 = .ok (.dup2, 1) := by decide +kernel
theorem dX0_takeIn_94 : decode cX0_takeIn 94 = .ok (.laload, 1) := by decide +kernel
theorem dX0_takeIn_95 : decode cX0_takeIn 95 = .ok (.lconst 1, 1) := by decide +kernel
theorem dX0_takeIn_96 : decode cX0_takeIn 96 = .ok (.iload_n 2, 1) := by decide +kernel
theorem dX0_takeIn_97 : decode cX0_takeIn 97 = .ok (.lshl, 1) := by decide +kernel
theorem dX0_takeIn_98 : decode cX0_takeIn 98 = .ok (.lor, 1) := by decide +kernel
theorem dX0_takeIn_99 : decode cX0_takeIn 99 = .ok (.lastore, 1) := by decide +kernel
theorem dX0_takeIn_100 : decode cX0_takeIn 100 = .ok (.aload_n 0, 1) := by decide +kernel
theorem dX0_takeIn_101 : decode cX0_takeIn 101 = .ok (.getfield 41, 3) := by decide +kernel
theorem dX0_takeIn_104 : decode cX0_takeIn 104 = .ok (.iload_n 3, 1) := by decide +kernel
theorem dX0_takeIn_105 : decode cX0_takeIn 105 = .ok (.dup2, 1) := by decide +kernel
theorem dX0_takeIn_106 : decode cX0_takeIn 106 = .ok (.laload, 1) := by decide +kernel
theorem dX0_takeIn_107 : decode cX0_takeIn 107 = .ok (.lconst 1, 1) := by decide +kernel
theorem dX0_takeIn_108 : decode cX0_takeIn 108 = .ok (.iload_n 2, 1) := by decide +kernel
theorem dX0_takeIn_109 : decode cX0_takeIn 109 = .ok (.lshl, 1) := by decide +kernel
theorem dX0_takeIn_110 : decode cX0_takeIn 110 = .ok (.aload_n 0, 1) := by decide +kernel
theorem dX0_takeIn_111 : decode cX0_takeIn 111 = .ok (.getfield 35, 3) := by decide +kernel
theorem dX0_takeIn_114 : decode cX0_takeIn 114 = .ok (.iload_n 1, 1) := by decide +kernel
theorem dX0_takeIn_115 : decode cX0_takeIn 115 = .ok (.laload, 1) := by decide +kernel
theorem dX0_takeIn_116 : decode cX0_takeIn 116 = .ok (.ldc2_w 53, 3) := by decide +kernel
theorem dX0_takeIn_119 : decode cX0_takeIn 119 = .ok (.lxor, 1) := by decide +kernel
theorem dX0_takeIn_120 : decode cX0_takeIn 120 = .ok (.land, 1) := by decide +kernel
theorem dX0_takeIn_121 : decode cX0_takeIn 121 = .ok (.lor, 1) := by decide +kernel
theorem dX0_takeIn_122 : decode cX0_takeIn 122 = .ok (.lastore, 1) := by decide +kernel
theorem dX0_takeIn_123 : decode cX0_takeIn 123 = .ok (.goto 103, 3) := by decide +kernel
theorem dX0_takeIn_126 : decode cX0_takeIn 126 = .ok (.aload_n 0, 1) := by decide +kernel
theorem dX0_takeIn_127 : decode cX0_takeIn 127 = .ok (.getfield 35, 3) := by decide +kernel
theorem dX0_takeIn_130 : decode cX0_takeIn 130 = .ok (.iload_n 1, 1) := by decide +kernel
theorem dX0_takeIn_131 : decode cX0_takeIn 131 = .ok (.dup2, 1) := by decide +kernel
theorem dX0_takeIn_132 : decode cX0_takeIn 132 = .ok (.laload, 1) := by decide +kernel
theorem dX0_takeIn_133 : decode cX0_takeIn 133 = .ok (.aload_n 0, 1) := by decide +kernel
theorem dX0_takeIn_134 : decode cX0_takeIn 134 = .ok (.getfield 25, 3) := by decide +kernel
theorem dX0_takeIn_137 : decode cX0_takeIn 137 = .ok (.iload_n 2, 1) := by decide +kernel
theorem dX0_takeIn_138 : decode cX0_takeIn 138 = .ok (.laload, 1) := by decide +kernel
theorem dX0_takeIn_139 : decode cX0_takeIn 139 = .ok (.lor, 1) := by decide +kernel
theorem dX0_takeIn_140 : decode cX0_takeIn 140 = .ok (.lastore, 1) := by decide +kernel
theorem dX0_takeIn_141 : decode cX0_takeIn 141 = .ok (.aload_n 0, 1) := by decide +kernel
theorem dX0_takeIn_142 : decode cX0_takeIn 142 = .ok (.getfield 41, 3) := by decide +kernel
theorem dX0_takeIn_145 : decode cX0_takeIn 145 = .ok (.iload_n 3, 1) := by decide +kernel
theorem dX0_takeIn_146 : decode cX0_takeIn 146 = .ok (.dup2, 1) := by decide +kernel
theorem dX0_takeIn_147 : decode cX0_takeIn 147 = .ok (.laload, 1) := by decide +kernel
theorem dX0_takeIn_148 : decode cX0_takeIn 148 = .ok (.aload_n 0, 1) := by decide +kernel
theorem dX0_takeIn_149 : decode cX0_takeIn 149 = .ok (.getfield 25, 3) := by decide +kernel
theorem dX0_takeIn_152 : decode cX0_takeIn 152 = .ok (.iload_n 2, 1) := by decide +kernel
theorem dX0_takeIn_153 : decode cX0_takeIn 153 = .ok (.laload, 1) := by decide +kernel
theorem dX0_takeIn_154 : decode cX0_takeIn 154 = .ok (.ldc2_w 53, 3) := by decide +kernel
theorem dX0_takeIn_157 : decode cX0_takeIn 157 = .ok (.lxor, 1) := by decide +kernel
theorem dX0_takeIn_158 : decode cX0_takeIn 158 = .ok (.land, 1) := by decide +kernel
theorem dX0_takeIn_159 : decode cX0_takeIn 159 = .ok (.lastore, 1) := by decide +kernel
theorem dX0_takeIn_160 : decode cX0_takeIn 160 = .ok (.goto 66, 3) := by decide +kernel
theorem dX0_takeIn_163 : decode cX0_takeIn 163 = .ok (.aload_n 0, 1) := by decide +kernel
theorem dX0_takeIn_164 : decode cX0_takeIn 164 = .ok (.iload_n 2, 1) := by decide +kernel
theorem dX0_takeIn_165 : decode cX0_takeIn 165 = .ok (.aload_n 0, 1) := by decide +kernel
theorem dX0_takeIn_166 : decode cX0_takeIn 166 = .ok (.getfield 44, 3) := by decide +kernel
theorem dX0_takeIn_169 : decode cX0_takeIn 169 = .ok (.iload_n 3, 1) := by decide +kernel
theorem dX0_takeIn_170 : decode cX0_takeIn 170 = .ok (.iaload, 1) := by decide +kernel
theorem dX0_takeIn_171 : decode cX0_takeIn 171 = .ok (.invokevirtual 55, 3) := by decide +kernel
theorem dX0_takeIn_174 : decode cX0_takeIn 174 = .ok (.ifCond .eq 52, 3) := by decide +kernel
theorem dX0_takeIn_177 : decode cX0_takeIn 177 = .ok (.aload_n 0, 1) := by decide +kernel
theorem dX0_takeIn_178 : decode cX0_takeIn 178 = .ok (.getfield 44, 3) := by decide +kernel
theorem dX0_takeIn_181 : decode cX0_takeIn 181 = .ok (.iload_n 3, 1) := by decide +kernel
theorem dX0_takeIn_182 : decode cX0_takeIn 182 = .ok (.iload_n 2, 1) := by decide +kernel
theorem dX0_takeIn_183 : decode cX0_takeIn 183 = .ok (.iastore, 1) := by decide +kernel
theorem dX0_takeIn_184 : decode cX0_takeIn 184 = .ok (.goto 42, 3) := by decide +kernel
theorem dX0_takeIn_187 : decode cX0_takeIn 187 = .ok (.aload_n 0, 1) := by decide +kernel
theorem dX0_takeIn_188 : decode cX0_takeIn 188 = .ok (.getfield 50, 3) := by decide +kernel
theorem dX0_takeIn_191 : decode cX0_takeIn 191 = .ok (.iload_n 3, 1) := by decide +kernel
theorem dX0_takeIn_192 : decode cX0_takeIn 192 = .ok (.dup2, 1) := by decide +kernel
theorem dX0_takeIn_193 : decode cX0_takeIn 193 = .ok (.iaload, 1) := by decide +kernel
theorem dX0_takeIn_194 : decode cX0_takeIn 194 = .ok (.aload_n 0, 1) := by decide +kernel
theorem dX0_takeIn_195 : decode cX0_takeIn 195 = .ok (.getfield 16, 3) := by decide +kernel
theorem dX0_takeIn_198 : decode cX0_takeIn 198 = .ok (.iload_n 2, 1) := by decide +kernel
theorem dX0_takeIn_199 : decode cX0_takeIn 199 = .ok (.iaload, 1) := by decide +kernel
theorem dX0_takeIn_200 : decode cX0_takeIn 200 = .ok (.iadd, 1) := by decide +kernel
theorem dX0_takeIn_201 : decode cX0_takeIn 201 = .ok (.iastore, 1) := by decide +kernel
theorem dX0_takeIn_202 : decode cX0_takeIn 202 = .ok (.goto 24, 3) := by decide +kernel
theorem dX0_takeIn_205 : decode cX0_takeIn 205 = .ok (.aload_n 0, 1) := by decide +kernel
theorem dX0_takeIn_206 : decode cX0_takeIn 206 = .ok (.iload_n 2, 1) := by decide +kernel
theorem dX0_takeIn_207 : decode cX0_takeIn 207 = .ok (.aload_n 0, 1) := by decide +kernel
theorem dX0_takeIn_208 : decode cX0_takeIn 208 = .ok (.getfield 47, 3) := by decide +kernel
theorem dX0_takeIn_211 : decode cX0_takeIn 211 = .ok (.iload_n 3, 1) := by decide +kernel
theorem dX0_takeIn_212 : decode cX0_takeIn 212 = .ok (.iaload, 1) := by decide +kernel
theorem dX0_takeIn_213 : decode cX0_takeIn 213 = .ok (.invokevirtual 55, 3) := by decide +kernel
theorem dX0_takeIn_216 : decode cX0_takeIn 216 = .ok (.ifCond .eq 10, 3) := by decide +kernel
theorem dX0_takeIn_219 : decode cX0_takeIn 219 = .ok (.aload_n 0, 1) := by decide +kernel
theorem dX0_takeIn_220 : decode cX0_takeIn 220 = .ok (.getfield 47, 3) := by decide +kernel
theorem dX0_takeIn_223 : decode cX0_takeIn 223 = .ok (.iload_n 3, 1) := by decide +kernel
theorem dX0_takeIn_224 : decode cX0_takeIn 224 = .ok (.iload_n 2, 1) := by decide +kernel
theorem dX0_takeIn_225 : decode cX0_takeIn 225 = .ok (.iastore, 1) := by decide +kernel
theorem dX0_takeIn_226 : decode cX0_takeIn 226 = .ok (.return_, 1) := by decide +kernel
abbrev cX0_later : ByteArray := prog_1_method_5_code
def yX0_later : MethodName := ⟨RX0, "later", "(II)Z"⟩
theorem dX0_later_0 : decode cX0_later 0 = .ok (.iload_n 2, 1) := by decide +kernel
theorem dX0_later_1 : decode cX0_later 1 = .ok (.ifCond .ge 5, 3) := by decide +kernel
theorem dX0_later_4 : decode cX0_later 4 = .ok (.iconst 1, 1) := by decide +kernel
theorem dX0_later_5 : decode cX0_later 5 = .ok (.ireturn, 1) := by decide +kernel
theorem dX0_later_6 : decode cX0_later 6 = .ok (.aload_n 0, 1) := by decide +kernel
theorem dX0_later_7 : decode cX0_later 7 = .ok (.getfield 19, 3) := by decide +kernel
theorem dX0_later_10 : decode cX0_later 10 = .ok (.iload_n 1, 1) := by decide +kernel
theorem dX0_later_11 : decode cX0_later 11 = .ok (.iaload, 1) := by decide +kernel
theorem dX0_later_12 : decode cX0_later 12 = .ok (.aload_n 0, 1) := by decide +kernel
theorem dX0_later_13 : decode cX0_later 13 = .ok (.getfield 19, 3) := by decide +kernel
theorem dX0_later_16 : decode cX0_later 16 = .ok (.iload_n 2, 1) := by decide +kernel
theorem dX0_later_17 : decode cX0_later 17 = .ok (.iaload, 1) := by decide +kernel
theorem dX0_later_18 : decode cX0_later 18 = .ok (.if_icmp .eq 26, 3) := by decide +kernel
theorem dX0_later_21 : decode cX0_later 21 = .ok (.aload_n 0, 1) := by decide +kernel
theorem dX0_later_22 : decode cX0_later 22 = .ok (.getfield 19, 3) := by decide +kernel
theorem dX0_later_25 : decode cX0_later 25 = .ok (.iload_n 1, 1) := by decide +kernel
theorem dX0_later_26 : decode cX0_later 26 = .ok (.iaload, 1) := by decide +kernel
theorem dX0_later_27 : decode cX0_later 27 = .ok (.aload_n 0, 1) := by decide +kernel
theorem dX0_later_28 : decode cX0_later 28 = .ok (.getfield 19, 3) := by decide +kernel
theorem dX0_later_31 : decode cX0_later 31 = .ok (.iload_n 2, 1) := by decide +kernel
theorem dX0_later_32 : decode cX0_later 32 = .ok (.iaload, 1) := by decide +kernel
theorem dX0_later_33 : decode cX0_later 33 = .ok (.if_icmp .le 7, 3) := by decide +kernel
theorem dX0_later_36 : decode cX0_later 36 = .ok (.iconst 1, 1) := by decide +kernel
theorem dX0_later_37 : decode cX0_later 37 = .ok (.goto 27, 3) := by decide +kernel
theorem dX0_later_40 : decode cX0_later 40 = .ok (.iconst 0, 1) := by decide +kernel
theorem dX0_later_41 : decode cX0_later 41 = .ok (.goto 23, 3) := by decide +kernel
theorem dX0_later_44 : decode cX0_later 44 = .ok (.aload_n 0, 1) := by decide +kernel
theorem dX0_later_45 : decode cX0_later 45 = .ok (.getfield 22, 3) := by decide +kernel
theorem dX0_later_48 : decode cX0_later 48 = .ok (.iload_n 1, 1) := by decide +kernel
theorem dX0_later_49 : decode cX0_later 49 = .ok (.iaload, 1) := by decide +kernel
theorem dX0_later_50 : decode cX0_later 50 = .ok (.aload_n 0, 1) := by decide +kernel
theorem dX0_later_51 : decode cX0_later 51 = .ok (.getfield 22, 3) := by decide +kernel
theorem dX0_later_54 : decode cX0_later 54 = .ok (.iload_n 2, 1) := by decide +kernel
theorem dX0_later_55 : decode cX0_later 55 = .ok (.iaload, 1) := by decide +kernel
theorem dX0_later_56 : decode cX0_later 56 = .ok (.if_icmp .le 7, 3) := by decide +kernel
theorem dX0_later_59 : decode cX0_later 59 = .ok (.iconst 1, 1) := by decide +kernel
theorem dX0_later_60 : decode cX0_later 60 = .ok (.goto 4, 3) := by decide +kernel
theorem dX0_later_63 : decode cX0_later 63 = .ok (.iconst 0, 1) := by decide +kernel
theorem dX0_later_64 : decode cX0_later 64 = .ok (.ireturn, 1) := by decide +kernel
abbrev cX0_drop : ByteArray := prog_1_method_11_code
def yX0_drop : MethodName := ⟨RX0, "drop", "(II)I"⟩
theorem dX0_drop_0 : decode cX0_drop 0 = .ok (.aload_n 0, 1) := by decide +kernel
theorem dX0_drop_1 : decode cX0_drop 1 = .ok (.iload_n 1, 1) := by decide +kernel
theorem dX0_drop_2 : decode cX0_drop 2 = .ok (.iload_n 2, 1) := by decide +kernel
theorem dX0_drop_3 : decode cX0_drop 3 = .ok (.invokevirtual 85, 3) := by decide +kernel
theorem dX0_drop_6 : decode cX0_drop 6 = .ok (.istore_n 3, 1) := by decide +kernel
theorem dX0_drop_7 : decode cX0_drop 7 = .ok (.iload_n 3, 1) := by decide +kernel
theorem dX0_drop_8 : decode cX0_drop 8 = .ok (.ifCond .eq 7, 3) := by decide +kernel
theorem dX0_drop_11 : decode cX0_drop 11 = .ok (.iload_n 3, 1) := by decide +kernel
theorem dX0_drop_12 : decode cX0_drop 12 = .ok (.goto 11, 3) := by decide +kernel
theorem dX0_drop_15 : decode cX0_drop 15 = .ok (.aload_n 0, 1) := by decide +kernel
theorem dX0_drop_16 : decode cX0_drop 16 = .ok (.iload_n 1, 1) := by decide +kernel
theorem dX0_drop_17 : decode cX0_drop 17 = .ok (.iconst 1, 1) := by decide +kernel
theorem dX0_drop_18 : decode cX0_drop 18 = .ok (.iload_n 2, 1) := by decide +kernel
theorem dX0_drop_19 : decode cX0_drop 19 = .ok (.iconst 0, 1) := by decide +kernel
theorem dX0_drop_20 : decode cX0_drop 20 = .ok (.invokevirtual 81, 3) := by decide +kernel
theorem dX0_drop_23 : decode cX0_drop 23 = .ok (.ireturn, 1) := by decide +kernel
abbrev cX0_refusalAbsent : ByteArray := prog_1_method_9_code
def yX0_refusalAbsent : MethodName := ⟨RX0, "refusalAbsent", "(II)I"⟩
theorem dX0_refusalAbsent_0 : decode cX0_refusalAbsent 0 = .ok (.aload_n 0, 1) := by decide +kernel
theorem dX0_refusalAbsent_1 : decode cX0_refusalAbsent 1 = .ok (.iload_n 1, 1) := by decide +kernel
theorem dX0_refusalAbsent_2 : decode cX0_refusalAbsent 2 = .ok (.iload_n 2, 1) := by decide +kernel
theorem dX0_refusalAbsent_3 : decode cX0_refusalAbsent 3 = .ok (.invokevirtual 74, 3) := by decide +kernel
theorem dX0_refusalAbsent_6 : decode cX0_refusalAbsent 6 = .ok (.istore_n 3, 1) := by decide +kernel
theorem dX0_refusalAbsent_7 : decode cX0_refusalAbsent 7 = .ok (.iload_n 3, 1) := by decide +kernel
theorem dX0_refusalAbsent_8 : decode cX0_refusalAbsent 8 = .ok (.ifCond .eq 5, 3) := by decide +kernel
theorem dX0_refusalAbsent_11 : decode cX0_refusalAbsent 11 = .ok (.iload_n 3, 1) := by decide +kernel
theorem dX0_refusalAbsent_12 : decode cX0_refusalAbsent 12 = .ok (.ireturn, 1) := by decide +kernel
theorem dX0_refusalAbsent_13 : decode cX0_refusalAbsent 13 = .ok (.aload_n 0, 1) := by decide +kernel
theorem dX0_refusalAbsent_14 : decode cX0_refusalAbsent 14 = .ok (.iload_n 1, 1) := by decide +kernel
theorem dX0_refusalAbsent_15 : decode cX0_refusalAbsent 15 = .ok (.iload_n 2, 1) := by decide +kernel
theorem dX0_refusalAbsent_16 : decode cX0_refusalAbsent 16 = .ok (.invokevirtual 78, 3) := by decide +kernel
theorem dX0_refusalAbsent_19 : decode cX0_refusalAbsent 19 = .ok (.ifCond .eq 7, 3) := by decide +kernel
theorem dX0_refusalAbsent_22 : decode cX0_refusalAbsent 22 = .ok (.iconst 0, 1) := by decide +kernel
theorem dX0_refusalAbsent_23 : decode cX0_refusalAbsent 23 = .ok (.goto 5, 3) := by decide +kernel
theorem dX0_refusalAbsent_26 : decode cX0_refusalAbsent 26 = .ok (.bipush (-4), 2) := by decide +kernel
theorem dX0_refusalAbsent_28 : decode cX0_refusalAbsent 28 = .ok (.ireturn, 1) := by decide +kernel
abbrev cX0_isThere : ByteArray := prog_1_method_4_code
def yX0_isThere : MethodName := ⟨RX0, "isThere", "(II)Z"⟩
theorem dX0_isThere_0 : decode cX0_isThere 0 = .ok (.aload_n 0, 1) := by decide +kernel
theorem dX0_isThere_1 : decode cX0_isThere 1 = .ok (.getfield 41, 3) := by decide +kernel
theorem dX0_isThere_4 : decode cX0_isThere 4 = .ok (.iload_n 1, 1) := by decide +kernel
theorem dX0_isThere_5 : decode cX0_isThere 5 = .ok (.bipush 8, 2) := by decide +kernel
theorem dX0_isThere_7 : decode cX0_isThere 7 = .ok (.imul, 1) := by decide +kernel
theorem dX0_isThere_8 : decode cX0_isThere 8 = .ok (.iload_n 2, 1) := by decide +kernel
theorem dX0_isThere_9 : decode cX0_isThere 9 = .ok (.iadd, 1) := by decide +kernel
theorem dX0_isThere_10 : decode cX0_isThere 10 = .ok (.laload, 1) := by decide +kernel
theorem dX0_isThere_11 : decode cX0_isThere 11 = .ok (.lconst 0, 1) := by decide +kernel
theorem dX0_isThere_12 : decode cX0_isThere 12 = .ok (.lcmp, 1) := by decide +kernel
theorem dX0_isThere_13 : decode cX0_isThere 13 = .ok (.ifCond .eq 7, 3) := by decide +kernel
theorem dX0_isThere_16 : decode cX0_isThere 16 = .ok (.iconst 1, 1) := by decide +kernel
theorem dX0_isThere_17 : decode cX0_isThere 17 = .ok (.goto 4, 3) := by decide +kernel
theorem dX0_isThere_20 : decode cX0_isThere 20 = .ok (.iconst 0, 1) := by decide +kernel
theorem dX0_isThere_21 : decode cX0_isThere 21 = .ok (.ireturn, 1) := by decide +kernel
abbrev cX0_name : ByteArray := prog_1_method_12_code
def yX0_name : MethodName := ⟨RX0, "name", "(III)I"⟩
theorem dX0_name_0 : decode cX0_name 0 = .ok (.aload_n 0, 1) := by decide +kernel
theorem dX0_name_1 : decode cX0_name 1 = .ok (.iload_n 1, 1) := by decide +kernel
theorem dX0_name_2 : decode cX0_name 2 = .ok (.iload_n 2, 1) := by decide +kernel
theorem dX0_name_3 : decode cX0_name 3 = .ok (.invokevirtual 85, 3) := by decide +kernel
theorem dX0_name_6 : decode cX0_name 6 = .ok (.istore 4, 2) := by decide +kernel
theorem dX0_name_8 : decode cX0_name 8 = .ok (.iload 4, 2) := by decide +kernel
theorem dX0_name_10 : decode cX0_name 10 = .ok (.ifCond .eq 8, 3) := by decide +kernel
theorem dX0_name_13 : decode cX0_name 13 = .ok (.iload 4, 2) := by decide +kernel
theorem dX0_name_15 : decode cX0_name 15 = .ok (.goto 11, 3) := by decide +kernel
theorem dX0_name_18 : decode cX0_name 18 = .ok (.aload_n 0, 1) := by decide +kernel
theorem dX0_name_19 : decode cX0_name 19 = .ok (.iload_n 1, 1) := by decide +kernel
theorem dX0_name_20 : decode cX0_name 20 = .ok (.iconst 2, 1) := by decide +kernel
theorem dX0_name_21 : decode cX0_name 21 = .ok (.iload_n 2, 1) := by decide +kernel
theorem dX0_name_22 : decode cX0_name 22 = .ok (.iload_n 3, 1) := by decide +kernel
theorem dX0_name_23 : decode cX0_name 23 = .ok (.invokevirtual 81, 3) := by decide +kernel
theorem dX0_name_26 : decode cX0_name 26 = .ok (.ireturn, 1) := by decide +kernel
abbrev cX0_count : ByteArray := prog_1_method_13_code
def yX0_count : MethodName := ⟨RX0, "count", "(III)I"⟩
theorem dX0_count_0 : decode cX0_count 0 = .ok (.aload_n 0, 1) := by decide +kernel
theorem dX0_count_1 : decode cX0_count 1 = .ok (.iload_n 1, 1) := by decide +kernel
theorem dX0_count_2 : decode cX0_count 2 = .ok (.iload_n 2, 1) := by decide +kernel
theorem dX0_count_3 : decode cX0_count 3 = .ok (.invokevirtual 85, 3) := by decide +kernel
theorem dX0_count_6 : decode cX0_count 6 = .ok (.istore 4, 2) := by decide +kernel
theorem dX0_count_8 : decode cX0_count 8 = .ok (.iload 4, 2) := by decide +kernel
theorem dX0_count_10 : decode cX0_count 10 = .ok (.ifCond .eq 8, 3) := by decide +kernel
theorem dX0_count_13 : decode cX0_count 13 = .ok (.iload 4, 2) := by decide +kernel
theorem dX0_count_15 : decode cX0_count 15 = .ok (.goto 11, 3) := by decide +kernel
theorem dX0_count_18 : decode cX0_count 18 = .ok (.aload_n 0, 1) := by decide +kernel
theorem dX0_count_19 : decode cX0_count 19 = .ok (.iload_n 1, 1) := by decide +kernel
theorem dX0_count_20 : decode cX0_count 20 = .ok (.iconst 3, 1) := by decide +kernel
theorem dX0_count_21 : decode cX0_count 21 = .ok (.iload_n 2, 1) := by decide +kernel
theorem dX0_count_22 : decode cX0_count 22 = .ok (.iload_n 3, 1) := by decide +kernel
theorem dX0_count_23 : decode cX0_count 23 = .ok (.invokevirtual 81, 3) := by decide +kernel
theorem dX0_count_26 : decode cX0_count 26 = .ok (.ireturn, 1) := by decide +kernel
abbrev cX0_link : ByteArray := prog_1_method_14_code
def yX0_link : MethodName := ⟨RX0, "link", "(III)I"⟩
theorem dX0_link_0 : decode cX0_link 0 = .ok (.aload_n 0, 1) := by decide +kernel
theorem dX0_link_1 : decode cX0_link 1 = .ok (.iload_n 1, 1) := by decide +kernel
theorem dX0_link_2 : decode cX0_link 2 = .ok (.iload_n 2, 1) := by decide +kernel
theorem dX0_link_3 : decode cX0_link 3 = .ok (.invokevirtual 74, 3) := by decide +kernel
theorem dX0_link_6 : decode cX0_link 6 = .ok (.istore 4, 2) := by decide +kernel
theorem dX0_link_8 : decode cX0_link 8 = .ok (.iload 4, 2) := by decide +kernel
theorem dX0_link_10 : decode cX0_link 10 = .ok (.ifCond .eq 6, 3) := by decide +kernel
theorem dX0_link_13 : decode cX0_link 13 = .ok (.iload 4, 2) := by decide +kernel
theorem dX0_link_15 : decode cX0_link 15 = .ok (.ireturn, 1) := by decide +kernel
theorem dX0_link_16 : decode cX0_link 16 = .ok (.iload_n 3, 1) := by decide +kernel
theorem dX0_link_17 : decode cX0_link 17 = .ok (.iconst (-1), 1) := by decide +kernel
theorem dX0_link_18 : decode cX0_link 18 = .ok (.if_icmp .eq 13, 3) := by decide +kernel
theorem dX0_link_21 : decode cX0_link 21 = .ok (.iload_n 3, 1) := by decide +kernel
theorem dX0_link_22 : decode cX0_link 22 = .ok (.invokestatic 71, 3) := by decide +kernel
theorem dX0_link_25 : decode cX0_link 25 = .ok (.ifCond .eq 6, 3) := by decide +kernel
theorem dX0_link_28 : decode cX0_link 28 = .ok (.bipush (-2), 2) := by decide +kernel
theorem dX0_link_30 : decode cX0_link 30 = .ok (.ireturn, 1) := by decide +kernel
theorem dX0_link_31 : decode cX0_link 31 = .ok (.aload_n 0, 1) := by decide +kernel
theorem dX0_link_32 : decode cX0_link 32 = .ok (.iload_n 1, 1) := by decide +kernel
theorem dX0_link_33 : decode cX0_link 33 = .ok (.iload_n 2, 1) := by decide +kernel
theorem dX0_link_34 : decode cX0_link 34 = .ok (.invokevirtual 78, 3) := by decide +kernel
theorem dX0_link_37 : decode cX0_link 37 = .ok (.ifCond .ne 6, 3) := by decide +kernel
theorem dX0_link_40 : decode cX0_link 40 = .ok (.bipush (-4), 2) := by decide +kernel
theorem dX0_link_42 : decode cX0_link 42 = .ok (.ireturn, 1) := by decide +kernel
theorem dX0_link_43 : decode cX0_link 43 = .ok (.aload_n 0, 1) := by decide +kernel
theorem dX0_link_44 : decode cX0_link 44 = .ok (.iload_n 1, 1) := by decide +kernel
theorem dX0_link_45 : decode cX0_link 45 = .ok (.iconst 4, 1) := by decide +kernel
theorem dX0_link_46 : decode cX0_link 46 = .ok (.iload_n 2, 1) := by decide +kernel
theorem dX0_link_47 : decode cX0_link 47 = .ok (.iload_n 3, 1) := by decide +kernel
theorem dX0_link_48 : decode cX0_link 48 = .ok (.invokevirtual 81, 3) := by decide +kernel
theorem dX0_link_51 : decode cX0_link 51 = .ok (.ireturn, 1) := by decide +kernel
abbrev cX0_learn : ByteArray := prog_1_method_15_code
def yX0_learn : MethodName := ⟨RX0, "learn", "(II)I"⟩
theorem dX0_learn_0 : decode cX0_learn 0 = .ok (.aload_n 0, 1) := by decide +kernel
theorem dX0_learn_1 : decode cX0_learn 1 = .ok (.iload_n 1, 1) := by decide +kernel
theorem dX0_learn_2 : decode cX0_learn 2 = .ok (.iload_n 2, 1) := by decide +kernel
theorem dX0_learn_3 : decode cX0_learn 3 = .ok (.bipush 60, 2) := by decide +kernel
theorem dX0_learn_5 : decode cX0_learn 5 = .ok (.invokevirtual 88, 3) := by decide +kernel
theorem dX0_learn_8 : decode cX0_learn 8 = .ok (.ireturn, 1) := by decide +kernel
abbrev cX0_learnSome : ByteArray := prog_1_method_16_code
def yX0_learnSome : MethodName := ⟨RX0, "learnSome", "(III)I"⟩
theorem dX0_learnSome_0 : decode cX0_learnSome 0 = .ok (.iload_n 1, 1) := by decide +kernel
theorem dX0_learnSome_1 : decode cX0_learnSome 1 = .ok (.invokestatic 67, 3) := by decide +kernel
theorem dX0_learnSome_4 : decode cX0_learnSome 4 = .ok (.ifCond .ne 10, 3) := by decide +kernel
theorem dX0_learnSome_7 : decode cX0_learnSome 7 = .ok (.iload_n 2, 1) := by decide +kernel
theorem dX0_learnSome_8 : decode cX0_learnSome 8 = .ok (.invokestatic 67, 3) := by decide +kernel
theorem dX0_learnSome_11 : decode cX0_learnSome 11 = .ok (.ifCond .eq 5, 3) := by decide +kernel
theorem dX0_learnSome_14 : decode cX0_learnSome 14 = .ok (.iconst (-1), 1) := by decide +kernel
theorem dX0_learnSome_15 : decode cX0_learnSome 15 = .ok (.ireturn, 1) := by decide +kernel
theorem dX0_learnSome_16 : decode cX0_learnSome 16 = .ok (.iload_n 1, 1) := by decide +kernel
theorem dX0_learnSome_17 : decode cX0_learnSome 17 = .ok (.iload_n 2, 1) := by decide +kernel
theorem dX0_learnSome_18 : decode cX0_learnSome 18 = .ok (.if_icmp .ne 6, 3) := by decide +kernel
theorem dX0_learnSome_21 : decode cX0_learnSome 21 = .ok (.bipush (-5), 2) := by decide +kernel
theorem dX0_learnSome_23 : decode cX0_learnSome 23 = .ok (.ireturn, 1) := by decide +kernel
theorem dX0_learnSome_24 : decode cX0_learnSome 24 = .ok (.aload_n 0, 1) := by decide +kernel
theorem dX0_learnSome_25 : decode cX0_learnSome 25 = .ok (.getfield 32, 3) := by decide +kernel
theorem dX0_learnSome_28 : decode cX0_learnSome 28 = .ok (.iload_n 2, 1) := by decide +kernel
theorem dX0_learnSome_29 : decode cX0_learnSome 29 = .ok (.laload, 1) := by decide +kernel
theorem dX0_learnSome_30 : decode cX0_learnSome 30 = .ok (.aload_n 0, 1) := by decide +kernel
theorem dX0_learnSome_31 : decode cX0_learnSome 31 = .ok (.getfield 32, 3) := by decide +kernel
theorem dX0_learnSome_34 : decode cX0_learnSome 34 = .ok (.iload_n 1, 1) := by decide +kernel
theorem dX0_learnSome_35 : decode cX0_learnSome 35 = .ok (.laload, 1) := by decide +kernel
theorem dX0_learnSome_36 : decode cX0_learnSome 36 = .ok (.ldc2_w 53, 3) := by decide +kernel
theorem dX0_learnSome_39 : decode cX0_learnSome 39 = .ok (.lxor, 1) := by decide +kernel
theorem dX0_learnSome_40 : decode cX0_learnSome 40 = .ok (.land, 1) := by decide +kernel
theorem dX0_learnSome_41 : decode cX0_learnSome 41 = .ok (.lstore 4, 2) := by decide +kernel
theorem dX0_learnSome_43 : decode cX0_learnSome 43 = .ok (.iconst 0, 1) := by decide +kernel
theorem dX0_learnSome_44 : decode cX0_learnSome 44 = .ok (.istore 6, 2) := by decide +kernel
theorem dX0_learnSome_46 : decode cX0_learnSome 46 = .ok (.iconst 0, 1) := by decide +kernel
theorem dX0_learnSome_47 : decode cX0_learnSome 47 = .ok (.istore 7, 2) := by decide +kernel
theorem dX0_learnSome_49 : decode cX0_learnSome 49 = .ok (.iload 7, 2) := by decide +kernel
theorem dX0_learnSome_51 : decode cX0_learnSome 51 = .ok (.aload_n 0, 1) := by decide +kernel
theorem dX0_learnSome_52 : decode cX0_learnSome 52 = .ok (.getfield 59, 3) := by decide +kernel
theorem dX0_learnSome_55 : decode cX0_learnSome 55 = .ok (.if_icmp .ge 37, 3) := by decide +kernel
theorem dX0_learnSome_58 : decode cX0_learnSome 58 = .ok (.iload 6, 2) := by decide +kernel
theorem dX0_learnSome_60 : decode cX0_learnSome 60 = .ok (.iload_n 3, 1) := by decide +kernel
theorem dX0_learnSome_61 : decode cX0_learnSome 61 = .ok (.if_icmp .ge 31, 3) := by decide +kernel
theorem dX0_learnSome_64 : decode cX0_learnSome 64 = .ok (.lload 4, 2) := by decide +kernel
theorem dX0_learnSome_66 : decode cX0_learnSome 66 = .ok (.iload 7, 2) := by decide +kernel
theorem dX0_learnSome_68 : decode cX0_learnSome 68 = .ok (.lushr, 1) := by decide +kernel
theorem dX0_learnSome_69 : decode cX0_learnSome 69 = .ok (.lconst 1, 1) := by decide +kernel
theorem dX0_learnSome_70 : decode cX0_learnSome 70 = .ok (.land, 1) := by decide +kernel
theorem dX0_learnSome_71 : decode cX0_learnSome 71 = .ok (.lconst 1, 1) := by decide +kernel
theorem dX0_learnSome_72 : decode cX0_learnSome 72 = .ok (.lcmp, 1) := by decide +kernel
theorem dX0_learnSome_73 : decode cX0_learnSome 73 = .ok (.ifCond .ne 13, 3) := by decide +kernel
theorem dX0_learnSome_76 : decode cX0_learnSome 76 = .ok (.aload_n 0, 1) := by decide +kernel
theorem dX0_learnSome_77 : decode cX0_learnSome 77 = .ok (.iload_n 1, 1) := by decide +kernel
theorem dX0_learnSome_78 : decode cX0_learnSome 78 = .ok (.iload 7, 2) := by decide +kernel
theorem dX0_learnSome_80 : decode cX0_learnSome 80 = .ok (.invokevirtual 63, 3) := by decide +kernel
theorem dX0_learnSome_83 : decode cX0_learnSome 83 = .ok (.iinc 6 1, 3) := by decide +kernel
theorem dX0_learnSome_86 : decode cX0_learnSome 86 = .ok (.iinc 7 1, 3) := by decide +kernel
theorem dX0_learnSome_89 : decode cX0_learnSome 89 = .ok (.goto (-40), 3) := by decide +kernel
theorem dX0_learnSome_92 : decode cX0_learnSome 92 = .ok (.iload 6, 2) := by decide +kernel
theorem dX0_learnSome_94 : decode cX0_learnSome 94 = .ok (.ireturn, 1) := by decide +kernel
abbrev cX0_there : ByteArray := prog_1_method_17_code
def yX0_there : MethodName := ⟨RX0, "there", "(II)Z"⟩
theorem dX0_there_0 : decode cX0_there 0 = .ok (.iload_n 1, 1) := by decide +kernel
theorem dX0_there_1 : decode cX0_there 1 = .ok (.invokestatic 67, 3) := by decide +kernel
theorem dX0_there_4 : decode cX0_there 4 = .ok (.ifCond .ne 10, 3) := by decide +kernel
theorem dX0_there_7 : decode cX0_there 7 = .ok (.iload_n 2, 1) := by decide +kernel
theorem dX0_there_8 : decode cX0_there 8 = .ok (.invokestatic 71, 3) := by decide +kernel
theorem dX0_there_11 : decode cX0_there 11 = .ok (.ifCond .eq 5, 3) := by decide +kernel
theorem dX0_there_14 : decode cX0_there 14 = .ok (.iconst 0, 1) := by decide +kernel
theorem dX0_there_15 : decode cX0_there 15 = .ok (.ireturn, 1) := by decide +kernel
theorem dX0_there_16 : decode cX0_there 16 = .ok (.aload_n 0, 1) := by decide +kernel
theorem dX0_there_17 : decode cX0_there 17 = .ok (.iload_n 1, 1) := by decide +kernel
theorem dX0_there_18 : decode cX0_there 18 = .ok (.iload_n 2, 1) := by decide +kernel
theorem dX0_there_19 : decode cX0_there 19 = .ok (.invokevirtual 78, 3) := by decide +kernel
theorem dX0_there_22 : decode cX0_there 22 = .ok (.ireturn, 1) := by decide +kernel
abbrev cX0_nameOf : ByteArray := prog_1_method_19_code
def yX0_nameOf : MethodName := ⟨RX0, "nameOf", "(II)I"⟩
theorem dX0_nameOf_0 : decode cX0_nameOf 0 = .ok (.aload_n 0, 1) := by decide +kernel
theorem dX0_nameOf_1 : decode cX0_nameOf 1 = .ok (.iload_n 1, 1) := by decide +kernel
theorem dX0_nameOf_2 : decode cX0_nameOf 2 = .ok (.iload_n 2, 1) := by decide +kernel
theorem dX0_nameOf_3 : decode cX0_nameOf 3 = .ok (.invokevirtual 92, 3) := by decide +kernel
theorem dX0_nameOf_6 : decode cX0_nameOf 6 = .ok (.ifCond .eq 5, 3) := by decide +kernel
theorem dX0_nameOf_9 : decode cX0_nameOf 9 = .ok (.iconst 0, 1) := by decide +kernel
theorem dX0_nameOf_10 : decode cX0_nameOf 10 = .ok (.ireturn, 1) := by decide +kernel
theorem dX0_nameOf_11 : decode cX0_nameOf 11 = .ok (.aload_n 0, 1) := by decide +kernel
theorem dX0_nameOf_12 : decode cX0_nameOf 12 = .ok (.getfield 44, 3) := by decide +kernel
theorem dX0_nameOf_15 : decode cX0_nameOf 15 = .ok (.iload_n 1, 1) := by decide +kernel
theorem dX0_nameOf_16 : decode cX0_nameOf 16 = .ok (.bipush 8, 2) := by decide +kernel
theorem dX0_nameOf_18 : decode cX0_nameOf 18 = .ok (.imul, 1) := by decide +kernel
theorem dX0_nameOf_19 : decode cX0_nameOf 19 = .ok (.iload_n 2, 1) := by decide +kernel
theorem dX0_nameOf_20 : decode cX0_nameOf 20 = .ok (.iadd, 1) := by decide +kernel
theorem dX0_nameOf_21 : decode cX0_nameOf 21 = .ok (.iaload, 1) := by decide +kernel
theorem dX0_nameOf_22 : decode cX0_nameOf 22 = .ok (.istore_n 3, 1) := by decide +kernel
theorem dX0_nameOf_23 : decode cX0_nameOf 23 = .ok (.iload_n 3, 1) := by decide +kernel
theorem dX0_nameOf_24 : decode cX0_nameOf 24 = .ok (.ifCond .ge 7, 3) := by decide +kernel
theorem dX0_nameOf_27 : decode cX0_nameOf 27 = .ok (.iconst 0, 1) := by decide +kernel
theorem dX0_nameOf_28 : decode cX0_nameOf 28 = .ok (.goto 9, 3) := by decide +kernel
theorem dX0_nameOf_31 : decode cX0_nameOf 31 = .ok (.aload_n 0, 1) := by decide +kernel
theorem dX0_nameOf_32 : decode cX0_nameOf 32 = .ok (.getfield 16, 3) := by decide +kernel
theorem dX0_nameOf_35 : decode cX0_nameOf 35 = .ok (.iload_n 3, 1) := by decide +kernel
theorem dX0_nameOf_36 : decode cX0_nameOf 36 = .ok (.iaload, 1) := by decide +kernel
theorem dX0_nameOf_37 : decode cX0_nameOf 37 = .ok (.ireturn, 1) := by decide +kernel
abbrev cX0_hidden : ByteArray := prog_1_method_18_code
def yX0_hidden : MethodName := ⟨RX0, "hidden", "(II)Z"⟩
theorem dX0_hidden_0 : decode cX0_hidden 0 = .ok (.iload_n 1, 1) := by decide +kernel
theorem dX0_hidden_1 : decode cX0_hidden 1 = .ok (.invokestatic 67, 3) := by decide +kernel
theorem dX0_hidden_4 : decode cX0_hidden 4 = .ok (.ifCond .ne 19, 3) := by decide +kernel
theorem dX0_hidden_7 : decode cX0_hidden 7 = .ok (.iload_n 2, 1) := by decide +kernel
theorem dX0_hidden_8 : decode cX0_hidden 8 = .ok (.invokestatic 71, 3) := by decide +kernel
theorem dX0_hidden_11 : decode cX0_hidden 11 = .ok (.ifCond .ne 12, 3) := by decide +kernel
theorem dX0_hidden_14 : decode cX0_hidden 14 = .ok (.aload_n 0, 1) := by decide +kernel
theorem dX0_hidden_15 : decode cX0_hidden 15 = .ok (.iload_n 1, 1) := by decide +kernel
theorem dX0_hidden_16 : decode cX0_hidden 16 = .ok (.iload_n 2, 1) := by decide +kernel
theorem dX0_hidden_17 : decode cX0_hidden 17 = .ok (.invokevirtual 78, 3) := by decide +kernel
theorem dX0_hidden_20 : decode cX0_hidden 20 = .ok (.ifCond .ne 7, 3) := by decide +kernel
theorem dX0_hidden_23 : decode cX0_hidden 23 = .ok (.iconst 1, 1) := by decide +kernel
theorem dX0_hidden_24 : decode cX0_hidden 24 = .ok (.goto 4, 3) := by decide +kernel
theorem dX0_hidden_27 : decode cX0_hidden 27 = .ok (.iconst 0, 1) := by decide +kernel
theorem dX0_hidden_28 : decode cX0_hidden 28 = .ok (.ireturn, 1) := by decide +kernel
abbrev cX0_countOf : ByteArray := prog_1_method_20_code
def yX0_countOf : MethodName := ⟨RX0, "countOf", "(II)I"⟩
theorem dX0_countOf_0 : decode cX0_countOf 0 = .ok (.aload_n 0, 1) := by decide +kernel
theorem dX0_countOf_1 : decode cX0_countOf 1 = .ok (.iload_n 1, 1) := by decide +kernel
theorem dX0_countOf_2 : decode cX0_countOf 2 = .ok (.iload_n 2, 1) := by decide +kernel
theorem dX0_countOf_3 : decode cX0_countOf 3 = .ok (.invokevirtual 92, 3) := by decide +kernel
theorem dX0_countOf_6 : decode cX0_countOf 6 = .ok (.ifCond .eq 7, 3) := by decide +kernel
theorem dX0_countOf_9 : decode cX0_countOf 9 = .ok (.iconst 0, 1) := by decide +kernel
theorem dX0_countOf_10 : decode cX0_countOf 10 = .ok (.goto 14, 3) := by decide +kernel
theorem dX0_countOf_13 : decode cX0_countOf 13 = .ok (.aload_n 0, 1) := by decide +kernel
theorem dX0_countOf_14 : decode cX0_countOf 14 = .ok (.getfield 50, 3) := by decide +kernel
theorem dX0_countOf_17 : decode cX0_countOf 17 = .ok (.iload_n 1, 1) := by decide +kernel
theorem dX0_countOf_18 : decode cX0_countOf 18 = .ok (.bipush 8, 2) := by decide +kernel
theorem dX0_countOf_20 : decode cX0_countOf 20 = .ok (.imul, 1) := by decide +kernel
theorem dX0_countOf_21 : decode cX0_countOf 21 = .ok (.iload_n 2, 1) := by decide +kernel
theorem dX0_countOf_22 : decode cX0_countOf 22 = .ok (.iadd, 1) := by decide +kernel
theorem dX0_countOf_23 : decode cX0_countOf 23 = .ok (.iaload, 1) := by decide +kernel
theorem dX0_countOf_24 : decode cX0_countOf 24 = .ok (.ireturn, 1) := by decide +kernel
abbrev cX0_linkOf : ByteArray := prog_1_method_21_code
def yX0_linkOf : MethodName := ⟨RX0, "linkOf", "(II)I"⟩
theorem dX0_linkOf_0 : decode cX0_linkOf 0 = .ok (.aload_n 0, 1) := by decide +kernel
theorem dX0_linkOf_1 : decode cX0_linkOf 1 = .ok (.iload_n 1, 1) := by decide +kernel
theorem dX0_linkOf_2 : decode cX0_linkOf 2 = .ok (.iload_n 2, 1) := by decide +kernel
theorem dX0_linkOf_3 : decode cX0_linkOf 3 = .ok (.invokevirtual 92, 3) := by decide +kernel
theorem dX0_linkOf_6 : decode cX0_linkOf 6 = .ok (.ifCond .eq 5, 3) := by decide +kernel
theorem dX0_linkOf_9 : decode cX0_linkOf 9 = .ok (.iconst (-1), 1) := by decide +kernel
theorem dX0_linkOf_10 : decode cX0_linkOf 10 = .ok (.ireturn, 1) := by decide +kernel
theorem dX0_linkOf_11 : decode cX0_linkOf 11 = .ok (.aload_n 0, 1) := by decide +kernel
theorem dX0_linkOf_12 : decode cX0_linkOf 12 = .ok (.getfield 47, 3) := by decide +kernel
theorem dX0_linkOf_15 : decode cX0_linkOf 15 = .ok (.iload_n 1, 1) := by decide +kernel
theorem dX0_linkOf_16 : decode cX0_linkOf 16 = .ok (.bipush 8, 2) := by decide +kernel
theorem dX0_linkOf_18 : decode cX0_linkOf 18 = .ok (.imul, 1) := by decide +kernel
theorem dX0_linkOf_19 : decode cX0_linkOf 19 = .ok (.iload_n 2, 1) := by decide +kernel
theorem dX0_linkOf_20 : decode cX0_linkOf 20 = .ok (.iadd, 1) := by decide +kernel
theorem dX0_linkOf_21 : decode cX0_linkOf 21 = .ok (.iaload, 1) := by decide +kernel
theorem dX0_linkOf_22 : decode cX0_linkOf 22 = .ok (.istore_n 3, 1) := by decide +kernel
theorem dX0_linkOf_23 : decode cX0_linkOf 23 = .ok (.iload_n 3, 1) := by decide +kernel
theorem dX0_linkOf_24 : decode cX0_linkOf 24 = .ok (.ifCond .lt 12, 3) := by decide +kernel
theorem dX0_linkOf_27 : decode cX0_linkOf 27 = .ok (.aload_n 0, 1) := by decide +kernel
theorem dX0_linkOf_28 : decode cX0_linkOf 28 = .ok (.getfield 16, 3) := by decide +kernel
theorem dX0_linkOf_31 : decode cX0_linkOf 31 = .ok (.iload_n 3, 1) := by decide +kernel
theorem dX0_linkOf_32 : decode cX0_linkOf 32 = .ok (.iaload, 1) := by decide +kernel
theorem dX0_linkOf_33 : decode cX0_linkOf 33 = .ok (.ifCond .ge 5, 3) := by decide +kernel
theorem dX0_linkOf_36 : decode cX0_linkOf 36 = .ok (.iconst (-1), 1) := by decide +kernel
theorem dX0_linkOf_37 : decode cX0_linkOf 37 = .ok (.ireturn, 1) := by decide +kernel
theorem dX0_linkOf_38 : decode cX0_linkOf 38 = .ok (.aload_n 0, 1) := by decide +kernel
theorem dX0_linkOf_39 : decode cX0_linkOf 39 = .ok (.iload_n 1, 1) := by decide +kernel
theorem dX0_linkOf_40 : decode cX0_linkOf 40 = .ok (.aload_n 0, 1) := by decide +kernel
theorem dX0_linkOf_41 : decode cX0_linkOf 41 = .ok (.getfield 16, 3) := by decide +kernel
theorem dX0_linkOf_44 : decode cX0_linkOf 44 = .ok (.iload_n 3, 1) := by decide +kernel
theorem dX0_linkOf_45 : decode cX0_linkOf 45 = .ok (.iaload, 1) := by decide +kernel
theorem dX0_linkOf_46 : decode cX0_linkOf 46 = .ok (.invokevirtual 78, 3) := by decide +kernel
theorem dX0_linkOf_49 : decode cX0_linkOf 49 = .ok (.ifCond .eq 12, 3) := by decide +kernel
theorem dX0_linkOf_52 : decode cX0_linkOf 52 = .ok (.aload_n 0, 1) := by decide +kernel
theorem dX0_linkOf_53 : decode cX0_linkOf 53 = .ok (.getfield 16, 3) := by decide +kernel
theorem dX0_linkOf_56 : decode cX0_linkOf 56 = .ok (.iload_n 3, 1) := by decide +kernel
theorem dX0_linkOf_57 : decode cX0_linkOf 57 = .ok (.iaload, 1) := by decide +kernel
theorem dX0_linkOf_58 : decode cX0_linkOf 58 = .ok (.goto 4, 3) := by decide +kernel
theorem dX0_linkOf_61 : decode cX0_linkOf 61 = .ok (.iconst (-1), 1) := by decide +kernel
theorem dX0_linkOf_62 : decode cX0_linkOf 62 = .ok (.ireturn, 1) := by decide +kernel
abbrev cX0_rows : ByteArray := prog_1_method_22_code
def yX0_rows : MethodName := ⟨RX0, "rows", "(I)I"⟩
theorem dX0_rows_0 : decode cX0_rows 0 = .ok (.iload_n 1, 1) := by decide +kernel
theorem dX0_rows_1 : decode cX0_rows 1 = .ok (.invokestatic 67, 3) := by decide +kernel
theorem dX0_rows_4 : decode cX0_rows 4 = .ok (.ifCond .eq 5, 3) := by decide +kernel
theorem dX0_rows_7 : decode cX0_rows 7 = .ok (.iconst (-1), 1) := by decide +kernel
theorem dX0_rows_8 : decode cX0_rows 8 = .ok (.ireturn, 1) := by decide +kernel
theorem dX0_rows_9 : decode cX0_rows 9 = .ok (.iconst 0, 1) := by decide +kernel
theorem dX0_rows_10 : decode cX0_rows 10 = .ok (.istore_n 2, 1) := by decide +kernel
theorem dX0_rows_11 : decode cX0_rows 11 = .ok (.iconst 0, 1) := by decide +kernel
theorem dX0_rows_12 : decode cX0_rows 12 = .ok (.istore_n 3, 1) := by decide +kernel
theorem dX0_rows_13 : decode cX0_rows 13 = .ok (.iload_n 3, 1) := by decide +kernel
theorem dX0_rows_14 : decode cX0_rows 14 = .ok (.bipush 8, 2) := by decide +kernel
theorem dX0_rows_16 : decode cX0_rows 16 = .ok (.if_icmp .ge 25, 3) := by decide +kernel
theorem dX0_rows_19 : decode cX0_rows 19 = .ok (.aload_n 0, 1) := by decide +kernel
theorem dX0_rows_20 : decode cX0_rows 20 = .ok (.iload_n 1, 1) := by decide +kernel
theorem dX0_rows_21 : decode cX0_rows 21 = .ok (.iload_n 3, 1) := by decide +kernel
theorem dX0_rows_22 : decode cX0_rows 22 = .ok (.invokevirtual 78, 3) := by decide +kernel
theorem dX0_rows_25 : decode cX0_rows 25 = .ok (.istore 4, 2) := by decide +kernel
theorem dX0_rows_27 : decode cX0_rows 27 = .ok (.iload 4, 2) := by decide +kernel
theorem dX0_rows_29 : decode cX0_rows 29 = .ok (.ifCond .eq 6, 3) := by decide +kernel
theorem dX0_rows_32 : decode cX0_rows 32 = .ok (.iinc 2 1, 3) := by decide +kernel
theorem dX0_rows_35 : decode cX0_rows 35 = .ok (.iinc 3 1, 3) := by decide +kernel
theorem dX0_rows_38 : decode cX0_rows 38 = .ok (.goto (-25), 3) := by decide +kernel
theorem dX0_rows_41 : decode cX0_rows 41 = .ok (.iload_n 2, 1) := by decide +kernel
theorem dX0_rows_42 : decode cX0_rows 42 = .ok (.ireturn, 1) := by decide +kernel
abbrev cX0_sum : ByteArray := prog_1_method_23_code
def yX0_sum : MethodName := ⟨RX0, "sum", "(I)I"⟩
theorem dX0_sum_0 : decode cX0_sum 0 = .ok (.iload_n 1, 1) := by decide +kernel
theorem dX0_sum_1 : decode cX0_sum 1 = .ok (.invokestatic 67, 3) := by decide +kernel
theorem dX0_sum_4 : decode cX0_sum 4 = .ok (.ifCond .eq 5, 3) := by decide +kernel
theorem dX0_sum_7 : decode cX0_sum 7 = .ok (.iconst (-1), 1) := by decide +kernel
theorem dX0_sum_8 : decode cX0_sum 8 = .ok (.ireturn, 1) := by decide +kernel
theorem dX0_sum_9 : decode cX0_sum 9 = .ok (.iconst 0, 1) := by decide +kernel
theorem dX0_sum_10 : decode cX0_sum 10 = .ok (.istore_n 2, 1) := by decide +kernel
theorem dX0_sum_11 : decode cX0_sum 11 = .ok (.iconst 0, 1) := by decide +kernel
theorem dX0_sum_12 : decode cX0_sum 12 = .ok (.istore_n 3, 1) := by decide +kernel
theorem dX0_sum_13 : decode cX0_sum 13 = .ok (.iload_n 3, 1) := by decide +kernel
theorem dX0_sum_14 : decode cX0_sum 14 = .ok (.bipush 8, 2) := by decide +kernel
theorem dX0_sum_16 : decode cX0_sum 16 = .ok (.if_icmp .ge 18, 3) := by decide +kernel
theorem dX0_sum_19 : decode cX0_sum 19 = .ok (.iload_n 2, 1) := by decide +kernel
theorem dX0_sum_20 : decode cX0_sum 20 = .ok (.aload_n 0, 1) := by decide +kernel
theorem dX0_sum_21 : decode cX0_sum 21 = .ok (.iload_n 1, 1) := by decide +kernel
theorem dX0_sum_22 : decode cX0_sum 22 = .ok (.iload_n 3, 1) := by decide +kernel
theorem dX0_sum_23 : decode cX0_sum 23 = .ok (.invokevirtual 95, 3) := by decide +kernel
theorem dX0_sum_26 : decode cX0_sum 26 = .ok (.iadd, 1) := by decide +kernel
theorem dX0_sum_27 : decode cX0_sum 27 = .ok (.istore_n 2, 1) := by decide +kernel
theorem dX0_sum_28 : decode cX0_sum 28 = .ok (.iinc 3 1, 3) := by decide +kernel
theorem dX0_sum_31 : decode cX0_sum 31 = .ok (.goto (-18), 3) := by decide +kernel
theorem dX0_sum_34 : decode cX0_sum 34 = .ok (.iload_n 2, 1) := by decide +kernel
theorem dX0_sum_35 : decode cX0_sum 35 = .ok (.ireturn, 1) := by decide +kernel
abbrev cX0_known : ByteArray := prog_1_method_24_code
def yX0_known : MethodName := ⟨RX0, "known", "(I)I"⟩
theorem dX0_known_0 : decode cX0_known 0 = .ok (.iload_n 1, 1) := by decide +kernel
theorem dX0_known_1 : decode cX0_known 1 = .ok (.invokestatic 67, 3) := by decide +kernel
theorem dX0_known_4 : decode cX0_known 4 = .ok (.ifCond .eq 5, 3) := by decide +kernel
theorem dX0_known_7 : decode cX0_known 7 = .ok (.iconst (-1), 1) := by decide +kernel
theorem dX0_known_8 : decode cX0_known 8 = .ok (.ireturn, 1) := by decide +kernel
theorem dX0_known_9 : decode cX0_known 9 = .ok (.iconst 0, 1) := by decide +kernel
theorem dX0_known_10 : decode cX0_known 10 = .ok (.istore_n 2, 1) := by decide +kernel
theorem dX0_known_11 : decode cX0_known 11 = .ok (.iconst 0, 1) := by decide +kernel
theorem dX0_known_12 : decode cX0_known 12 = .ok (.istore_n 3, 1) := by decide +kernel
theorem dX0_known_13 : decode cX0_known 13 = .ok (.iload_n 3, 1) := by decide +kernel
theorem dX0_known_14 : decode cX0_known 14 = .ok (.aload_n 0, 1) := by decide +kernel
theorem dX0_known_15 : decode cX0_known 15 = .ok (.getfield 59, 3) := by decide +kernel
theorem dX0_known_18 : decode cX0_known 18 = .ok (.if_icmp .ge 27, 3) := by decide +kernel
theorem dX0_known_21 : decode cX0_known 21 = .ok (.aload_n 0, 1) := by decide +kernel
theorem dX0_known_22 : decode cX0_known 22 = .ok (.getfield 32, 3) := by decide +kernel
theorem dX0_known_25 : decode cX0_known 25 = .ok (.iload_n 1, 1) := by decide +kernel
theorem dX0_known_26 : decode cX0_known 26 = .ok (.laload, 1) := by decide +kernel
theorem dX0_known_27 : decode cX0_known 27 = .ok (.iload_n 3, 1) := by decide +kernel
theorem dX0_known_28 : decode cX0_known 28 = .ok (.lushr, 1) := by decide +kernel
theorem dX0_known_29 : decode cX0_known 29 = .ok (.lconst 1, 1) := by decide +kernel
theorem dX0_known_30 : decode cX0_known 30 = .ok (.land, 1) := by decide +kernel
theorem dX0_known_31 : decode cX0_known 31 = .ok (.lconst 1, 1) := by decide +kernel
theorem dX0_known_32 : decode cX0_known 32 = .ok (.lcmp, 1) := by decide +kernel
theorem dX0_known_33 : decode cX0_known 33 = .ok (.ifCond .ne 6, 3) := by decide +kernel
theorem dX0_known_36 : decode cX0_known 36 = .ok (.iinc 2 1, 3) := by decide +kernel
theorem dX0_known_39 : decode cX0_known 39 = .ok (.iinc 3 1, 3) := by decide +kernel
theorem dX0_known_42 : decode cX0_known 42 = .ok (.goto (-29), 3) := by decide +kernel
theorem dX0_known_45 : decode cX0_known 45 = .ok (.iload_n 2, 1) := by decide +kernel
theorem dX0_known_46 : decode cX0_known 46 = .ok (.ireturn, 1) := by decide +kernel
abbrev cX0_agree : ByteArray := prog_1_method_26_code
def yX0_agree : MethodName := ⟨RX0, "agree", "(II)Z"⟩
theorem dX0_agree_0 : decode cX0_agree 0 = .ok (.iload_n 1, 1) := by decide +kernel
theorem dX0_agree_1 : decode cX0_agree 1 = .ok (.invokestatic 67, 3) := by decide +kernel
theorem dX0_agree_4 : decode cX0_agree 4 = .ok (.ifCond .ne 10, 3) := by decide +kernel
theorem dX0_agree_7 : decode cX0_agree 7 = .ok (.iload_n 2, 1) := by decide +kernel
theorem dX0_agree_8 : decode cX0_agree 8 = .ok (.invokestatic 67, 3) := by decide +kernel
theorem dX0_agree_11 : decode cX0_agree 11 = .ok (.ifCond .eq 5, 3) := by decide +kernel
theorem dX0_agree_14 : decode cX0_agree 14 = .ok (.iconst 0, 1) := by decide +kernel
theorem dX0_agree_15 : decode cX0_agree 15 = .ok (.ireturn, 1) := by decide +kernel
theorem dX0_agree_16 : decode cX0_agree 16 = .ok (.iconst 0, 1) := by decide +kernel
theorem dX0_agree_17 : decode cX0_agree 17 = .ok (.istore_n 3, 1) := by decide +kernel
theorem dX0_agree_18 : decode cX0_agree 18 = .ok (.iload_n 3, 1) := by decide +kernel
theorem dX0_agree_19 : decode cX0_agree 19 = .ok (.bipush 8, 2) := by decide +kernel
theorem dX0_agree_21 : decode cX0_agree 21 = .ok (.if_icmp .ge 25, 3) := by decide +kernel
theorem dX0_agree_24 : decode cX0_agree 24 = .ok (.aload_n 0, 1) := by decide +kernel
theorem dX0_agree_25 : decode cX0_agree 25 = .ok (.iload_n 1, 1) := by decide +kernel
theorem dX0_agree_26 : decode cX0_agree 26 = .ok (.iload_n 2, 1) := by decide +kernel
theorem dX0_agree_27 : decode cX0_agree 27 = .ok (.iload_n 3, 1) := by decide +kernel
theorem dX0_agree_28 : decode cX0_agree 28 = .ok (.invokevirtual 104, 3) := by decide +kernel
theorem dX0_agree_31 : decode cX0_agree 31 = .ok (.istore 4, 2) := by decide +kernel
theorem dX0_agree_33 : decode cX0_agree 33 = .ok (.iload 4, 2) := by decide +kernel
theorem dX0_agree_35 : decode cX0_agree 35 = .ok (.ifCond .ne 5, 3) := by decide +kernel
theorem dX0_agree_38 : decode cX0_agree 38 = .ok (.iconst 0, 1) := by decide +kernel
theorem dX0_agree_39 : decode cX0_agree 39 = .ok (.ireturn, 1) := by decide +kernel
theorem dX0_agree_40 : decode cX0_agree 40 = .ok (.iinc 3 1, 3) := by decide +kernel
theorem dX0_agree_43 : decode cX0_agree 43 = .ok (.goto (-25), 3) := by decide +kernel
theorem dX0_agree_46 : decode cX0_agree 46 = .ok (.iconst 1, 1) := by decide +kernel
theorem dX0_agree_47 : decode cX0_agree 47 = .ok (.ireturn, 1) := by decide +kernel
abbrev cX0_sameRow : ByteArray := prog_1_method_25_code
def yX0_sameRow : MethodName := ⟨RX0, "sameRow", "(III)Z"⟩
theorem dX0_sameRow_0 : decode cX0_sameRow 0 = .ok (.aload_n 0, 1) := by decide +kernel
theorem dX0_sameRow_1 : decode cX0_sameRow 1 = .ok (.iload_n 1, 1) := by decide +kernel
theorem dX0_sameRow_2 : decode cX0_sameRow 2 = .ok (.iload_n 3, 1) := by decide +kernel
theorem dX0_sameRow_3 : decode cX0_sameRow 3 = .ok (.invokevirtual 78, 3) := by decide +kernel
theorem dX0_sameRow_6 : decode cX0_sameRow 6 = .ok (.istore 4, 2) := by decide +kernel
theorem dX0_sameRow_8 : decode cX0_sameRow 8 = .ok (.aload_n 0, 1) := by decide +kernel
theorem dX0_sameRow_9 : decode cX0_sameRow 9 = .ok (.iload_n 2, 1) := by decide +kernel
theorem dX0_sameRow_10 : decode cX0_sameRow 10 = .ok (.iload_n 3, 1) := by decide +kernel
theorem dX0_sameRow_11 : decode cX0_sameRow 11 = .ok (.invokevirtual 78, 3) := by decide +kernel
theorem dX0_sameRow_14 : decode cX0_sameRow 14 = .ok (.istore 5, 2) := by decide +kernel
theorem dX0_sameRow_16 : decode cX0_sameRow 16 = .ok (.iload 4, 2) := by decide +kernel
theorem dX0_sameRow_18 : decode cX0_sameRow 18 = .ok (.iload 5, 2) := by decide +kernel
theorem dX0_sameRow_20 : decode cX0_sameRow 20 = .ok (.if_icmp .eq 5, 3) := by decide +kernel
theorem dX0_sameRow_23 : decode cX0_sameRow 23 = .ok (.iconst 0, 1) := by decide +kernel
theorem dX0_sameRow_24 : decode cX0_sameRow 24 = .ok (.ireturn, 1) := by decide +kernel
theorem dX0_sameRow_25 : decode cX0_sameRow 25 = .ok (.aload_n 0, 1) := by decide +kernel
theorem dX0_sameRow_26 : decode cX0_sameRow 26 = .ok (.iload_n 1, 1) := by decide +kernel
theorem dX0_sameRow_27 : decode cX0_sameRow 27 = .ok (.iload_n 3, 1) := by decide +kernel
theorem dX0_sameRow_28 : decode cX0_sameRow 28 = .ok (.invokevirtual 98, 3) := by decide +kernel
theorem dX0_sameRow_31 : decode cX0_sameRow 31 = .ok (.istore 6, 2) := by decide +kernel
theorem dX0_sameRow_33 : decode cX0_sameRow 33 = .ok (.aload_n 0, 1) := by decide +kernel
theorem dX0_sameRow_34 : decode cX0_sameRow 34 = .ok (.iload_n 2, 1) := by decide +kernel
theorem dX0_sameRow_35 : decode cX0_sameRow 35 = .ok (.iload_n 3, 1) := by decide +kernel
theorem dX0_sameRow_36 : decode cX0_sameRow 36 = .ok (.invokevirtual 98, 3) := by decide +kernel
theorem dX0_sameRow_39 : decode cX0_sameRow 39 = .ok (.istore 7, 2) := by decide +kernel
theorem dX0_sameRow_41 : decode cX0_sameRow 41 = .ok (.aload_n 0, 1) := by decide +kernel
theorem dX0_sameRow_42 : decode cX0_sameRow 42 = .ok (.iload_n 1, 1) := by decide +kernel
theorem dX0_sameRow_43 : decode cX0_sameRow 43 = .ok (.iload_n 3, 1) := by decide +kernel
theorem dX0_sameRow_44 : decode cX0_sameRow 44 = .ok (.invokevirtual 95, 3) := by decide +kernel
theorem dX0_sameRow_47 : decode cX0_sameRow 47 = .ok (.istore 8, 2) := by decide +kernel
theorem dX0_sameRow_49 : decode cX0_sameRow 49 = .ok (.aload_n 0, 1) := by decide +kernel
theorem dX0_sameRow_50 : decode cX0_sameRow 50 = .ok (.iload_n 2, 1) := by decide +kernel
theorem dX0_sameRow_51 : decode cX0_sameRow 51 = .ok (.iload_n 3, 1) := by decide +kernel
theorem dX0_sameRow_52 : decode cX0_sameRow 52 = .ok (.invokevirtual 95, 3) := by decide +kernel
theorem dX0_sameRow_55 : decode cX0_sameRow 55 = .ok (.istore 9, 2) := by decide +kernel
theorem dX0_sameRow_57 : decode cX0_sameRow 57 = .ok (.aload_n 0, 1) := by decide +kernel
theorem dX0_sameRow_58 : decode cX0_sameRow 58 = .ok (.iload_n 1, 1) := by decide +kernel
theorem dX0_sameRow_59 : decode cX0_sameRow 59 = .ok (.iload_n 3, 1) := by decide +kernel
theorem dX0_sameRow_60 : decode cX0_sameRow 60 = .ok (.invokevirtual 101, 3) := by decide +kernel
theorem dX0_sameRow_63 : decode cX0_sameRow 63 = .ok (.istore 10, 2) := by decide +kernel
theorem dX0_sameRow_65 : decode cX0_sameRow 65 = .ok (.aload_n 0, 1) := by decide +kernel
theorem dX0_sameRow_66 : decode cX0_sameRow 66 = .ok (.iload_n 2, 1) := by decide +kernel
theorem dX0_sameRow_67 : decode cX0_sameRow 67 = .ok (.iload_n 3, 1) := by decide +kernel
theorem dX0_sameRow_68 : decode cX0_sameRow 68 = .ok (.invokevirtual 101, 3) := by decide +kernel
theorem dX0_sameRow_71 : decode cX0_sameRow 71 = .ok (.istore 11, 2) := by decide +kernel
theorem dX0_sameRow_73 : decode cX0_sameRow 73 = .ok (.iload 6, 2) := by decide +kernel
theorem dX0_sameRow_75 : decode cX0_sameRow 75 = .ok (.iload 7, 2) := by decide +kernel
theorem dX0_sameRow_77 : decode cX0_sameRow 77 = .ok (.if_icmp .ne 21, 3) := by decide +kernel
theorem dX0_sameRow_80 : decode cX0_sameRow 80 = .ok (.iload 8, 2) := by decide +kernel
theorem dX0_sameRow_82 : decode cX0_sameRow 82 = .ok (.iload 9, 2) := by decide +kernel
theorem dX0_sameRow_84 : decode cX0_sameRow 84 = .ok (.if_icmp .ne 14, 3) := by decide +kernel
theorem dX0_sameRow_87 : decode cX0_sameRow 87 = .ok (.iload 10, 2) := by decide +kernel
theorem dX0_sameRow_89 : decode cX0_sameRow 89 = .ok (.iload 11, 2) := by decide +kernel
theorem dX0_sameRow_91 : decode cX0_sameRow 91 = .ok (.if_icmp .ne 7, 3) := by decide +kernel
theorem dX0_sameRow_94 : decode cX0_sameRow 94 = .ok (.iconst 1, 1) := by decide +kernel
theorem dX0_sameRow_95 : decode cX0_sameRow 95 = .ok (.goto 4, 3) := by decide +kernel
theorem dX0_sameRow_98 : decode cX0_sameRow 98 = .ok (.iconst 0, 1) := by decide +kernel
theorem dX0_sameRow_99 : decode cX0_sameRow 99 = .ok (.ireturn, 1) := by decide +kernel
theorem q15 : (Jvm.Cond.initialized "CrdtTable") ∈ lw_all := lw_g (lw_at lw_m1 1 rfl) rfl
theorem q18 : (Jvm.Cond.instantiable "CrdtTable" (15 : Nat)) ∈ lw_all := lw_g (lw_at lw_m1 4 rfl) rfl
theorem q20 : (Jvm.Cond.instanceMethod ({ cls := "CrdtTable", name := "<init>", desc := "()V" } : Jvm.MethodName)) ∈ lw_all := lw_g (lw_at lw_m1 6 rfl) rfl
theorem q21 : (Jvm.Cond.code ({ cls := "CrdtTable", name := "<init>", desc := "()V" } : Jvm.MethodName) prog_1_method_1_code (2 : Nat) (Option.none : Option Jvm.ClassFile.FieldType)) ∈ lw_all := lw_g (lw_at lw_m1 7 rfl) rfl
theorem q22 : (Jvm.Cond.methodLink "CrdtTable" (1 : Nat) ({ cls := "java/lang/Object", name := "<init>", desc := "()V" } : Jvm.MethodName)) ∈ lw_all := lw_g (lw_at lw_m1 8 rfl) rfl
theorem q25 : (Jvm.Cond.fieldLink "CrdtTable" (59 : Nat) "CrdtTable" "actions" "I") ∈ lw_all := lw_g (lw_at lw_m1 11 rfl) rfl
theorem q26 : (Jvm.Cond.fieldLink "CrdtTable" (7 : Nat) "CrdtTable" "kind" "[I") ∈ lw_all := lw_g (lw_at lw_m1 12 rfl) rfl
theorem q27 : (Jvm.Cond.fieldLink "CrdtTable" (13 : Nat) "CrdtTable" "rowOf" "[I") ∈ lw_all := lw_g (lw_at lw_m1 13 rfl) rfl
theorem q28 : (Jvm.Cond.fieldLink "CrdtTable" (16 : Nat) "CrdtTable" "number" "[I") ∈ lw_all := lw_g (lw_at lw_m1 14 rfl) rfl
theorem q29 : (Jvm.Cond.fieldLink "CrdtTable" (19 : Nat) "CrdtTable" "stampOf" "[I") ∈ lw_all := lw_g (lw_at lw_m1 15 rfl) rfl
theorem q30 : (Jvm.Cond.fieldLink "CrdtTable" (22 : Nat) "CrdtTable" "origin" "[I") ∈ lw_all := lw_g (lw_at lw_m1 16 rfl) rfl
theorem q31 : (Jvm.Cond.fieldLink "CrdtTable" (25 : Nat) "CrdtTable" "cancels" "[J") ∈ lw_all := lw_g (lw_at lw_m1 17 rfl) rfl
theorem q32 : (Jvm.Cond.fieldLink "CrdtTable" (29 : Nat) "CrdtTable" "stamp" "[I") ∈ lw_all := lw_g (lw_at lw_m1 18 rfl) rfl
theorem q33 : (Jvm.Cond.fieldLink "CrdtTable" (32 : Nat) "CrdtTable" "knows" "[J") ∈ lw_all := lw_g (lw_at lw_m1 19 rfl) rfl
theorem q34 : (Jvm.Cond.fieldLink "CrdtTable" (35 : Nat) "CrdtTable" "cancelled" "[J") ∈ lw_all := lw_g (lw_at lw_m1 20 rfl) rfl
theorem q35 : (Jvm.Cond.fieldLink "CrdtTable" (38 : Nat) "CrdtTable" "adds" "[J") ∈ lw_all := lw_g (lw_at lw_m1 21 rfl) rfl
theorem q36 : (Jvm.Cond.fieldLink "CrdtTable" (41 : Nat) "CrdtTable" "standing" "[J") ∈ lw_all := lw_g (lw_at lw_m1 22 rfl) rfl
theorem q37 : (Jvm.Cond.fieldLink "CrdtTable" (44 : Nat) "CrdtTable" "lastName" "[I") ∈ lw_all := lw_g (lw_at lw_m1 23 rfl) rfl
theorem q38 : (Jvm.Cond.fieldLink "CrdtTable" (47 : Nat) "CrdtTable" "lastLink" "[I") ∈ lw_all := lw_g (lw_at lw_m1 24 rfl) rfl
theorem q39 : (Jvm.Cond.fieldLink "CrdtTable" (50 : Nat) "CrdtTable" "total" "[I") ∈ lw_all := lw_g (lw_at lw_m1 25 rfl) rfl
theorem q40 : (Jvm.Cond.lays "CrdtTable" "CrdtTable" "actions" "I") ∈ lw_all := lw_g (lw_at lw_m1 26 rfl) rfl
theorem q41 : (Jvm.Cond.soleField "CrdtTable" "actions") ∈ lw_all := lw_g (lw_at lw_m1 27 rfl) rfl
theorem q42 : (Jvm.Cond.laysFinal "CrdtTable" "CrdtTable" "kind" "[I") ∈ lw_all := lw_g (lw_at lw_m1 28 rfl) rfl
theorem q43 : (Jvm.Cond.soleField "CrdtTable" "kind") ∈ lw_all := lw_g (lw_at lw_m1 29 rfl) rfl
theorem q44 : (Jvm.Cond.laysFinal "CrdtTable" "CrdtTable" "rowOf" "[I") ∈ lw_all := lw_g (lw_at lw_m1 30 rfl) rfl
theorem q45 : (Jvm.Cond.soleField "CrdtTable" "rowOf") ∈ lw_all := lw_g (lw_at lw_m1 31 rfl) rfl
theorem q46 : (Jvm.Cond.laysFinal "CrdtTable" "CrdtTable" "number" "[I") ∈ lw_all := lw_g (lw_at lw_m1 32 rfl) rfl
theorem q47 : (Jvm.Cond.soleField "CrdtTable" "number") ∈ lw_all := lw_g (lw_at lw_m1 33 rfl) rfl
theorem q48 : (Jvm.Cond.laysFinal "CrdtTable" "CrdtTable" "stampOf" "[I") ∈ lw_all := lw_g (lw_at lw_m1 34 rfl) rfl
theorem q49 : (Jvm.Cond.soleField "CrdtTable" "stampOf") ∈ lw_all := lw_g (lw_at lw_m1 35 rfl) rfl
theorem q50 : (Jvm.Cond.laysFinal "CrdtTable" "CrdtTable" "origin" "[I") ∈ lw_all := lw_g (lw_at lw_m1 36 rfl) rfl
theorem q51 : (Jvm.Cond.soleField "CrdtTable" "origin") ∈ lw_all := lw_g (lw_at lw_m1 37 rfl) rfl
theorem q52 : (Jvm.Cond.laysFinal "CrdtTable" "CrdtTable" "cancels" "[J") ∈ lw_all := lw_g (lw_at lw_m1 38 rfl) rfl
theorem q53 : (Jvm.Cond.soleField "CrdtTable" "cancels") ∈ lw_all := lw_g (lw_at lw_m1 39 rfl) rfl
theorem q54 : (Jvm.Cond.laysFinal "CrdtTable" "CrdtTable" "stamp" "[I") ∈ lw_all := lw_g (lw_at lw_m1 40 rfl) rfl
theorem q55 : (Jvm.Cond.soleField "CrdtTable" "stamp") ∈ lw_all := lw_g (lw_at lw_m1 41 rfl) rfl
theorem q56 : (Jvm.Cond.laysFinal "CrdtTable" "CrdtTable" "knows" "[J") ∈ lw_all := lw_g (lw_at lw_m1 42 rfl) rfl
theorem q57 : (Jvm.Cond.soleField "CrdtTable" "knows") ∈ lw_all := lw_g (lw_at lw_m1 43 rfl) rfl
theorem q58 : (Jvm.Cond.laysFinal "CrdtTable" "CrdtTable" "cancelled" "[J") ∈ lw_all := lw_g (lw_at lw_m1 44 rfl) rfl
theorem q59 : (Jvm.Cond.soleField "CrdtTable" "cancelled") ∈ lw_all := lw_g (lw_at lw_m1 45 rfl) rfl
theorem q60 : (Jvm.Cond.laysFinal "CrdtTable" "CrdtTable" "adds" "[J") ∈ lw_all := lw_g (lw_at lw_m1 46 rfl) rfl
theorem q61 : (Jvm.Cond.soleField "CrdtTable" "adds") ∈ lw_all := lw_g (lw_at lw_m1 47 rfl) rfl
theorem q62 : (Jvm.Cond.laysFinal "CrdtTable" "CrdtTable" "standing" "[J") ∈ lw_all := lw_g (lw_at lw_m1 48 rfl) rfl
theorem q63 : (Jvm.Cond.soleField "CrdtTable" "standing") ∈ lw_all := lw_g (lw_at lw_m1 49 rfl) rfl
theorem q64 : (Jvm.Cond.laysFinal "CrdtTable" "CrdtTable" "lastName" "[I") ∈ lw_all := lw_g (lw_at lw_m1 50 rfl) rfl
theorem q65 : (Jvm.Cond.soleField "CrdtTable" "lastName") ∈ lw_all := lw_g (lw_at lw_m1 51 rfl) rfl
theorem q66 : (Jvm.Cond.laysFinal "CrdtTable" "CrdtTable" "lastLink" "[I") ∈ lw_all := lw_g (lw_at lw_m1 52 rfl) rfl
theorem q67 : (Jvm.Cond.soleField "CrdtTable" "lastLink") ∈ lw_all := lw_g (lw_at lw_m1 53 rfl) rfl
theorem q68 : (Jvm.Cond.laysFinal "CrdtTable" "CrdtTable" "total" "[I") ∈ lw_all := lw_g (lw_at lw_m1 54 rfl) rfl
theorem q69 : (Jvm.Cond.soleField "CrdtTable" "total") ∈ lw_all := lw_g (lw_at lw_m1 55 rfl) rfl
theorem q70 : (Jvm.Cond.superclass "CrdtTable" "java/lang/Object") ∈ lw_all := lw_g (lw_at lw_m1 56 rfl) rfl
theorem q74 : (Jvm.Cond.instanceMethod ({ cls := "CrdtTable", name := "add", desc := "(II)I" } : Jvm.MethodName)) ∈ lw_all := lw_g (lw_at lw_m1 60 rfl) rfl
theorem q75 : (Jvm.Cond.selects "CrdtTable" ({ cls := "CrdtTable", name := "add", desc := "(II)I" } : Jvm.MethodName) ({ cls := "CrdtTable", name := "add", desc := "(II)I" } : Jvm.MethodName)) ∈ lw_all := lw_g (lw_at lw_m1 61 rfl) rfl
theorem q76 : (Jvm.Cond.code ({ cls := "CrdtTable", name := "add", desc := "(II)I" } : Jvm.MethodName) prog_1_method_10_code (4 : Nat) (Option.some Jvm.ClassFile.FieldType.int)) ∈ lw_all := lw_g (lw_at lw_m1 62 rfl) rfl
theorem q77 : (Jvm.Cond.methodLink "CrdtTable" (74 : Nat) ({ cls := "CrdtTable", name := "refusal", desc := "(II)I" } : Jvm.MethodName)) ∈ lw_all := lw_g (lw_at lw_m1 63 rfl) rfl
theorem q78 : (Jvm.Cond.privateMethod ({ cls := "CrdtTable", name := "refusal", desc := "(II)I" } : Jvm.MethodName)) ∈ lw_tbl := lw_at lw_m1 64 rfl
theorem q79 : (Jvm.Cond.instanceMethod ({ cls := "CrdtTable", name := "refusal", desc := "(II)I" } : Jvm.MethodName)) ∈ lw_all := lw_g (lw_at lw_m1 65 rfl) rfl
theorem q80 : (Jvm.Cond.code ({ cls := "CrdtTable", name := "refusal", desc := "(II)I" } : Jvm.MethodName) prog_1_method_8_code (3 : Nat) (Option.some Jvm.ClassFile.FieldType.int)) ∈ lw_all := lw_g (lw_at lw_m1 66 rfl) rfl
theorem q81 : (Jvm.Cond.methodLink "CrdtTable" (67 : Nat) ({ cls := "CrdtTable", name := "badReplica", desc := "(I)Z" } : Jvm.MethodName)) ∈ lw_all := lw_g (lw_at lw_m1 67 rfl) rfl
theorem q82 : (Jvm.Cond.static ({ cls := "CrdtTable", name := "badReplica", desc := "(I)Z" } : Jvm.MethodName)) ∈ lw_all := lw_g (lw_at lw_m1 68 rfl) rfl
theorem q83 : (Jvm.Cond.code ({ cls := "CrdtTable", name := "badReplica", desc := "(I)Z" } : Jvm.MethodName) prog_1_method_2_code (1 : Nat) (Option.some Jvm.ClassFile.FieldType.boolean)) ∈ lw_all := lw_g (lw_at lw_m1 69 rfl) rfl
theorem q84 : (Jvm.Cond.methodLink "CrdtTable" (71 : Nat) ({ cls := "CrdtTable", name := "badRow", desc := "(I)Z" } : Jvm.MethodName)) ∈ lw_all := lw_g (lw_at lw_m1 70 rfl) rfl
theorem q85 : (Jvm.Cond.static ({ cls := "CrdtTable", name := "badRow", desc := "(I)Z" } : Jvm.MethodName)) ∈ lw_all := lw_g (lw_at lw_m1 71 rfl) rfl
theorem q86 : (Jvm.Cond.code ({ cls := "CrdtTable", name := "badRow", desc := "(I)Z" } : Jvm.MethodName) prog_1_method_3_code (1 : Nat) (Option.some Jvm.ClassFile.FieldType.boolean)) ∈ lw_all := lw_g (lw_at lw_m1 72 rfl) rfl
theorem q87 : (Jvm.Cond.methodLink "CrdtTable" (81 : Nat) ({ cls := "CrdtTable", name := "act", desc := "(IIII)I" } : Jvm.MethodName)) ∈ lw_all := lw_g (lw_at lw_m1 73 rfl) rfl
theorem q88 : (Jvm.Cond.privateMethod ({ cls := "CrdtTable", name := "act", desc := "(IIII)I" } : Jvm.MethodName)) ∈ lw_tbl := lw_at lw_m1 74 rfl
theorem q89 : (Jvm.Cond.instanceMethod ({ cls := "CrdtTable", name := "act", desc := "(IIII)I" } : Jvm.MethodName)) ∈ lw_all := lw_g (lw_at lw_m1 75 rfl) rfl
theorem q90 : (Jvm.Cond.code ({ cls := "CrdtTable", name := "act", desc := "(IIII)I" } : Jvm.MethodName) prog_1_method_7_code (6 : Nat) (Option.some Jvm.ClassFile.FieldType.int)) ∈ lw_all := lw_g (lw_at lw_m1 76 rfl) rfl
theorem q91 : (Jvm.Cond.methodLink "CrdtTable" (63 : Nat) ({ cls := "CrdtTable", name := "takeIn", desc := "(II)V" } : Jvm.MethodName)) ∈ lw_all := lw_g (lw_at lw_m1 77 rfl) rfl
theorem q92 : (Jvm.Cond.privateMethod ({ cls := "CrdtTable", name := "takeIn", desc := "(II)V" } : Jvm.MethodName)) ∈ lw_tbl := lw_at lw_m1 78 rfl
theorem q93 : (Jvm.Cond.instanceMethod ({ cls := "CrdtTable", name := "takeIn", desc := "(II)V" } : Jvm.MethodName)) ∈ lw_all := lw_g (lw_at lw_m1 79 rfl) rfl
theorem q94 : (Jvm.Cond.code ({ cls := "CrdtTable", name := "takeIn", desc := "(II)V" } : Jvm.MethodName) prog_1_method_6_code (4 : Nat) (Option.none : Option Jvm.ClassFile.FieldType)) ∈ lw_all := lw_g (lw_at lw_m1 80 rfl) rfl
theorem q95 : (Jvm.Cond.constantLong "CrdtTable" (53 : Nat) (-1 : Int64)) ∈ lw_all := lw_g (lw_at lw_m1 81 rfl) rfl
theorem q96 : (Jvm.Cond.methodLink "CrdtTable" (55 : Nat) ({ cls := "CrdtTable", name := "later", desc := "(II)Z" } : Jvm.MethodName)) ∈ lw_all := lw_g (lw_at lw_m1 82 rfl) rfl
theorem q97 : (Jvm.Cond.privateMethod ({ cls := "CrdtTable", name := "later", desc := "(II)Z" } : Jvm.MethodName)) ∈ lw_tbl := lw_at lw_m1 83 rfl
theorem q98 : (Jvm.Cond.instanceMethod ({ cls := "CrdtTable", name := "later", desc := "(II)Z" } : Jvm.MethodName)) ∈ lw_all := lw_g (lw_at lw_m1 84 rfl) rfl
theorem q99 : (Jvm.Cond.code ({ cls := "CrdtTable", name := "later", desc := "(II)Z" } : Jvm.MethodName) prog_1_method_5_code (3 : Nat) (Option.some Jvm.ClassFile.FieldType.boolean)) ∈ lw_all := lw_g (lw_at lw_m1 85 rfl) rfl
theorem q101 : (Jvm.Cond.instanceMethod ({ cls := "CrdtTable", name := "drop", desc := "(II)I" } : Jvm.MethodName)) ∈ lw_all := lw_g (lw_at lw_m1 87 rfl) rfl
theorem q102 : (Jvm.Cond.selects "CrdtTable" ({ cls := "CrdtTable", name := "drop", desc := "(II)I" } : Jvm.MethodName) ({ cls := "CrdtTable", name := "drop", desc := "(II)I" } : Jvm.MethodName)) ∈ lw_all := lw_g (lw_at lw_m1 88 rfl) rfl
theorem q103 : (Jvm.Cond.code ({ cls := "CrdtTable", name := "drop", desc := "(II)I" } : Jvm.MethodName) prog_1_method_11_code (4 : Nat) (Option.some Jvm.ClassFile.FieldType.int)) ∈ lw_all := lw_g (lw_at lw_m1 89 rfl) rfl
theorem q104 : (Jvm.Cond.methodLink "CrdtTable" (85 : Nat) ({ cls := "CrdtTable", name := "refusalAbsent", desc := "(II)I" } : Jvm.MethodName)) ∈ lw_all := lw_g (lw_at lw_m1 90 rfl) rfl
theorem q105 : (Jvm.Cond.privateMethod ({ cls := "CrdtTable", name := "refusalAbsent", desc := "(II)I" } : Jvm.MethodName)) ∈ lw_tbl := lw_at lw_m1 91 rfl
theorem q106 : (Jvm.Cond.instanceMethod ({ cls := "CrdtTable", name := "refusalAbsent", desc := "(II)I" } : Jvm.MethodName)) ∈ lw_all := lw_g (lw_at lw_m1 92 rfl) rfl
theorem q107 : (Jvm.Cond.code ({ cls := "CrdtTable", name := "refusalAbsent", desc := "(II)I" } : Jvm.MethodName) prog_1_method_9_code (4 : Nat) (Option.some Jvm.ClassFile.FieldType.int)) ∈ lw_all := lw_g (lw_at lw_m1 93 rfl) rfl
theorem q108 : (Jvm.Cond.methodLink "CrdtTable" (78 : Nat) ({ cls := "CrdtTable", name := "isThere", desc := "(II)Z" } : Jvm.MethodName)) ∈ lw_all := lw_g (lw_at lw_m1 94 rfl) rfl
theorem q109 : (Jvm.Cond.privateMethod ({ cls := "CrdtTable", name := "isThere", desc := "(II)Z" } : Jvm.MethodName)) ∈ lw_tbl := lw_at lw_m1 95 rfl
theorem q110 : (Jvm.Cond.instanceMethod ({ cls := "CrdtTable", name := "isThere", desc := "(II)Z" } : Jvm.MethodName)) ∈ lw_all := lw_g (lw_at lw_m1 96 rfl) rfl
theorem q111 : (Jvm.Cond.code ({ cls := "CrdtTable", name := "isThere", desc := "(II)Z" } : Jvm.MethodName) prog_1_method_4_code (3 : Nat) (Option.some Jvm.ClassFile.FieldType.boolean)) ∈ lw_all := lw_g (lw_at lw_m1 97 rfl) rfl
theorem q113 : (Jvm.Cond.instanceMethod ({ cls := "CrdtTable", name := "name", desc := "(III)I" } : Jvm.MethodName)) ∈ lw_all := lw_g (lw_at lw_m1 99 rfl) rfl
theorem q114 : (Jvm.Cond.selects "CrdtTable" ({ cls := "CrdtTable", name := "name", desc := "(III)I" } : Jvm.MethodName) ({ cls := "CrdtTable", name := "name", desc := "(III)I" } : Jvm.MethodName)) ∈ lw_all := lw_g (lw_at lw_m1 100 rfl) rfl
theorem q115 : (Jvm.Cond.code ({ cls := "CrdtTable", name := "name", desc := "(III)I" } : Jvm.MethodName) prog_1_method_12_code (5 : Nat) (Option.some Jvm.ClassFile.FieldType.int)) ∈ lw_all := lw_g (lw_at lw_m1 101 rfl) rfl
theorem q117 : (Jvm.Cond.instanceMethod ({ cls := "CrdtTable", name := "count", desc := "(III)I" } : Jvm.MethodName)) ∈ lw_all := lw_g (lw_at lw_m1 103 rfl) rfl
theorem q118 : (Jvm.Cond.selects "CrdtTable" ({ cls := "CrdtTable", name := "count", desc := "(III)I" } : Jvm.MethodName) ({ cls := "CrdtTable", name := "count", desc := "(III)I" } : Jvm.MethodName)) ∈ lw_all := lw_g (lw_at lw_m1 104 rfl) rfl
theorem q119 : (Jvm.Cond.code ({ cls := "CrdtTable", name := "count", desc := "(III)I" } : Jvm.MethodName) prog_1_method_13_code (5 : Nat) (Option.some Jvm.ClassFile.FieldType.int)) ∈ lw_all := lw_g (lw_at lw_m1 105 rfl) rfl
theorem q121 : (Jvm.Cond.instanceMethod ({ cls := "CrdtTable", name := "link", desc := "(III)I" } : Jvm.MethodName)) ∈ lw_all := lw_g (lw_at lw_m1 107 rfl) rfl
theorem q122 : (Jvm.Cond.selects "CrdtTable" ({ cls := "CrdtTable", name := "link", desc := "(III)I" } : Jvm.MethodName) ({ cls := "CrdtTable", name := "link", desc := "(III)I" } : Jvm.MethodName)) ∈ lw_all := lw_g (lw_at lw_m1 108 rfl) rfl
theorem q123 : (Jvm.Cond.code ({ cls := "CrdtTable", name := "link", desc := "(III)I" } : Jvm.MethodName) prog_1_method_14_code (5 : Nat) (Option.some Jvm.ClassFile.FieldType.int)) ∈ lw_all := lw_g (lw_at lw_m1 109 rfl) rfl
theorem q125 : (Jvm.Cond.instanceMethod ({ cls := "CrdtTable", name := "learn", desc := "(II)I" } : Jvm.MethodName)) ∈ lw_all := lw_g (lw_at lw_m1 111 rfl) rfl
theorem q126 : (Jvm.Cond.selects "CrdtTable" ({ cls := "CrdtTable", name := "learn", desc := "(II)I" } : Jvm.MethodName) ({ cls := "CrdtTable", name := "learn", desc := "(II)I" } : Jvm.MethodName)) ∈ lw_all := lw_g (lw_at lw_m1 112 rfl) rfl
theorem q127 : (Jvm.Cond.code ({ cls := "CrdtTable", name := "learn", desc := "(II)I" } : Jvm.MethodName) prog_1_method_15_code (3 : Nat) (Option.some Jvm.ClassFile.FieldType.int)) ∈ lw_all := lw_g (lw_at lw_m1 113 rfl) rfl
theorem q128 : (Jvm.Cond.methodLink "CrdtTable" (88 : Nat) ({ cls := "CrdtTable", name := "learnSome", desc := "(III)I" } : Jvm.MethodName)) ∈ lw_all := lw_g (lw_at lw_m1 114 rfl) rfl
theorem q129 : (Jvm.Cond.instanceMethod ({ cls := "CrdtTable", name := "learnSome", desc := "(III)I" } : Jvm.MethodName)) ∈ lw_all := lw_g (lw_at lw_m1 115 rfl) rfl
theorem q130 : (Jvm.Cond.selects "CrdtTable" ({ cls := "CrdtTable", name := "learnSome", desc := "(III)I" } : Jvm.MethodName) ({ cls := "CrdtTable", name := "learnSome", desc := "(III)I" } : Jvm.MethodName)) ∈ lw_all := lw_g (lw_at lw_m1 116 rfl) rfl
theorem q131 : (Jvm.Cond.code ({ cls := "CrdtTable", name := "learnSome", desc := "(III)I" } : Jvm.MethodName) prog_1_method_16_code (8 : Nat) (Option.some Jvm.ClassFile.FieldType.int)) ∈ lw_all := lw_g (lw_at lw_m1 117 rfl) rfl
theorem q134 : (Jvm.Cond.instanceMethod ({ cls := "CrdtTable", name := "there", desc := "(II)Z" } : Jvm.MethodName)) ∈ lw_all := lw_g (lw_at lw_m1 120 rfl) rfl
theorem q135 : (Jvm.Cond.selects "CrdtTable" ({ cls := "CrdtTable", name := "there", desc := "(II)Z" } : Jvm.MethodName) ({ cls := "CrdtTable", name := "there", desc := "(II)Z" } : Jvm.MethodName)) ∈ lw_all := lw_g (lw_at lw_m1 121 rfl) rfl
theorem q136 : (Jvm.Cond.code ({ cls := "CrdtTable", name := "there", desc := "(II)Z" } : Jvm.MethodName) prog_1_method_17_code (3 : Nat) (Option.some Jvm.ClassFile.FieldType.boolean)) ∈ lw_all := lw_g (lw_at lw_m1 122 rfl) rfl
theorem q138 : (Jvm.Cond.instanceMethod ({ cls := "CrdtTable", name := "nameOf", desc := "(II)I" } : Jvm.MethodName)) ∈ lw_all := lw_g (lw_at lw_m1 124 rfl) rfl
theorem q139 : (Jvm.Cond.selects "CrdtTable" ({ cls := "CrdtTable", name := "nameOf", desc := "(II)I" } : Jvm.MethodName) ({ cls := "CrdtTable", name := "nameOf", desc := "(II)I" } : Jvm.MethodName)) ∈ lw_all := lw_g (lw_at lw_m1 125 rfl) rfl
theorem q140 : (Jvm.Cond.code ({ cls := "CrdtTable", name := "nameOf", desc := "(II)I" } : Jvm.MethodName) prog_1_method_19_code (4 : Nat) (Option.some Jvm.ClassFile.FieldType.int)) ∈ lw_all := lw_g (lw_at lw_m1 126 rfl) rfl
theorem q141 : (Jvm.Cond.methodLink "CrdtTable" (92 : Nat) ({ cls := "CrdtTable", name := "hidden", desc := "(II)Z" } : Jvm.MethodName)) ∈ lw_all := lw_g (lw_at lw_m1 127 rfl) rfl
theorem q142 : (Jvm.Cond.privateMethod ({ cls := "CrdtTable", name := "hidden", desc := "(II)Z" } : Jvm.MethodName)) ∈ lw_tbl := lw_at lw_m1 128 rfl
theorem q143 : (Jvm.Cond.instanceMethod ({ cls := "CrdtTable", name := "hidden", desc := "(II)Z" } : Jvm.MethodName)) ∈ lw_all := lw_g (lw_at lw_m1 129 rfl) rfl
theorem q144 : (Jvm.Cond.code ({ cls := "CrdtTable", name := "hidden", desc := "(II)Z" } : Jvm.MethodName) prog_1_method_18_code (3 : Nat) (Option.some Jvm.ClassFile.FieldType.boolean)) ∈ lw_all := lw_g (lw_at lw_m1 130 rfl) rfl
theorem q146 : (Jvm.Cond.instanceMethod ({ cls := "CrdtTable", name := "countOf", desc := "(II)I" } : Jvm.MethodName)) ∈ lw_all := lw_g (lw_at lw_m1 132 rfl) rfl
theorem q147 : (Jvm.Cond.selects "CrdtTable" ({ cls := "CrdtTable", name := "countOf", desc := "(II)I" } : Jvm.MethodName) ({ cls := "CrdtTable", name := "countOf", desc := "(II)I" } : Jvm.MethodName)) ∈ lw_all := lw_g (lw_at lw_m1 133 rfl) rfl
theorem q148 : (Jvm.Cond.code ({ cls := "CrdtTable", name := "countOf", desc := "(II)I" } : Jvm.MethodName) prog_1_method_20_code (3 : Nat) (Option.some Jvm.ClassFile.FieldType.int)) ∈ lw_all := lw_g (lw_at lw_m1 134 rfl) rfl
theorem q150 : (Jvm.Cond.instanceMethod ({ cls := "CrdtTable", name := "linkOf", desc := "(II)I" } : Jvm.MethodName)) ∈ lw_all := lw_g (lw_at lw_m1 136 rfl) rfl
theorem q151 : (Jvm.Cond.selects "CrdtTable" ({ cls := "CrdtTable", name := "linkOf", desc := "(II)I" } : Jvm.MethodName) ({ cls := "CrdtTable", name := "linkOf", desc := "(II)I" } : Jvm.MethodName)) ∈ lw_all := lw_g (lw_at lw_m1 137 rfl) rfl
theorem q152 : (Jvm.Cond.code ({ cls := "CrdtTable", name := "linkOf", desc := "(II)I" } : Jvm.MethodName) prog_1_method_21_code (4 : Nat) (Option.some Jvm.ClassFile.FieldType.int)) ∈ lw_all := lw_g (lw_at lw_m1 138 rfl) rfl
theorem q154 : (Jvm.Cond.instanceMethod ({ cls := "CrdtTable", name := "rows", desc := "(I)I" } : Jvm.MethodName)) ∈ lw_all := lw_g (lw_at lw_m1 140 rfl) rfl
theorem q155 : (Jvm.Cond.selects "CrdtTable" ({ cls := "CrdtTable", name := "rows", desc := "(I)I" } : Jvm.MethodName) ({ cls := "CrdtTable", name := "rows", desc := "(I)I" } : Jvm.MethodName)) ∈ lw_all := lw_g (lw_at lw_m1 141 rfl) rfl
theorem q156 : (Jvm.Cond.code ({ cls := "CrdtTable", name := "rows", desc := "(I)I" } : Jvm.MethodName) prog_1_method_22_code (5 : Nat) (Option.some Jvm.ClassFile.FieldType.int)) ∈ lw_all := lw_g (lw_at lw_m1 142 rfl) rfl
theorem q158 : (Jvm.Cond.instanceMethod ({ cls := "CrdtTable", name := "sum", desc := "(I)I" } : Jvm.MethodName)) ∈ lw_all := lw_g (lw_at lw_m1 144 rfl) rfl
theorem q159 : (Jvm.Cond.selects "CrdtTable" ({ cls := "CrdtTable", name := "sum", desc := "(I)I" } : Jvm.MethodName) ({ cls := "CrdtTable", name := "sum", desc := "(I)I" } : Jvm.MethodName)) ∈ lw_all := lw_g (lw_at lw_m1 145 rfl) rfl
theorem q160 : (Jvm.Cond.code ({ cls := "CrdtTable", name := "sum", desc := "(I)I" } : Jvm.MethodName) prog_1_method_23_code (4 : Nat) (Option.some Jvm.ClassFile.FieldType.int)) ∈ lw_all := lw_g (lw_at lw_m1 146 rfl) rfl
theorem q161 : (Jvm.Cond.methodLink "CrdtTable" (95 : Nat) ({ cls := "CrdtTable", name := "countOf", desc := "(II)I" } : Jvm.MethodName)) ∈ lw_all := lw_g (lw_at lw_m1 147 rfl) rfl
theorem q163 : (Jvm.Cond.instanceMethod ({ cls := "CrdtTable", name := "known", desc := "(I)I" } : Jvm.MethodName)) ∈ lw_all := lw_g (lw_at lw_m1 149 rfl) rfl
theorem q164 : (Jvm.Cond.selects "CrdtTable" ({ cls := "CrdtTable", name := "known", desc := "(I)I" } : Jvm.MethodName) ({ cls := "CrdtTable", name := "known", desc := "(I)I" } : Jvm.MethodName)) ∈ lw_all := lw_g (lw_at lw_m1 150 rfl) rfl
theorem q165 : (Jvm.Cond.code ({ cls := "CrdtTable", name := "known", desc := "(I)I" } : Jvm.MethodName) prog_1_method_24_code (4 : Nat) (Option.some Jvm.ClassFile.FieldType.int)) ∈ lw_all := lw_g (lw_at lw_m1 151 rfl) rfl
theorem q167 : (Jvm.Cond.instanceMethod ({ cls := "CrdtTable", name := "agree", desc := "(II)Z" } : Jvm.MethodName)) ∈ lw_all := lw_g (lw_at lw_m1 153 rfl) rfl
theorem q168 : (Jvm.Cond.selects "CrdtTable" ({ cls := "CrdtTable", name := "agree", desc := "(II)Z" } : Jvm.MethodName) ({ cls := "CrdtTable", name := "agree", desc := "(II)Z" } : Jvm.MethodName)) ∈ lw_all := lw_g (lw_at lw_m1 154 rfl) rfl
theorem q169 : (Jvm.Cond.code ({ cls := "CrdtTable", name := "agree", desc := "(II)Z" } : Jvm.MethodName) prog_1_method_26_code (5 : Nat) (Option.some Jvm.ClassFile.FieldType.boolean)) ∈ lw_all := lw_g (lw_at lw_m1 155 rfl) rfl
theorem q170 : (Jvm.Cond.methodLink "CrdtTable" (104 : Nat) ({ cls := "CrdtTable", name := "sameRow", desc := "(III)Z" } : Jvm.MethodName)) ∈ lw_all := lw_g (lw_at lw_m1 156 rfl) rfl
theorem q171 : (Jvm.Cond.privateMethod ({ cls := "CrdtTable", name := "sameRow", desc := "(III)Z" } : Jvm.MethodName)) ∈ lw_tbl := lw_at lw_m1 157 rfl
theorem q172 : (Jvm.Cond.instanceMethod ({ cls := "CrdtTable", name := "sameRow", desc := "(III)Z" } : Jvm.MethodName)) ∈ lw_all := lw_g (lw_at lw_m1 158 rfl) rfl
theorem q173 : (Jvm.Cond.code ({ cls := "CrdtTable", name := "sameRow", desc := "(III)Z" } : Jvm.MethodName) prog_1_method_25_code (12 : Nat) (Option.some Jvm.ClassFile.FieldType.boolean)) ∈ lw_all := lw_g (lw_at lw_m1 159 rfl) rfl
theorem q174 : (Jvm.Cond.methodLink "CrdtTable" (98 : Nat) ({ cls := "CrdtTable", name := "nameOf", desc := "(II)I" } : Jvm.MethodName)) ∈ lw_all := lw_g (lw_at lw_m1 160 rfl) rfl
theorem q175 : (Jvm.Cond.methodLink "CrdtTable" (101 : Nat) ({ cls := "CrdtTable", name := "linkOf", desc := "(II)I" } : Jvm.MethodName)) ∈ lw_all := lw_g (lw_at lw_m1 161 rfl) rfl
theorem in_X0 : ∀ w ∈ wsX00, w ∈ lw_all := lw_in wsX00 [40, 42, 44, 46, 48, 50, 52, 54, 56, 58, 60, 62, 64, 66, 68] (by decide +kernel) (by decide +kernel)
end
section
/-! CrdtTableModel -/
set_option maxRecDepth 100000
def RX1 : String := "CrdtTableModel"
def TX1 : u_T := fun k => match k with
  | 0 => ("CrdtTableModel", "actions", "I", false)
  | 1 => ("CrdtTableModel", "kinds", "[I", true)
  | 2 => ("CrdtTableModel", "rowOf", "[I", true)
  | 3 => ("CrdtTableModel", "values", "[I", true)
  | 4 => ("CrdtTableModel", "stamps", "[I", true)
  | 5 => ("CrdtTableModel", "replicas", "[I", true)
  | 6 => ("CrdtTableModel", "knew", "[J", true)
  | 7 => ("CrdtTableModel", "knows", "[J", true)
  | _ => ("CrdtTableModel", "stampOf", "[I", true)
def tyX1 : Nat → FieldType := fun k => match k with
  | 0 => .int
  | 1 => .array .int
  | 2 => .array .int
  | 3 => .array .int
  | 4 => .array .int
  | 5 => .array .int
  | 6 => .array .long
  | 7 => .array .long
  | _ => .array .int
abbrev wsX10 : List Cond := u_ws RX1 TX1 9
theorem nmX1 : ∀ a, a < 9 → ∀ b, b < 9 → a ≠ b → (TX1 a).2.1 ≠ (TX1 b).2.1 := by decide +kernel
theorem tyX1_ok : ∀ k, k < 9 → parseFieldDescriptor (TX1 k).2.2.1 = some (tyX1 k) := by decide +kernel
abbrev cX1_init : ByteArray := prog_3_method_1_code
def yX1_init : MethodName := ⟨RX1, "<init>", "()V"⟩
theorem dX1_init_0 : decode cX1_init 0 = .ok (.aload_n 0, 1) := by decide +kernel
theorem dX1_init_1 : decode cX1_init 1 = .ok (.invokespecial 1, 3) := by decide +kernel
theorem dX1_init_4 : decode cX1_init 4 = .ok (.aload_n 0, 1) := by decide +kernel
theorem dX1_init_5 : decode cX1_init 5 = .ok (.bipush 60, 2) := by decide +kernel
theorem dX1_init_7 : decode cX1_init 7 = .ok (.newarray .int, 2) := by decide +kernel
theorem dX1_init_9 : decode cX1_init 9 = .ok (.putfield 7, 3) := by decide +kernel
theorem dX1_init_12 : decode cX1_init 12 = .ok (.aload_n 0, 1) := by decide +kernel
theorem dX1_init_13 : decode cX1_init 13 = .ok (.bipush 60, 2) := by decide +kernel
theorem dX1_init_15 : decode cX1_init 15 = .ok (.newarray .int, 2) := by decide +kernel
theorem dX1_init_17 : decode cX1_init 17 = .ok (.putfield 13, 3) := by decide +kernel
theorem dX1_init_20 : decode cX1_init 20 = .ok (.aload_n 0, 1) := by decide +kernel
theorem dX1_init_21 : decode cX1_init 21 = .ok (.bipush 60, 2) := by decide +kernel
theorem dX1_init_23 : decode cX1_init 23 = .ok (.newarray .int, 2) := by decide +kernel
theorem dX1_init_25 : decode cX1_init 25 = .ok (.putfield 16, 3) := by decide +kernel
theorem dX1_init_28 : decode cX1_init 28 = .ok (.aload_n 0, 1) := by decide +kernel
theorem dX1_init_29 : decode cX1_init 29 = .ok (.bipush 60, 2) := by decide +kernel
theorem dX1_init_31 : decode cX1_init 31 = .ok (.newarray .int, 2) := by decide +kernel
theorem dX1_init_33 : decode cX1_init 33 = .ok (.putfield 19, 3) := by decide +kernel
theorem dX1_init_36 : decode cX1_init 36 = .ok (.aload_n 0, 1) := by decide +kernel
theorem dX1_init_37 : decode cX1_init 37 = .ok (.bipush 60, 2) := by decide +kernel
theorem dX1_init_39 : decode cX1_init 39 = .ok (.newarray .int, 2) := by decide +kernel
theorem dX1_init_41 : decode cX1_init 41 = .ok (.putfield 22, 3) := by decide +kernel
theorem dX1_init_44 : decode cX1_init 44 = .ok (.aload_n 0, 1) := by decide +kernel
theorem dX1_init_45 : decode cX1_init 45 = .ok (.bipush 60, 2) := by decide +kernel
theorem dX1_init_47 : decode cX1_init 47 = .ok (.newarray .long, 2) := by decide +kernel
theorem dX1_init_49 : decode cX1_init 49 = .ok (.putfield 25, 3) := by decide +kernel
theorem dX1_init_52 : decode cX1_init 52 = .ok (.aload_n 0, 1) := by decide +kernel
theorem dX1_init_53 : decode cX1_init 53 = .ok (.iconst 3, 1) := by decide +kernel
theorem dX1_init_54 : decode cX1_init 54 = .ok (.newarray .long, 2) := by decide +kernel
theorem dX1_init_56 : decode cX1_init 56 = .ok (.putfield 29, 3) := by decide +kernel
theorem dX1_init_59 : decode cX1_init 59 = .ok (.aload_n 0, 1) := by decide +kernel
theorem dX1_init_60 : decode cX1_init 60 = .ok (.iconst 3, 1) := by decide +kernel
theorem dX1_init_61 : decode cX1_init 61 = .ok (.newarray .int, 2) := by decide +kernel
theorem dX1_init_63 : decode cX1_init 63 = .ok (.putfield 32, 3) := by decide +kernel
theorem dX1_init_66 : decode cX1_init 66 = .ok (.return_, 1) := by decide +kernel
abbrev cX1_add : ByteArray := prog_3_method_6_code
def yX1_add : MethodName := ⟨RX1, "add", "(II)I"⟩
theorem dX1_add_0 : decode cX1_add 0 = .ok (.aload_n 0, 1) := by decide +kernel
theorem dX1_add_1 : decode cX1_add 1 = .ok (.iload_n 1, 1) := by decide +kernel
theorem dX1_add_2 : decode cX1_add 2 = .ok (.iconst 0, 1) := by decide +kernel
theorem dX1_add_3 : decode cX1_add 3 = .ok (.iload_n 2, 1) := by decide +kernel
theorem dX1_add_4 : decode cX1_add 4 = .ok (.iconst 0, 1) := by decide +kernel
theorem dX1_add_5 : decode cX1_add 5 = .ok (.invokevirtual 50, 3) := by decide +kernel
theorem dX1_add_8 : decode cX1_add 8 = .ok (.ireturn, 1) := by decide +kernel
abbrev cX1_act : ByteArray := prog_3_method_5_code
def yX1_act : MethodName := ⟨RX1, "act", "(IIII)I"⟩
theorem dX1_act_0 : decode cX1_act 0 = .ok (.aload_n 0, 1) := by decide +kernel
theorem dX1_act_1 : decode cX1_act 1 = .ok (.iload_n 1, 1) := by decide +kernel
theorem dX1_act_2 : decode cX1_act 2 = .ok (.invokevirtual 35, 3) := by decide +kernel
theorem dX1_act_5 : decode cX1_act 5 = .ok (.ifCond .eq 5, 3) := by decide +kernel
theorem dX1_act_8 : decode cX1_act 8 = .ok (.iconst (-1), 1) := by decide +kernel
theorem dX1_act_9 : decode cX1_act 9 = .ok (.ireturn, 1) := by decide +kernel
theorem dX1_act_10 : decode cX1_act 10 = .ok (.aload_n 0, 1) := by decide +kernel
theorem dX1_act_11 : decode cX1_act 11 = .ok (.iload_n 3, 1) := by decide +kernel
theorem dX1_act_12 : decode cX1_act 12 = .ok (.invokevirtual 39, 3) := by decide +kernel
theorem dX1_act_15 : decode cX1_act 15 = .ok (.ifCond .ne 23, 3) := by decide +kernel
theorem dX1_act_18 : decode cX1_act 18 = .ok (.iload_n 2, 1) := by decide +kernel
theorem dX1_act_19 : decode cX1_act 19 = .ok (.iconst 4, 1) := by decide +kernel
theorem dX1_act_20 : decode cX1_act 20 = .ok (.if_icmp .ne 21, 3) := by decide +kernel
theorem dX1_act_23 : decode cX1_act 23 = .ok (.iload 4, 2) := by decide +kernel
theorem dX1_act_25 : decode cX1_act 25 = .ok (.iconst (-1), 1) := by decide +kernel
theorem dX1_act_26 : decode cX1_act 26 = .ok (.if_icmp .eq 15, 3) := by decide +kernel
theorem dX1_act_29 : decode cX1_act 29 = .ok (.aload_n 0, 1) := by decide +kernel
theorem dX1_act_30 : decode cX1_act 30 = .ok (.iload 4, 2) := by decide +kernel
theorem dX1_act_32 : decode cX1_act 32 = .ok (.invokevirtual 39, 3) := by decide +kernel
theorem dX1_act_35 : decode cX1_act 35 = .ok (.ifCond .eq 6, 3) := by decide +kernel
theorem dX1_act_38 : decode cX1_act 38 = .ok (.bipush (-2), 2) := by decide +kernel
theorem dX1_act_40 : decode cX1_act 40 = .ok (.ireturn, 1) := by decide +kernel
theorem dX1_act_41 : decode cX1_act 41 = .ok (.iload_n 2, 1) := by decide +kernel
theorem dX1_act_42 : decode cX1_act 42 = .ok (.ifCond .eq 15, 3) := by decide +kernel
theorem dX1_act_45 : decode cX1_act 45 = .ok (.aload_n 0, 1) := by decide +kernel
theorem dX1_act_46 : decode cX1_act 46 = .ok (.iload_n 1, 1) := by decide +kernel
theorem dX1_act_47 : decode cX1_act 47 = .ok (.iload_n 3, 1) := by decide +kernel
theorem dX1_act_48 : decode cX1_act 48 = .ok (.invokevirtual 42, 3) := by decide +kernel
theorem dX1_act_51 : decode cX1_act 51 = .ok (.ifCond .ne 6, 3) := by decide +kernel
theorem dX1_act_54 : decode cX1_act 54 = .ok (.bipush (-4), 2) := by decide +kernel
theorem dX1_act_56 : decode cX1_act 56 = .ok (.ireturn, 1) := by decide +kernel
theorem dX1_act_57 : decode cX1_act 57 = .ok (.aload_n 0, 1) := by decide +kernel
theorem dX1_act_58 : decode cX1_act 58 = .ok (.getfield 46, 3) := by decide +kernel
theorem dX1_act_61 : decode cX1_act 61 = .ok (.bipush 60, 2) := by decide +kernel
theorem dX1_act_63 : decode cX1_act 63 = .ok (.if_icmp .ne 6, 3) := by decide +kernel
theorem dX1_act_66 : decode cX1_act 66 = .ok (.bipush (-3), 2) := by decide +kernel
theorem dX1_act_68 : decode cX1_act 68 = .ok (.ireturn, 1) := by decide +kernel
theorem dX1_act_69 : decode cX1_act 69 = .ok (.aload_n 0, 1) := by decide +kernel
theorem dX1_act_70 : decode cX1_act 70 = .ok (.getfield 46, 3) := by decide +kernel
theorem dX1_act_73 : decode cX1_act 73 = .ok (.istore 5, 2) := by decide +kernel
theorem dX1_act_75 : decode cX1_act 75 = .ok (.aload_n 0, 1) := by decide +kernel
theorem dX1_act_76 : decode cX1_act 76 = .ok (.getfield 7, 3) := by decide +kernel
theorem dX1_act_79 : decode cX1_act 79 = .ok (.iload 5, 2) := by decide +kernel
theorem dX1_act_81 : decode cX1_act 81 = .ok (.iload_n 2, 1) := by decide +kernel
theorem dX1_act_82 : decode cX1_act 82 = .ok (.iastore, 1) := by decide +kernel
theorem dX1_act_83 : decode cX1_act 83 = .ok (.aload_n 0, 1) := by decide +kernel
theorem dX1_act_84 : decode cX1_act 84 = .ok (.getfield 13, 3) := by decide +kernel
theorem dX1_act_87 : decode cX1_act 87 = .ok (.iload 5, 2) := by decide +kernel
theorem dX1_act_89 : decode cX1_act 89 = .ok (.iload_n 3, 1) := by decide +kernel
theorem dX1_act_90 : decode cX1_act 90 = .ok (.iastore, 1) := by decide +kernel
theorem dX1_act_91 : decode cX1_act 91 = .ok (.aload_n 0, 1) := by decide +kernel
theorem dX1_act_92 : decode cX1_act 92 = .ok (.getfield 16, 3) := by decide +kernel
theorem dX1_act_95 : decode cX1_act 95 = .ok (.iload 5, 2) := by decide +kernel
theorem dX1_act_97 : decode cX1_act 97 = .ok (.iload 4, 2) := by decide +kernel
theorem dX1_act_99 : decode cX1_act 99 = .ok (.iastore, 1) := by decide +kernel
theorem dX1_act_100 : decode cX1_act 100 = .ok (.aload_n 0, 1) := by decide +kernel
theorem dX1_act_101 : decode cX1_act 101 = .ok (.getfield 22, 3) := by decide +kernel
theorem dX1_act_104 : decode cX1_act 104 = .ok (.iload 5, 2) := by decide +kernel
theorem dX1_act_106 : decode cX1_act 106 = .ok (.iload_n 1, 1) := by decide +kernel
theorem dX1_act_107 : decode cX1_act 107 = .ok (.iastore, 1) := by decide +kernel
theorem dX1_act_108 : decode cX1_act 108 = .ok (.aload_n 0, 1) := by decide +kernel
theorem dX1_act_109 : decode cX1_act 109 = .ok (.getfield 25, 3) := by decide +kernel
theorem dX1_act_112 : decode cX1_act 112 = .ok (.iload 5, 2) := by decide +kernel
theorem dX1_act_114 : decode cX1_act 114 = .ok (.aload_n 0, 1) := by decide +kernel
theorem dX1_act_115 : decode cX1_act 115 = .ok (.getfield 29, 3) := by decide +kernel
theorem dX1_act_118 : decode cX1_act 118 = .ok (.iload_n 1, 1) := by decide +kernel
theorem dX1_act_119 : decode cX1_act 119 = .ok (.laload, 1) := by decide +kernel
theorem dX1_act_120 : decode cX1_act 120 = .ok (.lastore, 1) := by decide +kernel
theorem dX1_act_121 : decode cX1_act 121 = .ok (.aload_n 0, 1) := by decide +kernel
theorem dX1_act_122 : decode cX1_act 122 = .ok (.getfield 32, 3) := by decide +kernel
theorem dX1_act_125 : decode cX1_act 125 = .ok (.iload_n 1, 1) := by decide +kernel
theorem dX1_act_126 : decode cX1_act 126 = .ok (.aload_n 0, 1) := by decide +kernel
theorem dX1_act_127 : decode cX1_act 127 = .ok (.getfield 32, 3) := by decide +kernel
theorem dX1_act_130 : decode cX1_act 130 = .ok (.iload_n 1, 1) := by decide +kernel
theorem dX1_act_131 : decode cX1_act 131 = .ok (.iaload, 1) := by decide +kernel
theorem dX1_act_132 : decode cX1_act 132 = .ok (.iconst 1, 1) := by decide +kernel
theorem dX1_act_133 : decode cX1_act 133 = .ok (.iadd, 1) := by decide +kernel
theorem dX1_act_134 : decode cX1_act 134 = .ok (.iastore, 1) := by decide +kernel
theorem dX1_act_135 : decode cX1_act 135 = .ok (.aload_n 0, 1) := by decide +kernel
theorem dX1_act_136 : decode cX1_act 136 = .ok (.getfield 19, 3) := by decide +kernel
theorem dX1_act_139 : decode cX1_act 139 = .ok (.iload 5, 2) := by decide +kernel
theorem dX1_act_141 : decode cX1_act 141 = .ok (.aload_n 0, 1) := by decide +kernel
theorem dX1_act_142 : decode cX1_act 142 = .ok (.getfield 32, 3) := by decide +kernel
theorem dX1_act_145 : decode cX1_act 145 = .ok (.iload_n 1, 1) := by decide +kernel
theorem dX1_act_146 : decode cX1_act 146 = .ok (.iaload, 1) := by decide +kernel
theorem dX1_act_147 : decode cX1_act 147 = .ok (.iastore, 1) := by decide +kernel
theorem dX1_act_148 : decode cX1_act 148 = .ok (.aload_n 0, 1) := by decide +kernel
theorem dX1_act_149 : decode cX1_act 149 = .ok (.getfield 29, 3) := by decide +kernel
theorem dX1_act_152 : decode cX1_act 152 = .ok (.iload_n 1, 1) := by decide +kernel
theorem dX1_act_153 : decode cX1_act 153 = .ok (.aload_n 0, 1) := by decide +kernel
theorem dX1_act_154 : decode cX1_act 154 = .ok (.getfield 29, 3) := by decide +kernel
theorem dX1_act_157 : decode cX1_act 157 = .ok (.iload_n 1, 1) := by decide +kernel
theorem dX1_act_158 : decode cX1_act 158 = .ok (.laload, 1) := by decide +kernel
theorem dX1_act_159 : decode cX1_act 159 = .ok (.lconst 1, 1) := by decide +kernel
theorem dX1_act_160 : decode cX1_act 160 = .ok (.iload 5, 2) := by decide +kernel
theorem dX1_act_162 : decode cX1_act 162 = .ok (.lshl, 1) := by decide +kernel
theorem dX1_act_163 : decode cX1_act 163 = .ok (.lor, 1) := by decide +kernel
theorem dX1_act_164 : decode cX1_act 164 = .ok (.lastore, 1) := by decide +kernel
theorem dX1_act_165 : decode cX1_act 165 = .ok (.aload_n 0, 1) := by decide +kernel
theorem dX1_act_166 : decode cX1_act 166 = .ok (.aload_n 0, 1) := by decide +kernel
theorem dX1_act_167 : decode cX1_act 167 = .ok (.getfield 46, 3) := by decide +kernel
theorem dX1_act_170 : decode cX1_act 170 = .ok (.iconst 1, 1) := by decide +kernel
theorem dX1_act_171 : decode cX1_act 171 = .ok (.iadd, 1) := by decide +kernel
theorem dX1_act_172 : decode cX1_act 172 = .ok (.putfield 46, 3) := by decide +kernel
theorem dX1_act_175 : decode cX1_act 175 = .ok (.iload 5, 2) := by decide +kernel
theorem dX1_act_177 : decode cX1_act 177 = .ok (.ireturn, 1) := by decide +kernel
abbrev cX1_badReplica : ByteArray := prog_3_method_2_code
def yX1_badReplica : MethodName := ⟨RX1, "badReplica", "(I)Z"⟩
theorem dX1_badReplica_0 : decode cX1_badReplica 0 = .ok (.iload_n 1, 1) := by decide +kernel
theorem dX1_badReplica_1 : decode cX1_badReplica 1 = .ok (.ifCond .lt 8, 3) := by decide +kernel
theorem dX1_badReplica_4 : decode cX1_badReplica 4 = .ok (.iload_n 1, 1) := by decide +kernel
theorem dX1_badReplica_5 : decode cX1_badReplica 5 = .ok (.iconst 2, 1) := by decide +kernel
theorem dX1_badReplica_6 : decode cX1_badReplica 6 = .ok (.if_icmp .le 7, 3) := by decide +kernel
theorem dX1_badReplica_9 : decode cX1_badReplica 9 = .ok (.iconst 1, 1) := by decide +kernel
theorem dX1_badReplica_10 : decode cX1_badReplica 10 = .ok (.goto 4, 3) := by decide +kernel
theorem dX1_badReplica_13 : decode cX1_badReplica 13 = .ok (.iconst 0, 1) := by decide +kernel
theorem dX1_badReplica_14 : decode cX1_badReplica 14 = .ok (.ireturn, 1) := by decide +kernel
abbrev cX1_badRow : ByteArray := prog_3_method_3_code
def yX1_badRow : MethodName := ⟨RX1, "badRow", "(I)Z"⟩
theorem dX1_badRow_0 : decode cX1_badRow 0 = .ok (.iload_n 1, 1) := by decide +kernel
theorem dX1_badRow_1 : decode cX1_badRow 1 = .ok (.ifCond .lt 9, 3) := by decide +kernel
theorem dX1_badRow_4 : decode cX1_badRow 4 = .ok (.iload_n 1, 1) := by decide +kernel
theorem dX1_badRow_5 : decode cX1_badRow 5 = .ok (.bipush 7, 2) := by decide +kernel
theorem dX1_badRow_7 : decode cX1_badRow 7 = .ok (.if_icmp .le 7, 3) := by decide +kernel
theorem dX1_badRow_10 : decode cX1_badRow 10 = .ok (.iconst 1, 1) := by decide +kernel
theorem dX1_badRow_11 : decode cX1_badRow 11 = .ok (.goto 4, 3) := by decide +kernel
theorem dX1_badRow_14 : decode cX1_badRow 14 = .ok (.iconst 0, 1) := by decide +kernel
theorem dX1_badRow_15 : decode cX1_badRow 15 = .ok (.ireturn, 1) := by decide +kernel
abbrev cX1_there : ByteArray := prog_3_method_14_code
def yX1_there : MethodName := ⟨RX1, "there", "(II)Z"⟩
theorem dX1_there_0 : decode cX1_there 0 = .ok (.aload_n 0, 1) := by decide +kernel
theorem dX1_there_1 : decode cX1_there 1 = .ok (.iload_n 1, 1) := by decide +kernel
theorem dX1_there_2 : decode cX1_there 2 = .ok (.invokevirtual 35, 3) := by decide +kernel
theorem dX1_there_5 : decode cX1_there 5 = .ok (.ifCond .ne 11, 3) := by decide +kernel
theorem dX1_there_8 : decode cX1_there 8 = .ok (.aload_n 0, 1) := by decide +kernel
theorem dX1_there_9 : decode cX1_there 9 = .ok (.iload_n 2, 1) := by decide +kernel
theorem dX1_there_10 : decode cX1_there 10 = .ok (.invokevirtual 39, 3) := by decide +kernel
theorem dX1_there_13 : decode cX1_there 13 = .ok (.ifCond .eq 5, 3) := by decide +kernel
theorem dX1_there_16 : decode cX1_there 16 = .ok (.iconst 0, 1) := by decide +kernel
theorem dX1_there_17 : decode cX1_there 17 = .ok (.ireturn, 1) := by decide +kernel
theorem dX1_there_18 : decode cX1_there 18 = .ok (.iconst 0, 1) := by decide +kernel
theorem dX1_there_19 : decode cX1_there 19 = .ok (.istore_n 3, 1) := by decide +kernel
theorem dX1_there_20 : decode cX1_there 20 = .ok (.iload_n 3, 1) := by decide +kernel
theorem dX1_there_21 : decode cX1_there 21 = .ok (.aload_n 0, 1) := by decide +kernel
theorem dX1_there_22 : decode cX1_there 22 = .ok (.getfield 46, 3) := by decide +kernel
theorem dX1_there_25 : decode cX1_there 25 = .ok (.if_icmp .ge 53, 3) := by decide +kernel
theorem dX1_there_28 : decode cX1_there 28 = .ok (.aload_n 0, 1) := by decide +kernel
theorem dX1_there_29 : decode cX1_there 29 = .ok (.aload_n 0, 1) := by decide +kernel
theorem dX1_there_30 : decode cX1_there 30 = .ok (.getfield 29, 3) := by decide +kernel
theorem dX1_there_33 : decode cX1_there 33 = .ok (.iload_n 1, 1) := by decide +kernel
theorem dX1_there_34 : decode cX1_there 34 = .ok (.laload, 1) := by decide +kernel
theorem dX1_there_35 : decode cX1_there 35 = .ok (.iload_n 3, 1) := by decide +kernel
theorem dX1_there_36 : decode cX1_there 36 = .ok (.invokevirtual 58, 3) := by decide +kernel
theorem dX1_there_39 : decode cX1_there 39 = .ok (.ifCond .eq 33, 3) := by decide +kernel
theorem dX1_there_42 : decode cX1_there 42 = .ok (.aload_n 0, 1) := by decide +kernel
theorem dX1_there_43 : decode cX1_there 43 = .ok (.getfield 7, 3) := by decide +kernel
theorem dX1_there_46 : decode cX1_there 46 = .ok (.iload_n 3, 1) := by decide +kernel
theorem dX1_there_47 : decode cX1_there 47 = .ok (.iaload, 1) := by decide +kernel
theorem dX1_there_48 : decode cX1_there 48 = .ok (.ifCond .ne 24, 3) := by decide +kernel
theorem dX1_there_51 : decode cX1_there 51 = .ok (.aload_n 0, 1) := by decide +kernel
theorem dX1_there_52 : decode cX1_there 52 = .ok (.getfield 13, 3) := by decide +kernel
theorem dX1_there_55 : decode cX1_there 55 = .ok (.iload_n 3, 1) := by decide +kernel
theorem dX1_there_56 : decode cX1_there 56 = .ok (.iaload, 1) := by decide +kernel
theorem dX1_there_57 : decode cX1_there 57 = .ok (.iload_n 2, 1) := by decide +kernel
theorem dX1_there_58 : decode cX1_there 58 = .ok (.if_icmp .ne 14, 3) := by decide +kernel
theorem dX1_there_61 : decode cX1_there 61 = .ok (.aload_n 0, 1) := by decide +kernel
theorem dX1_there_62 : decode cX1_there 62 = .ok (.iload_n 1, 1) := by decide +kernel
theorem dX1_there_63 : decode cX1_there 63 = .ok (.iload_n 3, 1) := by decide +kernel
theorem dX1_there_64 : decode cX1_there 64 = .ok (.invokevirtual 62, 3) := by decide +kernel
theorem dX1_there_67 : decode cX1_there 67 = .ok (.ifCond .ne 5, 3) := by decide +kernel
theorem dX1_there_70 : decode cX1_there 70 = .ok (.iconst 1, 1) := by decide +kernel
theorem dX1_there_71 : decode cX1_there 71 = .ok (.ireturn, 1) := by decide +kernel
theorem dX1_there_72 : decode cX1_there 72 = .ok (.iinc 3 1, 3) := by decide +kernel
theorem dX1_there_75 : decode cX1_there 75 = .ok (.goto (-55), 3) := by decide +kernel
theorem dX1_there_78 : decode cX1_there 78 = .ok (.iconst 0, 1) := by decide +kernel
theorem dX1_there_79 : decode cX1_there 79 = .ok (.ireturn, 1) := by decide +kernel
abbrev cX1_in : ByteArray := prog_3_method_4_code
def yX1_in : MethodName := ⟨RX1, "in", "(JI)Z"⟩
theorem dX1_in_0 : decode cX1_in 0 = .ok (.lload_n 1, 1) := by decide +kernel
theorem dX1_in_1 : decode cX1_in 1 = .ok (.iload_n 3, 1) := by decide +kernel
theorem dX1_in_2 : decode cX1_in 2 = .ok (.lshr, 1) := by decide +kernel
theorem dX1_in_3 : decode cX1_in 3 = .ok (.lconst 1, 1) := by decide +kernel
theorem dX1_in_4 : decode cX1_in 4 = .ok (.land, 1) := by decide +kernel
theorem dX1_in_5 : decode cX1_in 5 = .ok (.lconst 1, 1) := by decide +kernel
theorem dX1_in_6 : decode cX1_in 6 = .ok (.lcmp, 1) := by decide +kernel
theorem dX1_in_7 : decode cX1_in 7 = .ok (.ifCond .ne 7, 3) := by decide +kernel
theorem dX1_in_10 : decode cX1_in 10 = .ok (.iconst 1, 1) := by decide +kernel
theorem dX1_in_11 : decode cX1_in 11 = .ok (.goto 4, 3) := by decide +kernel
theorem dX1_in_14 : decode cX1_in 14 = .ok (.iconst 0, 1) := by decide +kernel
theorem dX1_in_15 : decode cX1_in 15 = .ok (.ireturn, 1) := by decide +kernel
abbrev cX1_cancelled : ByteArray := prog_3_method_13_code
def yX1_cancelled : MethodName := ⟨RX1, "cancelled", "(II)Z"⟩
theorem dX1_cancelled_0 : decode cX1_cancelled 0 = .ok (.iconst 0, 1) := by decide +kernel
theorem dX1_cancelled_1 : decode cX1_cancelled 1 = .ok (.istore_n 3, 1) := by decide +kernel
theorem dX1_cancelled_2 : decode cX1_cancelled 2 = .ok (.iload_n 3, 1) := by decide +kernel
theorem dX1_cancelled_3 : decode cX1_cancelled 3 = .ok (.aload_n 0, 1) := by decide +kernel
theorem dX1_cancelled_4 : decode cX1_cancelled 4 = .ok (.getfield 46, 3) := by decide +kernel
theorem dX1_cancelled_7 : decode cX1_cancelled 7 = .ok (.if_icmp .ge 64, 3) := by decide +kernel
theorem dX1_cancelled_10 : decode cX1_cancelled 10 = .ok (.aload_n 0, 1) := by decide +kernel
theorem dX1_cancelled_11 : decode cX1_cancelled 11 = .ok (.aload_n 0, 1) := by decide +kernel
theorem dX1_cancelled_12 : decode cX1_cancelled 12 = .ok (.getfield 29, 3) := by decide +kernel
theorem dX1_cancelled_15 : decode cX1_cancelled 15 = .ok (.iload_n 1, 1) := by decide +kernel
theorem dX1_cancelled_16 : decode cX1_cancelled 16 = .ok (.laload, 1) := by decide +kernel
theorem dX1_cancelled_17 : decode cX1_cancelled 17 = .ok (.iload_n 3, 1) := by decide +kernel
theorem dX1_cancelled_18 : decode cX1_cancelled 18 = .ok (.invokevirtual 58, 3) := by decide +kernel
theorem dX1_cancelled_21 : decode cX1_cancelled 21 = .ok (.ifCond .eq 44, 3) := by decide +kernel
theorem dX1_cancelled_24 : decode cX1_cancelled 24 = .ok (.aload_n 0, 1) := by decide +kernel
theorem dX1_cancelled_25 : decode cX1_cancelled 25 = .ok (.getfield 7, 3) := by decide +kernel
theorem dX1_cancelled_28 : decode cX1_cancelled 28 = .ok (.iload_n 3, 1) := by decide +kernel
theorem dX1_cancelled_29 : decode cX1_cancelled 29 = .ok (.iaload, 1) := by decide +kernel
theorem dX1_cancelled_30 : decode cX1_cancelled 30 = .ok (.iconst 1, 1) := by decide +kernel
theorem dX1_cancelled_31 : decode cX1_cancelled 31 = .ok (.if_icmp .ne 34, 3) := by decide +kernel
theorem dX1_cancelled_34 : decode cX1_cancelled 34 = .ok (.aload_n 0, 1) := by decide +kernel
theorem dX1_cancelled_35 : decode cX1_cancelled 35 = .ok (.getfield 13, 3) := by decide +kernel
theorem dX1_cancelled_38 : decode cX1_cancelled 38 = .ok (.iload_n 3, 1) := by decide +kernel
theorem dX1_cancelled_39 : decode cX1_cancelled 39 = .ok (.iaload, 1) := by decide +kernel
theorem dX1_cancelled_40 : decode cX1_cancelled 40 = .ok (.aload_n 0, 1) := by decide +kernel
theorem dX1_cancelled_41 : decode cX1_cancelled 41 = .ok (.getfield 13, 3) := by decide +kernel
theorem dX1_cancelled_44 : decode cX1_cancelled 44 = .ok (.iload_n 2, 1) := by decide +kernel
theorem dX1_cancelled_45 : decode cX1_cancelled 45 = .ok (.iaload, 1) := by decide +kernel
theorem dX1_cancelled_46 : decode cX1_cancelled 46 = .ok (.if_icmp .ne 19, 3) := by decide +kernel
theorem dX1_cancelled_49 : decode cX1_cancelled 49 = .ok (.aload_n 0, 1) := by decide +kernel
theorem dX1_cancelled_50 : decode cX1_cancelled 50 = .ok (.aload_n 0, 1) := by decide +kernel
theorem dX1_cancelled_51 : decode cX1_cancelled 51 = .ok (.getfield 25, 3) := by decide +kernel
theorem dX1_cancelled_54 : decode cX1_cancelled 54 = .ok (.iload_n 3, 1) := by decide +kernel
theorem dX1_cancelled_55 : decode cX1_cancelled 55 = .ok (.laload, 1) := by decide +kernel
theorem dX1_cancelled_56 : decode cX1_cancelled 56 = .ok (.iload_n 2, 1) := by decide +kernel
theorem dX1_cancelled_57 : decode cX1_cancelled 57 = .ok (.invokevirtual 58, 3) := by decide +kernel
theorem dX1_cancelled_60 : decode cX1_cancelled 60 = .ok (.ifCond .eq 5, 3) := by decide +kernel
theorem dX1_cancelled_63 : decode cX1_cancelled 63 = .ok (.iconst 1, 1) := by decide +kernel
theorem dX1_cancelled_64 : decode cX1_cancelled 64 = .ok (.ireturn, 1) := by decide +kernel
theorem dX1_cancelled_65 : decode cX1_cancelled 65 = .ok (.iinc 3 1, 3) := by decide +kernel
theorem dX1_cancelled_68 : decode cX1_cancelled 68 = .ok (.goto (-66), 3) := by decide +kernel
theorem dX1_cancelled_71 : decode cX1_cancelled 71 = .ok (.iconst 0, 1) := by decide +kernel
theorem dX1_cancelled_72 : decode cX1_cancelled 72 = .ok (.ireturn, 1) := by decide +kernel
abbrev cX1_drop : ByteArray := prog_3_method_7_code
def yX1_drop : MethodName := ⟨RX1, "drop", "(II)I"⟩
theorem dX1_drop_0 : decode cX1_drop 0 = .ok (.aload_n 0, 1) := by decide +kernel
theorem dX1_drop_1 : decode cX1_drop 1 = .ok (.iload_n 1, 1) := by decide +kernel
theorem dX1_drop_2 : decode cX1_drop 2 = .ok (.iconst 1, 1) := by decide +kernel
theorem dX1_drop_3 : decode cX1_drop 3 = .ok (.iload_n 2, 1) := by decide +kernel
theorem dX1_drop_4 : decode cX1_drop 4 = .ok (.iconst 0, 1) := by decide +kernel
theorem dX1_drop_5 : decode cX1_drop 5 = .ok (.invokevirtual 50, 3) := by decide +kernel
theorem dX1_drop_8 : decode cX1_drop 8 = .ok (.ireturn, 1) := by decide +kernel
abbrev cX1_name : ByteArray := prog_3_method_8_code
def yX1_name : MethodName := ⟨RX1, "name", "(III)I"⟩
theorem dX1_name_0 : decode cX1_name 0 = .ok (.aload_n 0, 1) := by decide +kernel
theorem dX1_name_1 : decode cX1_name 1 = .ok (.iload_n 1, 1) := by decide +kernel
theorem dX1_name_2 : decode cX1_name 2 = .ok (.iconst 2, 1) := by decide +kernel
theorem dX1_name_3 : decode cX1_name 3 = .ok (.iload_n 2, 1) := by decide +kernel
theorem dX1_name_4 : decode cX1_name 4 = .ok (.iload_n 3, 1) := by decide +kernel
theorem dX1_name_5 : decode cX1_name 5 = .ok (.invokevirtual 50, 3) := by decide +kernel
theorem dX1_name_8 : decode cX1_name 8 = .ok (.ireturn, 1) := by decide +kernel
abbrev cX1_count : ByteArray := prog_3_method_9_code
def yX1_count : MethodName := ⟨RX1, "count", "(III)I"⟩
theorem dX1_count_0 : decode cX1_count 0 = .ok (.aload_n 0, 1) := by decide +kernel
theorem dX1_count_1 : decode cX1_count 1 = .ok (.iload_n 1, 1) := by decide +kernel
theorem dX1_count_2 : decode cX1_count 2 = .ok (.iconst 3, 1) := by decide +kernel
theorem dX1_count_3 : decode cX1_count 3 = .ok (.iload_n 2, 1) := by decide +kernel
theorem dX1_count_4 : decode cX1_count 4 = .ok (.iload_n 3, 1) := by decide +kernel
theorem dX1_count_5 : decode cX1_count 5 = .ok (.invokevirtual 50, 3) := by decide +kernel
theorem dX1_count_8 : decode cX1_count 8 = .ok (.ireturn, 1) := by decide +kernel
abbrev cX1_link : ByteArray := prog_3_method_10_code
def yX1_link : MethodName := ⟨RX1, "link", "(III)I"⟩
theorem dX1_link_0 : decode cX1_link 0 = .ok (.aload_n 0, 1) := by decide +kernel
theorem dX1_link_1 : decode cX1_link 1 = .ok (.iload_n 1, 1) := by decide +kernel
theorem dX1_link_2 : decode cX1_link 2 = .ok (.iconst 4, 1) := by decide +kernel
theorem dX1_link_3 : decode cX1_link 3 = .ok (.iload_n 2, 1) := by decide +kernel
theorem dX1_link_4 : decode cX1_link 4 = .ok (.iload_n 3, 1) := by decide +kernel
theorem dX1_link_5 : decode cX1_link 5 = .ok (.invokevirtual 50, 3) := by decide +kernel
theorem dX1_link_8 : decode cX1_link 8 = .ok (.ireturn, 1) := by decide +kernel
abbrev cX1_learn : ByteArray := prog_3_method_11_code
def yX1_learn : MethodName := ⟨RX1, "learn", "(II)I"⟩
theorem dX1_learn_0 : decode cX1_learn 0 = .ok (.aload_n 0, 1) := by decide +kernel
theorem dX1_learn_1 : decode cX1_learn 1 = .ok (.iload_n 1, 1) := by decide +kernel
theorem dX1_learn_2 : decode cX1_learn 2 = .ok (.iload_n 2, 1) := by decide +kernel
theorem dX1_learn_3 : decode cX1_learn 3 = .ok (.bipush 60, 2) := by decide +kernel
theorem dX1_learn_5 : decode cX1_learn 5 = .ok (.invokevirtual 54, 3) := by decide +kernel
theorem dX1_learn_8 : decode cX1_learn 8 = .ok (.ireturn, 1) := by decide +kernel
abbrev cX1_learnSome : ByteArray := prog_3_method_12_code
def yX1_learnSome : MethodName := ⟨RX1, "learnSome", "(III)I"⟩
theorem dX1_learnSome_0 : decode cX1_learnSome 0 = .ok (.aload_n 0, 1) := by decide +kernel
theorem dX1_learnSome_1 : decode cX1_learnSome 1 = .ok (.iload_n 1, 1) := by decide +kernel
theorem dX1_learnSome_2 : decode cX1_learnSome 2 = .ok (.invokevirtual 35, 3) := by decide +kernel
theorem dX1_learnSome_5 : decode cX1_learnSome 5 = .ok (.ifCond .ne 11, 3) := by decide +kernel
theorem dX1_learnSome_8 : decode cX1_learnSome 8 = .ok (.aload_n 0, 1) := by decide +kernel
theorem dX1_learnSome_9 : decode cX1_learnSome 9 = .ok (.iload_n 2, 1) := by decide +kernel
theorem dX1_learnSome_10 : decode cX1_learnSome 10 = .ok (.invokevirtual 35, 3) := by decide +kernel
theorem dX1_learnSome_13 : decode cX1_learnSome 13 = .ok (.ifCond .eq 5, 3) := by decide +kernel
theorem dX1_learnSome_16 : decode cX1_learnSome 16 = .ok (.iconst (-1), 1) := by decide +kernel
theorem dX1_learnSome_17 : decode cX1_learnSome 17 = .ok (.ireturn, 1) := by decide +kernel
theorem dX1_learnSome_18 : decode cX1_learnSome 18 = .ok (.iload_n 1, 1) := by decide +kernel
theorem dX1_learnSome_19 : decode cX1_learnSome 19 = .ok (.iload_n 2, 1) := by decide +kernel
theorem dX1_learnSome_20 : decode cX1_learnSome 20 = .ok (.if_icmp .ne 6, 3) := by decide +kernel
theorem dX1_learnSome_23 : decode cX1_learnSome 23 = .ok (.bipush (-5), 2) := by decide +kernel
theorem dX1_learnSome_25 : decode cX1_learnSome 25 = .ok (.ireturn, 1) := by decide +kernel
theorem dX1_learnSome_26 : decode cX1_learnSome 26 = .ok (.iconst 0, 1) := by decide +kernel
theorem dX1_learnSome_27 : decode cX1_learnSome 27 = .ok (.istore 4, 2) := by decide +kernel
theorem dX1_learnSome_29 : decode cX1_learnSome 29 = .ok (.iconst 0, 1) := by decide +kernel
theorem dX1_learnSome_30 : decode cX1_learnSome 30 = .ok (.istore 5, 2) := by decide +kernel
theorem dX1_learnSome_32 : decode cX1_learnSome 32 = .ok (.iload 5, 2) := by decide +kernel
theorem dX1_learnSome_34 : decode cX1_learnSome 34 = .ok (.aload_n 0, 1) := by decide +kernel
theorem dX1_learnSome_35 : decode cX1_learnSome 35 = .ok (.getfield 46, 3) := by decide +kernel
theorem dX1_learnSome_38 : decode cX1_learnSome 38 = .ok (.if_icmp .ge 94, 3) := by decide +kernel
theorem dX1_learnSome_41 : decode cX1_learnSome 41 = .ok (.iload 4, 2) := by decide +kernel
theorem dX1_learnSome_43 : decode cX1_learnSome 43 = .ok (.iload_n 3, 1) := by decide +kernel
theorem dX1_learnSome_44 : decode cX1_learnSome 44 = .ok (.if_icmp .ge 82, 3) := by decide +kernel
theorem dX1_learnSome_47 : decode cX1_learnSome 47 = .ok (.aload_n 0, 1) := by decide +kernel
theorem dX1_learnSome_48 : decode cX1_learnSome 48 = .ok (.aload_n 0, 1) := by decide +kernel
theorem dX1_learnSome_49 : decode cX1_learnSome 49 = .ok (.getfield 29, 3) := by decide +kernel
theorem dX1_learnSome_52 : decode cX1_learnSome 52 = .ok (.iload_n 2, 1) := by decide +kernel
theorem dX1_learnSome_53 : decode cX1_learnSome 53 = .ok (.laload, 1) := by decide +kernel
theorem dX1_learnSome_54 : decode cX1_learnSome 54 = .ok (.iload 5, 2) := by decide +kernel
theorem dX1_learnSome_56 : decode cX1_learnSome 56 = .ok (.invokevirtual 58, 3) := by decide +kernel
theorem dX1_learnSome_59 : decode cX1_learnSome 59 = .ok (.ifCond .eq 67, 3) := by decide +kernel
theorem dX1_learnSome_62 : decode cX1_learnSome 62 = .ok (.aload_n 0, 1) := by decide +kernel
theorem dX1_learnSome_63 : decode cX1_learnSome 63 = .ok (.aload_n 0, 1) := by decide +kernel
theorem dX1_learnSome_64 : decode cX1_learnSome 64 = .ok (.getfield 29, 3) := by decide +kernel
theorem dX1_learnSome_67 : decode cX1_learnSome 67 = .ok (.iload_n 1, 1) := by decide +kernel
theorem dX1_learnSome_68 : decode cX1_learnSome 68 = .ok (.laload, 1) := by decide +kernel
theorem dX1_learnSome_69 : decode cX1_learnSome 69 = .ok (.iload 5, 2) := by decide +kernel
theorem dX1_learnSome_71 : decode cX1_learnSome 71 = .ok (.invokevirtual 58, 3) := by decide +kernel
theorem dX1_learnSome_74 : decode cX1_learnSome 74 = .ok (.ifCond .ne 52, 3) := by decide +kernel
theorem dX1_learnSome_77 : decode cX1_learnSome 77 = .ok (.aload_n 0, 1) := by decide +kernel
theorem dX1_learnSome_78 : decode cX1_learnSome 78 = .ok (.getfield 29, 3) := by decide +kernel
theorem dX1_learnSome_81 : decode cX1_learnSome 81 = .ok (.iload_n 1, 1) := by decide +kernel
theorem dX1_learnSome_82 : decode cX1_learnSome 82 = .ok (.aload_n 0, 1) := by decide +kernel
theorem dX1_learnSome_83 : decode cX1_learnSome 83 = .ok (.getfield 29, 3) := by decide +kernel
theorem dX1_learnSome_86 : decode cX1_learnSome 86 = .ok (.iload_n 1, 1) := by decide +kernel
theorem dX1_learnSome_87 : decode cX1_learnSome 87 = .ok (.laload, 1) := by decide +kernel
theorem dX1_learnSome_88 : decode cX1_learnSome 88 = .ok (.lconst 1, 1) := by decide +kernel
theorem dX1_learnSome_89 : decode cX1_learnSome 89 = .ok (.iload 5, 2) := by decide +kernel
theorem dX1_learnSome_91 : decode cX1_learnSome 91 = .ok (.lshl, 1) := by decide +kernel
theorem dX1_learnSome_92 : decode cX1_learnSome 92 = .ok (.lor, 1) := by decide +kernel
theorem dX1_learnSome_93 : decode cX1_learnSome 93 = .ok (.lastore, 1) := by decide +kernel
theorem dX1_learnSome_94 : decode cX1_learnSome 94 = .ok (.aload_n 0, 1) := by decide +kernel
theorem dX1_learnSome_95 : decode cX1_learnSome 95 = .ok (.getfield 19, 3) := by decide +kernel
theorem dX1_learnSome_98 : decode cX1_learnSome 98 = .ok (.iload 5, 2) := by decide +kernel
theorem dX1_learnSome_100 : decode cX1_learnSome 100 = .ok (.iaload, 1) := by decide +kernel
theorem dX1_learnSome_101 : decode cX1_learnSome 101 = .ok (.aload_n 0, 1) := by decide +kernel
theorem dX1_learnSome_102 : decode cX1_learnSome 102 = .ok (.getfield 32, 3) := by decide +kernel
theorem dX1_learnSome_105 : decode cX1_learnSome 105 = .ok (.iload_n 1, 1) := by decide +kernel
theorem dX1_learnSome_106 : decode cX1_learnSome 106 = .ok (.iaload, 1) := by decide +kernel
theorem dX1_learnSome_107 : decode cX1_learnSome 107 = .ok (.if_icmp .le 16, 3) := by decide +kernel
theorem dX1_learnSome_110 : decode cX1_learnSome 110 = .ok (.aload_n 0, 1) := by decide +kernel
theorem dX1_learnSome_111 : decode cX1_learnSome 111 = .ok (.getfield 32, 3) := by decide +kernel
theorem dX1_learnSome_114 : decode cX1_learnSome 114 = .ok (.iload_n 1, 1) := by decide +kernel
theorem dX1_learnSome_115 : decode cX1_learnSome 115 = .ok (.aload_n 0, 1) := by decide +kernel
theorem dX1_learnSome_116 : decode cX1_learnSome 116 = .ok (.getfield 19, 3) := by decide +kernel
theorem dX1_learnSome_119 : decode cX1_learnSome 119 = .ok (.iload 5, 2) := by decide +kernel
theorem dX1_learnSome_121 : decode cX1_learnSome 121 = .ok (.iaload, 1) := by decide +kernel
theorem dX1_learnSome_122 : decode cX1_learnSome 122 = .ok (.iastore, 1) := by decide +kernel
theorem dX1_learnSome_123 : decode cX1_learnSome 123 = .ok (.iinc 4 1, 3) := by decide +kernel
theorem dX1_learnSome_126 : decode cX1_learnSome 126 = .ok (.iinc 5 1, 3) := by decide +kernel
theorem dX1_learnSome_129 : decode cX1_learnSome 129 = .ok (.goto (-97), 3) := by decide +kernel
theorem dX1_learnSome_132 : decode cX1_learnSome 132 = .ok (.iload 4, 2) := by decide +kernel
theorem dX1_learnSome_134 : decode cX1_learnSome 134 = .ok (.ireturn, 1) := by decide +kernel
abbrev cX1_nameOf : ByteArray := prog_3_method_16_code
def yX1_nameOf : MethodName := ⟨RX1, "nameOf", "(II)I"⟩
theorem dX1_nameOf_0 : decode cX1_nameOf 0 = .ok (.aload_n 0, 1) := by decide +kernel
theorem dX1_nameOf_1 : decode cX1_nameOf 1 = .ok (.iload_n 1, 1) := by decide +kernel
theorem dX1_nameOf_2 : decode cX1_nameOf 2 = .ok (.iload_n 2, 1) := by decide +kernel
theorem dX1_nameOf_3 : decode cX1_nameOf 3 = .ok (.invokevirtual 42, 3) := by decide +kernel
theorem dX1_nameOf_6 : decode cX1_nameOf 6 = .ok (.ifCond .ne 5, 3) := by decide +kernel
theorem dX1_nameOf_9 : decode cX1_nameOf 9 = .ok (.iconst 0, 1) := by decide +kernel
theorem dX1_nameOf_10 : decode cX1_nameOf 10 = .ok (.ireturn, 1) := by decide +kernel
theorem dX1_nameOf_11 : decode cX1_nameOf 11 = .ok (.aload_n 0, 1) := by decide +kernel
theorem dX1_nameOf_12 : decode cX1_nameOf 12 = .ok (.iload_n 1, 1) := by decide +kernel
theorem dX1_nameOf_13 : decode cX1_nameOf 13 = .ok (.iload_n 2, 1) := by decide +kernel
theorem dX1_nameOf_14 : decode cX1_nameOf 14 = .ok (.iconst 2, 1) := by decide +kernel
theorem dX1_nameOf_15 : decode cX1_nameOf 15 = .ok (.invokevirtual 65, 3) := by decide +kernel
theorem dX1_nameOf_18 : decode cX1_nameOf 18 = .ok (.istore_n 3, 1) := by decide +kernel
theorem dX1_nameOf_19 : decode cX1_nameOf 19 = .ok (.iload_n 3, 1) := by decide +kernel
theorem dX1_nameOf_20 : decode cX1_nameOf 20 = .ok (.ifCond .ge 7, 3) := by decide +kernel
theorem dX1_nameOf_23 : decode cX1_nameOf 23 = .ok (.iconst 0, 1) := by decide +kernel
theorem dX1_nameOf_24 : decode cX1_nameOf 24 = .ok (.goto 9, 3) := by decide +kernel
theorem dX1_nameOf_27 : decode cX1_nameOf 27 = .ok (.aload_n 0, 1) := by decide +kernel
theorem dX1_nameOf_28 : decode cX1_nameOf 28 = .ok (.getfield 16, 3) := by decide +kernel
theorem dX1_nameOf_31 : decode cX1_nameOf 31 = .ok (.iload_n 3, 1) := by decide +kernel
theorem dX1_nameOf_32 : decode cX1_nameOf 32 = .ok (.iaload, 1) := by decide +kernel
theorem dX1_nameOf_33 : decode cX1_nameOf 33 = .ok (.ireturn, 1) := by decide +kernel
abbrev cX1_last : ByteArray := prog_3_method_15_code
def yX1_last : MethodName := ⟨RX1, "last", "(III)I"⟩
theorem dX1_last_0 : decode cX1_last 0 = .ok (.iconst (-1), 1) := by decide +kernel
theorem dX1_last_1 : decode cX1_last 1 = .ok (.istore 4, 2) := by decide +kernel
theorem dX1_last_3 : decode cX1_last 3 = .ok (.iconst 0, 1) := by decide +kernel
theorem dX1_last_4 : decode cX1_last 4 = .ok (.istore 5, 2) := by decide +kernel
theorem dX1_last_6 : decode cX1_last 6 = .ok (.iload 5, 2) := by decide +kernel
theorem dX1_last_8 : decode cX1_last 8 = .ok (.aload_n 0, 1) := by decide +kernel
theorem dX1_last_9 : decode cX1_last 9 = .ok (.getfield 46, 3) := by decide +kernel
theorem dX1_last_12 : decode cX1_last 12 = .ok (.if_icmp .ge 106, 3) := by decide +kernel
theorem dX1_last_15 : decode cX1_last 15 = .ok (.aload_n 0, 1) := by decide +kernel
theorem dX1_last_16 : decode cX1_last 16 = .ok (.aload_n 0, 1) := by decide +kernel
theorem dX1_last_17 : decode cX1_last 17 = .ok (.getfield 29, 3) := by decide +kernel
theorem dX1_last_20 : decode cX1_last 20 = .ok (.iload_n 1, 1) := by decide +kernel
theorem dX1_last_21 : decode cX1_last 21 = .ok (.laload, 1) := by decide +kernel
theorem dX1_last_22 : decode cX1_last 22 = .ok (.iload 5, 2) := by decide +kernel
theorem dX1_last_24 : decode cX1_last 24 = .ok (.invokevirtual 58, 3) := by decide +kernel
theorem dX1_last_27 : decode cX1_last 27 = .ok (.ifCond .eq 85, 3) := by decide +kernel
theorem dX1_last_30 : decode cX1_last 30 = .ok (.aload_n 0, 1) := by decide +kernel
theorem dX1_last_31 : decode cX1_last 31 = .ok (.getfield 7, 3) := by decide +kernel
theorem dX1_last_34 : decode cX1_last 34 = .ok (.iload 5, 2) := by decide +kernel
theorem dX1_last_36 : decode cX1_last 36 = .ok (.iaload, 1) := by decide +kernel
theorem dX1_last_37 : decode cX1_last 37 = .ok (.iload_n 3, 1) := by decide +kernel
theorem dX1_last_38 : decode cX1_last 38 = .ok (.if_icmp .ne 74, 3) := by decide +kernel
theorem dX1_last_41 : decode cX1_last 41 = .ok (.aload_n 0, 1) := by decide +kernel
theorem dX1_last_42 : decode cX1_last 42 = .ok (.getfield 13, 3) := by decide +kernel
theorem dX1_last_45 : decode cX1_last 45 = .ok (.iload 5, 2) := by decide +kernel
theorem dX1_last_47 : decode cX1_last 47 = .ok (.iaload, 1) := by decide +kernel
theorem dX1_last_48 : decode cX1_last 48 = .ok (.iload_n 2, 1) := by decide +kernel
theorem dX1_last_49 : decode cX1_last 49 = .ok (.if_icmp .ne 63, 3) := by decide +kernel
theorem dX1_last_52 : decode cX1_last 52 = .ok (.iload 4, 2) := by decide +kernel
theorem dX1_last_54 : decode cX1_last 54 = .ok (.ifCond .lt 54, 3) := by decide +kernel
theorem dX1_last_57 : decode cX1_last 57 = .ok (.aload_n 0, 1) := by decide +kernel
theorem dX1_last_58 : decode cX1_last 58 = .ok (.getfield 19, 3) := by decide +kernel
theorem dX1_last_61 : decode cX1_last 61 = .ok (.iload 5, 2) := by decide +kernel
theorem dX1_last_63 : decode cX1_last 63 = .ok (.iaload, 1) := by decide +kernel
theorem dX1_last_64 : decode cX1_last 64 = .ok (.aload_n 0, 1) := by decide +kernel
theorem dX1_last_65 : decode cX1_last 65 = .ok (.getfield 19, 3) := by decide +kernel
theorem dX1_last_68 : decode cX1_last 68 = .ok (.iload 4, 2) := by decide +kernel
theorem dX1_last_70 : decode cX1_last 70 = .ok (.iaload, 1) := by decide +kernel
theorem dX1_last_71 : decode cX1_last 71 = .ok (.if_icmp .gt 37, 3) := by decide +kernel
theorem dX1_last_74 : decode cX1_last 74 = .ok (.aload_n 0, 1) := by decide +kernel
theorem dX1_last_75 : decode cX1_last 75 = .ok (.getfield 19, 3) := by decide +kernel
theorem dX1_last_78 : decode cX1_last 78 = .ok (.iload 5, 2) := by decide +kernel
theorem dX1_last_80 : decode cX1_last 80 = .ok (.iaload, 1) := by decide +kernel
theorem dX1_last_81 : decode cX1_last 81 = .ok (.aload_n 0, 1) := by decide +kernel
theorem dX1_last_82 : decode cX1_last 82 = .ok (.getfield 19, 3) := by decide +kernel
theorem dX1_last_85 : decode cX1_last 85 = .ok (.iload 4, 2) := by decide +kernel
theorem dX1_last_87 : decode cX1_last 87 = .ok (.iaload, 1) := by decide +kernel
theorem dX1_last_88 : decode cX1_last 88 = .ok (.if_icmp .ne 24, 3) := by decide +kernel
theorem dX1_last_91 : decode cX1_last 91 = .ok (.aload_n 0, 1) := by decide +kernel
theorem dX1_last_92 : decode cX1_last 92 = .ok (.getfield 22, 3) := by decide +kernel
theorem dX1_last_95 : decode cX1_last 95 = .ok (.iload 5, 2) := by decide +kernel
theorem dX1_last_97 : decode cX1_last 97 = .ok (.iaload, 1) := by decide +kernel
theorem dX1_last_98 : decode cX1_last 98 = .ok (.aload_n 0, 1) := by decide +kernel
theorem dX1_last_99 : decode cX1_last 99 = .ok (.getfield 22, 3) := by decide +kernel
theorem dX1_last_102 : decode cX1_last 102 = .ok (.iload 4, 2) := by decide +kernel
theorem dX1_last_104 : decode cX1_last 104 = .ok (.iaload, 1) := by decide +kernel
theorem dX1_last_105 : decode cX1_last 105 = .ok (.if_icmp .le 7, 3) := by decide +kernel
theorem dX1_last_108 : decode cX1_last 108 = .ok (.iload 5, 2) := by decide +kernel
theorem dX1_last_110 : decode cX1_last 110 = .ok (.istore 4, 2) := by decide +kernel
theorem dX1_last_112 : decode cX1_last 112 = .ok (.iinc 5 1, 3) := by decide +kernel
theorem dX1_last_115 : decode cX1_last 115 = .ok (.goto (-109), 3) := by decide +kernel
theorem dX1_last_118 : decode cX1_last 118 = .ok (.iload 4, 2) := by decide +kernel
theorem dX1_last_120 : decode cX1_last 120 = .ok (.ireturn, 1) := by decide +kernel
abbrev cX1_countOf : ByteArray := prog_3_method_17_code
def yX1_countOf : MethodName := ⟨RX1, "countOf", "(II)I"⟩
theorem dX1_countOf_0 : decode cX1_countOf 0 = .ok (.aload_n 0, 1) := by decide +kernel
theorem dX1_countOf_1 : decode cX1_countOf 1 = .ok (.iload_n 1, 1) := by decide +kernel
theorem dX1_countOf_2 : decode cX1_countOf 2 = .ok (.iload_n 2, 1) := by decide +kernel
theorem dX1_countOf_3 : decode cX1_countOf 3 = .ok (.invokevirtual 42, 3) := by decide +kernel
theorem dX1_countOf_6 : decode cX1_countOf 6 = .ok (.ifCond .ne 5, 3) := by decide +kernel
theorem dX1_countOf_9 : decode cX1_countOf 9 = .ok (.iconst 0, 1) := by decide +kernel
theorem dX1_countOf_10 : decode cX1_countOf 10 = .ok (.ireturn, 1) := by decide +kernel
theorem dX1_countOf_11 : decode cX1_countOf 11 = .ok (.iconst 0, 1) := by decide +kernel
theorem dX1_countOf_12 : decode cX1_countOf 12 = .ok (.istore_n 3, 1) := by decide +kernel
theorem dX1_countOf_13 : decode cX1_countOf 13 = .ok (.iconst 0, 1) := by decide +kernel
theorem dX1_countOf_14 : decode cX1_countOf 14 = .ok (.istore 4, 2) := by decide +kernel
theorem dX1_countOf_16 : decode cX1_countOf 16 = .ok (.iload 4, 2) := by decide +kernel
theorem dX1_countOf_18 : decode cX1_countOf 18 = .ok (.aload_n 0, 1) := by decide +kernel
theorem dX1_countOf_19 : decode cX1_countOf 19 = .ok (.getfield 46, 3) := by decide +kernel
theorem dX1_countOf_22 : decode cX1_countOf 22 = .ok (.if_icmp .ge 56, 3) := by decide +kernel
theorem dX1_countOf_25 : decode cX1_countOf 25 = .ok (.aload_n 0, 1) := by decide +kernel
theorem dX1_countOf_26 : decode cX1_countOf 26 = .ok (.aload_n 0, 1) := by decide +kernel
theorem dX1_countOf_27 : decode cX1_countOf 27 = .ok (.getfield 29, 3) := by decide +kernel
theorem dX1_countOf_30 : decode cX1_countOf 30 = .ok (.iload_n 1, 1) := by decide +kernel
theorem dX1_countOf_31 : decode cX1_countOf 31 = .ok (.laload, 1) := by decide +kernel
theorem dX1_countOf_32 : decode cX1_countOf 32 = .ok (.iload 4, 2) := by decide +kernel
theorem dX1_countOf_34 : decode cX1_countOf 34 = .ok (.invokevirtual 58, 3) := by decide +kernel
theorem dX1_countOf_37 : decode cX1_countOf 37 = .ok (.ifCond .eq 35, 3) := by decide +kernel
theorem dX1_countOf_40 : decode cX1_countOf 40 = .ok (.aload_n 0, 1) := by decide +kernel
theorem dX1_countOf_41 : decode cX1_countOf 41 = .ok (.getfield 7, 3) := by decide +kernel
theorem dX1_countOf_44 : decode cX1_countOf 44 = .ok (.iload 4, 2) := by decide +kernel
theorem dX1_countOf_46 : decode cX1_countOf 46 = .ok (.iaload, 1) := by decide +kernel
theorem dX1_countOf_47 : decode cX1_countOf 47 = .ok (.iconst 3, 1) := by decide +kernel
theorem dX1_countOf_48 : decode cX1_countOf 48 = .ok (.if_icmp .ne 24, 3) := by decide +kernel
theorem dX1_countOf_51 : decode cX1_countOf 51 = .ok (.aload_n 0, 1) := by decide +kernel
theorem dX1_countOf_52 : decode cX1_countOf 52 = .ok (.getfield 13, 3) := by decide +kernel
theorem dX1_countOf_55 : decode cX1_countOf 55 = .ok (.iload 4, 2) := by decide +kernel
theorem dX1_countOf_57 : decode cX1_countOf 57 = .ok (.iaload, 1) := by decide +kernel
theorem dX1_countOf_58 : decode cX1_countOf 58 = .ok (.iload_n 2, 1) := by decide +kernel
theorem dX1_countOf_59 : decode cX1_countOf 59 = .ok (.if_icmp .ne 13, 3) := by decide +kernel
theorem dX1_countOf_62 : decode cX1_countOf 62 = .ok (.iload_n 3, 1) := by decide +kernel
theorem dX1_countOf_63 : decode cX1_countOf 63 = .ok (.aload_n 0, 1) := by decide +kernel
theorem dX1_countOf_64 : decode cX1_countOf 64 = .ok (.getfield 16, 3) := by decide +kernel
theorem dX1_countOf_67 : decode cX1_countOf 67 = .ok (.iload 4, 2) := by decide +kernel
theorem dX1_countOf_69 : decode cX1_countOf 69 = .ok (.iaload, 1) := by decide +kernel
theorem dX1_countOf_70 : decode cX1_countOf 70 = .ok (.iadd, 1) := by decide +kernel
theorem dX1_countOf_71 : decode cX1_countOf 71 = .ok (.istore_n 3, 1) := by decide +kernel
theorem dX1_countOf_72 : decode cX1_countOf 72 = .ok (.iinc 4 1, 3) := by decide +kernel
theorem dX1_countOf_75 : decode cX1_countOf 75 = .ok (.goto (-59), 3) := by decide +kernel
theorem dX1_countOf_78 : decode cX1_countOf 78 = .ok (.iload_n 3, 1) := by decide +kernel
theorem dX1_countOf_79 : decode cX1_countOf 79 = .ok (.ireturn, 1) := by decide +kernel
abbrev cX1_linkOf : ByteArray := prog_3_method_18_code
def yX1_linkOf : MethodName := ⟨RX1, "linkOf", "(II)I"⟩
theorem dX1_linkOf_0 : decode cX1_linkOf 0 = .ok (.aload_n 0, 1) := by decide +kernel
theorem dX1_linkOf_1 : decode cX1_linkOf 1 = .ok (.iload_n 1, 1) := by decide +kernel
theorem dX1_linkOf_2 : decode cX1_linkOf 2 = .ok (.iload_n 2, 1) := by decide +kernel
theorem dX1_linkOf_3 : decode cX1_linkOf 3 = .ok (.invokevirtual 42, 3) := by decide +kernel
theorem dX1_linkOf_6 : decode cX1_linkOf 6 = .ok (.ifCond .ne 5, 3) := by decide +kernel
theorem dX1_linkOf_9 : decode cX1_linkOf 9 = .ok (.iconst (-1), 1) := by decide +kernel
theorem dX1_linkOf_10 : decode cX1_linkOf 10 = .ok (.ireturn, 1) := by decide +kernel
theorem dX1_linkOf_11 : decode cX1_linkOf 11 = .ok (.aload_n 0, 1) := by decide +kernel
theorem dX1_linkOf_12 : decode cX1_linkOf 12 = .ok (.iload_n 1, 1) := by decide +kernel
theorem dX1_linkOf_13 : decode cX1_linkOf 13 = .ok (.iload_n 2, 1) := by decide +kernel
theorem dX1_linkOf_14 : decode cX1_linkOf 14 = .ok (.iconst 4, 1) := by decide +kernel
theorem dX1_linkOf_15 : decode cX1_linkOf 15 = .ok (.invokevirtual 65, 3) := by decide +kernel
theorem dX1_linkOf_18 : decode cX1_linkOf 18 = .ok (.istore_n 3, 1) := by decide +kernel
theorem dX1_linkOf_19 : decode cX1_linkOf 19 = .ok (.iload_n 3, 1) := by decide +kernel
theorem dX1_linkOf_20 : decode cX1_linkOf 20 = .ok (.ifCond .lt 26, 3) := by decide +kernel
theorem dX1_linkOf_23 : decode cX1_linkOf 23 = .ok (.aload_n 0, 1) := by decide +kernel
theorem dX1_linkOf_24 : decode cX1_linkOf 24 = .ok (.iload_n 1, 1) := by decide +kernel
theorem dX1_linkOf_25 : decode cX1_linkOf 25 = .ok (.aload_n 0, 1) := by decide +kernel
theorem dX1_linkOf_26 : decode cX1_linkOf 26 = .ok (.getfield 16, 3) := by decide +kernel
theorem dX1_linkOf_29 : decode cX1_linkOf 29 = .ok (.iload_n 3, 1) := by decide +kernel
theorem dX1_linkOf_30 : decode cX1_linkOf 30 = .ok (.iaload, 1) := by decide +kernel
theorem dX1_linkOf_31 : decode cX1_linkOf 31 = .ok (.invokevirtual 42, 3) := by decide +kernel
theorem dX1_linkOf_34 : decode cX1_linkOf 34 = .ok (.ifCond .eq 12, 3) := by decide +kernel
theorem dX1_linkOf_37 : decode cX1_linkOf 37 = .ok (.aload_n 0, 1) := by decide +kernel
theorem dX1_linkOf_38 : decode cX1_linkOf 38 = .ok (.getfield 16, 3) := by decide +kernel
theorem dX1_linkOf_41 : decode cX1_linkOf 41 = .ok (.iload_n 3, 1) := by decide +kernel
theorem dX1_linkOf_42 : decode cX1_linkOf 42 = .ok (.iaload, 1) := by decide +kernel
theorem dX1_linkOf_43 : decode cX1_linkOf 43 = .ok (.goto 4, 3) := by decide +kernel
theorem dX1_linkOf_46 : decode cX1_linkOf 46 = .ok (.iconst (-1), 1) := by decide +kernel
theorem dX1_linkOf_47 : decode cX1_linkOf 47 = .ok (.ireturn, 1) := by decide +kernel
abbrev cX1_rows : ByteArray := prog_3_method_19_code
def yX1_rows : MethodName := ⟨RX1, "rows", "(I)I"⟩
theorem dX1_rows_0 : decode cX1_rows 0 = .ok (.aload_n 0, 1) := by decide +kernel
theorem dX1_rows_1 : decode cX1_rows 1 = .ok (.iload_n 1, 1) := by decide +kernel
theorem dX1_rows_2 : decode cX1_rows 2 = .ok (.invokevirtual 35, 3) := by decide +kernel
theorem dX1_rows_5 : decode cX1_rows 5 = .ok (.ifCond .eq 5, 3) := by decide +kernel
theorem dX1_rows_8 : decode cX1_rows 8 = .ok (.iconst (-1), 1) := by decide +kernel
theorem dX1_rows_9 : decode cX1_rows 9 = .ok (.ireturn, 1) := by decide +kernel
theorem dX1_rows_10 : decode cX1_rows 10 = .ok (.iconst 0, 1) := by decide +kernel
theorem dX1_rows_11 : decode cX1_rows 11 = .ok (.istore_n 2, 1) := by decide +kernel
theorem dX1_rows_12 : decode cX1_rows 12 = .ok (.iconst 0, 1) := by decide +kernel
theorem dX1_rows_13 : decode cX1_rows 13 = .ok (.istore_n 3, 1) := by decide +kernel
theorem dX1_rows_14 : decode cX1_rows 14 = .ok (.iload_n 3, 1) := by decide +kernel
theorem dX1_rows_15 : decode cX1_rows 15 = .ok (.bipush 8, 2) := by decide +kernel
theorem dX1_rows_17 : decode cX1_rows 17 = .ok (.if_icmp .ge 21, 3) := by decide +kernel
theorem dX1_rows_20 : decode cX1_rows 20 = .ok (.aload_n 0, 1) := by decide +kernel
theorem dX1_rows_21 : decode cX1_rows 21 = .ok (.iload_n 1, 1) := by decide +kernel
theorem dX1_rows_22 : decode cX1_rows 22 = .ok (.iload_n 3, 1) := by decide +kernel
theorem dX1_rows_23 : decode cX1_rows 23 = .ok (.invokevirtual 42, 3) := by decide +kernel
theorem dX1_rows_26 : decode cX1_rows 26 = .ok (.ifCond .eq 6, 3) := by decide +kernel
theorem dX1_rows_29 : decode cX1_rows 29 = .ok (.iinc 2 1, 3) := by decide +kernel
theorem dX1_rows_32 : decode cX1_rows 32 = .ok (.iinc 3 1, 3) := by decide +kernel
theorem dX1_rows_35 : decode cX1_rows 35 = .ok (.goto (-21), 3) := by decide +kernel
theorem dX1_rows_38 : decode cX1_rows 38 = .ok (.iload_n 2, 1) := by decide +kernel
theorem dX1_rows_39 : decode cX1_rows 39 = .ok (.ireturn, 1) := by decide +kernel
abbrev cX1_sum : ByteArray := prog_3_method_20_code
def yX1_sum : MethodName := ⟨RX1, "sum", "(I)I"⟩
theorem dX1_sum_0 : decode cX1_sum 0 = .ok (.aload_n 0, 1) := by decide +kernel
theorem dX1_sum_1 : decode cX1_sum 1 = .ok (.iload_n 1, 1) := by decide +kernel
theorem dX1_sum_2 : decode cX1_sum 2 = .ok (.invokevirtual 35, 3) := by decide +kernel
theorem dX1_sum_5 : decode cX1_sum 5 = .ok (.ifCond .eq 5, 3) := by decide +kernel
theorem dX1_sum_8 : decode cX1_sum 8 = .ok (.iconst (-1), 1) := by decide +kernel
theorem dX1_sum_9 : decode cX1_sum 9 = .ok (.ireturn, 1) := by decide +kernel
theorem dX1_sum_10 : decode cX1_sum 10 = .ok (.iconst 0, 1) := by decide +kernel
theorem dX1_sum_11 : decode cX1_sum 11 = .ok (.istore_n 2, 1) := by decide +kernel
theorem dX1_sum_12 : decode cX1_sum 12 = .ok (.iconst 0, 1) := by decide +kernel
theorem dX1_sum_13 : decode cX1_sum 13 = .ok (.istore_n 3, 1) := by decide +kernel
theorem dX1_sum_14 : decode cX1_sum 14 = .ok (.iload_n 3, 1) := by decide +kernel
theorem dX1_sum_15 : decode cX1_sum 15 = .ok (.bipush 8, 2) := by decide +kernel
theorem dX1_sum_17 : decode cX1_sum 17 = .ok (.if_icmp .ge 22, 3) := by decide +kernel
theorem dX1_sum_20 : decode cX1_sum 20 = .ok (.aload_n 0, 1) := by decide +kernel
theorem dX1_sum_21 : decode cX1_sum 21 = .ok (.iload_n 1, 1) := by decide +kernel
theorem dX1_sum_22 : decode cX1_sum 22 = .ok (.iload_n 3, 1) := by decide +kernel
theorem dX1_sum_23 : decode cX1_sum 23 = .ok (.invokevirtual 68, 3) := by decide +kernel
theorem dX1_sum_26 : decode cX1_sum 26 = .ok (.istore 4, 2) := by decide +kernel
theorem dX1_sum_28 : decode cX1_sum 28 = .ok (.iload_n 2, 1) := by decide +kernel
theorem dX1_sum_29 : decode cX1_sum 29 = .ok (.iload 4, 2) := by decide +kernel
theorem dX1_sum_31 : decode cX1_sum 31 = .ok (.iadd, 1) := by decide +kernel
theorem dX1_sum_32 : decode cX1_sum 32 = .ok (.istore_n 2, 1) := by decide +kernel
theorem dX1_sum_33 : decode cX1_sum 33 = .ok (.iinc 3 1, 3) := by decide +kernel
theorem dX1_sum_36 : decode cX1_sum 36 = .ok (.goto (-22), 3) := by decide +kernel
theorem dX1_sum_39 : decode cX1_sum 39 = .ok (.iload_n 2, 1) := by decide +kernel
theorem dX1_sum_40 : decode cX1_sum 40 = .ok (.ireturn, 1) := by decide +kernel
abbrev cX1_known : ByteArray := prog_3_method_21_code
def yX1_known : MethodName := ⟨RX1, "known", "(I)I"⟩
theorem dX1_known_0 : decode cX1_known 0 = .ok (.aload_n 0, 1) := by decide +kernel
theorem dX1_known_1 : decode cX1_known 1 = .ok (.iload_n 1, 1) := by decide +kernel
theorem dX1_known_2 : decode cX1_known 2 = .ok (.invokevirtual 35, 3) := by decide +kernel
theorem dX1_known_5 : decode cX1_known 5 = .ok (.ifCond .eq 5, 3) := by decide +kernel
theorem dX1_known_8 : decode cX1_known 8 = .ok (.iconst (-1), 1) := by decide +kernel
theorem dX1_known_9 : decode cX1_known 9 = .ok (.ireturn, 1) := by decide +kernel
theorem dX1_known_10 : decode cX1_known 10 = .ok (.iconst 0, 1) := by decide +kernel
theorem dX1_known_11 : decode cX1_known 11 = .ok (.istore_n 2, 1) := by decide +kernel
theorem dX1_known_12 : decode cX1_known 12 = .ok (.iconst 0, 1) := by decide +kernel
theorem dX1_known_13 : decode cX1_known 13 = .ok (.istore_n 3, 1) := by decide +kernel
theorem dX1_known_14 : decode cX1_known 14 = .ok (.iload_n 3, 1) := by decide +kernel
theorem dX1_known_15 : decode cX1_known 15 = .ok (.aload_n 0, 1) := by decide +kernel
theorem dX1_known_16 : decode cX1_known 16 = .ok (.getfield 46, 3) := by decide +kernel
theorem dX1_known_19 : decode cX1_known 19 = .ok (.if_icmp .ge 26, 3) := by decide +kernel
theorem dX1_known_22 : decode cX1_known 22 = .ok (.aload_n 0, 1) := by decide +kernel
theorem dX1_known_23 : decode cX1_known 23 = .ok (.aload_n 0, 1) := by decide +kernel
theorem dX1_known_24 : decode cX1_known 24 = .ok (.getfield 29, 3) := by decide +kernel
theorem dX1_known_27 : decode cX1_known 27 = .ok (.iload_n 1, 1) := by decide +kernel
theorem dX1_known_28 : decode cX1_known 28 = .ok (.laload, 1) := by decide +kernel
theorem dX1_known_29 : decode cX1_known 29 = .ok (.iload_n 3, 1) := by decide +kernel
theorem dX1_known_30 : decode cX1_known 30 = .ok (.invokevirtual 58, 3) := by decide +kernel
theorem dX1_known_33 : decode cX1_known 33 = .ok (.ifCond .eq 6, 3) := by decide +kernel
theorem dX1_known_36 : decode cX1_known 36 = .ok (.iinc 2 1, 3) := by decide +kernel
theorem dX1_known_39 : decode cX1_known 39 = .ok (.iinc 3 1, 3) := by decide +kernel
theorem dX1_known_42 : decode cX1_known 42 = .ok (.goto (-28), 3) := by decide +kernel
theorem dX1_known_45 : decode cX1_known 45 = .ok (.iload_n 2, 1) := by decide +kernel
theorem dX1_known_46 : decode cX1_known 46 = .ok (.ireturn, 1) := by decide +kernel
abbrev cX1_agree : ByteArray := prog_3_method_22_code
def yX1_agree : MethodName := ⟨RX1, "agree", "(II)Z"⟩
theorem dX1_agree_0 : decode cX1_agree 0 = .ok (.aload_n 0, 1) := by decide +kernel
theorem dX1_agree_1 : decode cX1_agree 1 = .ok (.iload_n 1, 1) := by decide +kernel
theorem dX1_agree_2 : decode cX1_agree 2 = .ok (.invokevirtual 35, 3) := by decide +kernel
theorem dX1_agree_5 : decode cX1_agree 5 = .ok (.ifCond .ne 11, 3) := by decide +kernel
theorem dX1_agree_8 : decode cX1_agree 8 = .ok (.aload_n 0, 1) := by decide +kernel
theorem dX1_agree_9 : decode cX1_agree 9 = .ok (.iload_n 2, 1) := by decide +kernel
theorem dX1_agree_10 : decode cX1_agree 10 = .ok (.invokevirtual 35, 3) := by decide +kernel
theorem dX1_agree_13 : decode cX1_agree 13 = .ok (.ifCond .eq 5, 3) := by decide +kernel
theorem dX1_agree_16 : decode cX1_agree 16 = .ok (.iconst 0, 1) := by decide +kernel
theorem dX1_agree_17 : decode cX1_agree 17 = .ok (.ireturn, 1) := by decide +kernel
theorem dX1_agree_18 : decode cX1_agree 18 = .ok (.iconst 0, 1) := by decide +kernel
theorem dX1_agree_19 : decode cX1_agree 19 = .ok (.istore_n 3, 1) := by decide +kernel
theorem dX1_agree_20 : decode cX1_agree 20 = .ok (.iload_n 3, 1) := by decide +kernel
theorem dX1_agree_21 : decode cX1_agree 21 = .ok (.bipush 8, 2) := by decide +kernel
theorem dX1_agree_23 : decode cX1_agree 23 = .ok (.if_icmp .ge 73, 3) := by decide +kernel
theorem dX1_agree_26 : decode cX1_agree 26 = .ok (.aload_n 0, 1) := by decide +kernel
theorem dX1_agree_27 : decode cX1_agree 27 = .ok (.iload_n 1, 1) := by decide +kernel
theorem dX1_agree_28 : decode cX1_agree 28 = .ok (.iload_n 3, 1) := by decide +kernel
theorem dX1_agree_29 : decode cX1_agree 29 = .ok (.invokevirtual 42, 3) := by decide +kernel
theorem dX1_agree_32 : decode cX1_agree 32 = .ok (.aload_n 0, 1) := by decide +kernel
theorem dX1_agree_33 : decode cX1_agree 33 = .ok (.iload_n 2, 1) := by decide +kernel
theorem dX1_agree_34 : decode cX1_agree 34 = .ok (.iload_n 3, 1) := by decide +kernel
theorem dX1_agree_35 : decode cX1_agree 35 = .ok (.invokevirtual 42, 3) := by decide +kernel
theorem dX1_agree_38 : decode cX1_agree 38 = .ok (.if_icmp .ne 18, 3) := by decide +kernel
theorem dX1_agree_41 : decode cX1_agree 41 = .ok (.aload_n 0, 1) := by decide +kernel
theorem dX1_agree_42 : decode cX1_agree 42 = .ok (.iload_n 1, 1) := by decide +kernel
theorem dX1_agree_43 : decode cX1_agree 43 = .ok (.iload_n 3, 1) := by decide +kernel
theorem dX1_agree_44 : decode cX1_agree 44 = .ok (.invokevirtual 72, 3) := by decide +kernel
theorem dX1_agree_47 : decode cX1_agree 47 = .ok (.aload_n 0, 1) := by decide +kernel
theorem dX1_agree_48 : decode cX1_agree 48 = .ok (.iload_n 2, 1) := by decide +kernel
theorem dX1_agree_49 : decode cX1_agree 49 = .ok (.iload_n 3, 1) := by decide +kernel
theorem dX1_agree_50 : decode cX1_agree 50 = .ok (.invokevirtual 72, 3) := by decide +kernel
theorem dX1_agree_53 : decode cX1_agree 53 = .ok (.if_icmp .eq 5, 3) := by decide +kernel
theorem dX1_agree_56 : decode cX1_agree 56 = .ok (.iconst 0, 1) := by decide +kernel
theorem dX1_agree_57 : decode cX1_agree 57 = .ok (.ireturn, 1) := by decide +kernel
theorem dX1_agree_58 : decode cX1_agree 58 = .ok (.aload_n 0, 1) := by decide +kernel
theorem dX1_agree_59 : decode cX1_agree 59 = .ok (.iload_n 1, 1) := by decide +kernel
theorem dX1_agree_60 : decode cX1_agree 60 = .ok (.iload_n 3, 1) := by decide +kernel
theorem dX1_agree_61 : decode cX1_agree 61 = .ok (.invokevirtual 68, 3) := by decide +kernel
theorem dX1_agree_64 : decode cX1_agree 64 = .ok (.aload_n 0, 1) := by decide +kernel
theorem dX1_agree_65 : decode cX1_agree 65 = .ok (.iload_n 2, 1) := by decide +kernel
theorem dX1_agree_66 : decode cX1_agree 66 = .ok (.iload_n 3, 1) := by decide +kernel
theorem dX1_agree_67 : decode cX1_agree 67 = .ok (.invokevirtual 68, 3) := by decide +kernel
theorem dX1_agree_70 : decode cX1_agree 70 = .ok (.if_icmp .ne 18, 3) := by decide +kernel
theorem dX1_agree_73 : decode cX1_agree 73 = .ok (.aload_n 0, 1) := by decide +kernel
theorem dX1_agree_74 : decode cX1_agree 74 = .ok (.iload_n 1, 1) := by decide +kernel
theorem dX1_agree_75 : decode cX1_agree 75 = .ok (.iload_n 3, 1) := by decide +kernel
theorem dX1_agree_76 : decode cX1_agree 76 = .ok (.invokevirtual 75, 3) := by decide +kernel
theorem dX1_agree_79 : decode cX1_agree 79 = .ok (.aload_n 0, 1) := by decide +kernel
theorem dX1_agree_80 : decode cX1_agree 80 = .ok (.iload_n 2, 1) := by decide +kernel
theorem dX1_agree_81 : decode cX1_agree 81 = .ok (.iload_n 3, 1) := by decide +kernel
theorem dX1_agree_82 : decode cX1_agree 82 = .ok (.invokevirtual 75, 3) := by decide +kernel
theorem dX1_agree_85 : decode cX1_agree 85 = .ok (.if_icmp .eq 5, 3) := by decide +kernel
theorem dX1_agree_88 : decode cX1_agree 88 = .ok (.iconst 0, 1) := by decide +kernel
theorem dX1_agree_89 : decode cX1_agree 89 = .ok (.ireturn, 1) := by decide +kernel
theorem dX1_agree_90 : decode cX1_agree 90 = .ok (.iinc 3 1, 3) := by decide +kernel
theorem dX1_agree_93 : decode cX1_agree 93 = .ok (.goto (-73), 3) := by decide +kernel
theorem dX1_agree_96 : decode cX1_agree 96 = .ok (.iconst 1, 1) := by decide +kernel
theorem dX1_agree_97 : decode cX1_agree 97 = .ok (.ireturn, 1) := by decide +kernel
theorem q16 : (Jvm.Cond.initialized "CrdtTableModel") ∈ lw_all := lw_g (lw_at lw_m1 2 rfl) rfl
theorem q177 : (Jvm.Cond.instantiable "CrdtTableModel" (9 : Nat)) ∈ lw_all := lw_g (lw_at lw_m1 163 rfl) rfl
theorem q179 : (Jvm.Cond.instanceMethod ({ cls := "CrdtTableModel", name := "<init>", desc := "()V" } : Jvm.MethodName)) ∈ lw_all := lw_g (lw_at lw_m1 165 rfl) rfl
theorem q180 : (Jvm.Cond.code ({ cls := "CrdtTableModel", name := "<init>", desc := "()V" } : Jvm.MethodName) prog_3_method_1_code (1 : Nat) (Option.none : Option Jvm.ClassFile.FieldType)) ∈ lw_all := lw_g (lw_at lw_m1 166 rfl) rfl
theorem q181 : (Jvm.Cond.methodLink "CrdtTableModel" (1 : Nat) ({ cls := "java/lang/Object", name := "<init>", desc := "()V" } : Jvm.MethodName)) ∈ lw_all := lw_g (lw_at lw_m1 167 rfl) rfl
theorem q182 : (Jvm.Cond.fieldLink "CrdtTableModel" (46 : Nat) "CrdtTableModel" "actions" "I") ∈ lw_all := lw_g (lw_at lw_m1 168 rfl) rfl
theorem q183 : (Jvm.Cond.fieldLink "CrdtTableModel" (7 : Nat) "CrdtTableModel" "kinds" "[I") ∈ lw_all := lw_g (lw_at lw_m1 169 rfl) rfl
theorem q184 : (Jvm.Cond.fieldLink "CrdtTableModel" (13 : Nat) "CrdtTableModel" "rowOf" "[I") ∈ lw_all := lw_g (lw_at lw_m1 170 rfl) rfl
theorem q185 : (Jvm.Cond.fieldLink "CrdtTableModel" (16 : Nat) "CrdtTableModel" "values" "[I") ∈ lw_all := lw_g (lw_at lw_m1 171 rfl) rfl
theorem q186 : (Jvm.Cond.fieldLink "CrdtTableModel" (19 : Nat) "CrdtTableModel" "stamps" "[I") ∈ lw_all := lw_g (lw_at lw_m1 172 rfl) rfl
theorem q187 : (Jvm.Cond.fieldLink "CrdtTableModel" (22 : Nat) "CrdtTableModel" "replicas" "[I") ∈ lw_all := lw_g (lw_at lw_m1 173 rfl) rfl
theorem q188 : (Jvm.Cond.fieldLink "CrdtTableModel" (25 : Nat) "CrdtTableModel" "knew" "[J") ∈ lw_all := lw_g (lw_at lw_m1 174 rfl) rfl
theorem q189 : (Jvm.Cond.fieldLink "CrdtTableModel" (29 : Nat) "CrdtTableModel" "knows" "[J") ∈ lw_all := lw_g (lw_at lw_m1 175 rfl) rfl
theorem q190 : (Jvm.Cond.fieldLink "CrdtTableModel" (32 : Nat) "CrdtTableModel" "stampOf" "[I") ∈ lw_all := lw_g (lw_at lw_m1 176 rfl) rfl
theorem q191 : (Jvm.Cond.lays "CrdtTableModel" "CrdtTableModel" "actions" "I") ∈ lw_all := lw_g (lw_at lw_m1 177 rfl) rfl
theorem q192 : (Jvm.Cond.soleField "CrdtTableModel" "actions") ∈ lw_all := lw_g (lw_at lw_m1 178 rfl) rfl
theorem q193 : (Jvm.Cond.laysFinal "CrdtTableModel" "CrdtTableModel" "kinds" "[I") ∈ lw_all := lw_g (lw_at lw_m1 179 rfl) rfl
theorem q194 : (Jvm.Cond.soleField "CrdtTableModel" "kinds") ∈ lw_all := lw_g (lw_at lw_m1 180 rfl) rfl
theorem q195 : (Jvm.Cond.laysFinal "CrdtTableModel" "CrdtTableModel" "rowOf" "[I") ∈ lw_all := lw_g (lw_at lw_m1 181 rfl) rfl
theorem q196 : (Jvm.Cond.soleField "CrdtTableModel" "rowOf") ∈ lw_all := lw_g (lw_at lw_m1 182 rfl) rfl
theorem q197 : (Jvm.Cond.laysFinal "CrdtTableModel" "CrdtTableModel" "values" "[I") ∈ lw_all := lw_g (lw_at lw_m1 183 rfl) rfl
theorem q198 : (Jvm.Cond.soleField "CrdtTableModel" "values") ∈ lw_all := lw_g (lw_at lw_m1 184 rfl) rfl
theorem q199 : (Jvm.Cond.laysFinal "CrdtTableModel" "CrdtTableModel" "stamps" "[I") ∈ lw_all := lw_g (lw_at lw_m1 185 rfl) rfl
theorem q200 : (Jvm.Cond.soleField "CrdtTableModel" "stamps") ∈ lw_all := lw_g (lw_at lw_m1 186 rfl) rfl
theorem q201 : (Jvm.Cond.laysFinal "CrdtTableModel" "CrdtTableModel" "replicas" "[I") ∈ lw_all := lw_g (lw_at lw_m1 187 rfl) rfl
theorem q202 : (Jvm.Cond.soleField "CrdtTableModel" "replicas") ∈ lw_all := lw_g (lw_at lw_m1 188 rfl) rfl
theorem q203 : (Jvm.Cond.laysFinal "CrdtTableModel" "CrdtTableModel" "knew" "[J") ∈ lw_all := lw_g (lw_at lw_m1 189 rfl) rfl
theorem q204 : (Jvm.Cond.soleField "CrdtTableModel" "knew") ∈ lw_all := lw_g (lw_at lw_m1 190 rfl) rfl
theorem q205 : (Jvm.Cond.laysFinal "CrdtTableModel" "CrdtTableModel" "knows" "[J") ∈ lw_all := lw_g (lw_at lw_m1 191 rfl) rfl
theorem q206 : (Jvm.Cond.soleField "CrdtTableModel" "knows") ∈ lw_all := lw_g (lw_at lw_m1 192 rfl) rfl
theorem q207 : (Jvm.Cond.laysFinal "CrdtTableModel" "CrdtTableModel" "stampOf" "[I") ∈ lw_all := lw_g (lw_at lw_m1 193 rfl) rfl
theorem q208 : (Jvm.Cond.soleField "CrdtTableModel" "stampOf") ∈ lw_all := lw_g (lw_at lw_m1 194 rfl) rfl
theorem q209 : (Jvm.Cond.superclass "CrdtTableModel" "java/lang/Object") ∈ lw_all := lw_g (lw_at lw_m1 195 rfl) rfl
theorem q211 : (Jvm.Cond.instanceMethod ({ cls := "CrdtTableModel", name := "add", desc := "(II)I" } : Jvm.MethodName)) ∈ lw_all := lw_g (lw_at lw_m1 197 rfl) rfl
theorem q212 : (Jvm.Cond.selects "CrdtTableModel" ({ cls := "CrdtTableModel", name := "add", desc := "(II)I" } : Jvm.MethodName) ({ cls := "CrdtTableModel", name := "add", desc := "(II)I" } : Jvm.MethodName)) ∈ lw_all := lw_g (lw_at lw_m1 198 rfl) rfl
theorem q213 : (Jvm.Cond.code ({ cls := "CrdtTableModel", name := "add", desc := "(II)I" } : Jvm.MethodName) prog_3_method_6_code (3 : Nat) (Option.some Jvm.ClassFile.FieldType.int)) ∈ lw_all := lw_g (lw_at lw_m1 199 rfl) rfl
theorem q214 : (Jvm.Cond.methodLink "CrdtTableModel" (50 : Nat) ({ cls := "CrdtTableModel", name := "act", desc := "(IIII)I" } : Jvm.MethodName)) ∈ lw_all := lw_g (lw_at lw_m1 200 rfl) rfl
theorem q215 : (Jvm.Cond.privateMethod ({ cls := "CrdtTableModel", name := "act", desc := "(IIII)I" } : Jvm.MethodName)) ∈ lw_tbl := lw_at lw_m1 201 rfl
theorem q216 : (Jvm.Cond.instanceMethod ({ cls := "CrdtTableModel", name := "act", desc := "(IIII)I" } : Jvm.MethodName)) ∈ lw_all := lw_g (lw_at lw_m1 202 rfl) rfl
theorem q217 : (Jvm.Cond.code ({ cls := "CrdtTableModel", name := "act", desc := "(IIII)I" } : Jvm.MethodName) prog_3_method_5_code (6 : Nat) (Option.some Jvm.ClassFile.FieldType.int)) ∈ lw_all := lw_g (lw_at lw_m1 203 rfl) rfl
theorem q218 : (Jvm.Cond.methodLink "CrdtTableModel" (35 : Nat) ({ cls := "CrdtTableModel", name := "badReplica", desc := "(I)Z" } : Jvm.MethodName)) ∈ lw_all := lw_g (lw_at lw_m1 204 rfl) rfl
theorem q219 : (Jvm.Cond.privateMethod ({ cls := "CrdtTableModel", name := "badReplica", desc := "(I)Z" } : Jvm.MethodName)) ∈ lw_tbl := lw_at lw_m1 205 rfl
theorem q220 : (Jvm.Cond.instanceMethod ({ cls := "CrdtTableModel", name := "badReplica", desc := "(I)Z" } : Jvm.MethodName)) ∈ lw_all := lw_g (lw_at lw_m1 206 rfl) rfl
theorem q221 : (Jvm.Cond.code ({ cls := "CrdtTableModel", name := "badReplica", desc := "(I)Z" } : Jvm.MethodName) prog_3_method_2_code (2 : Nat) (Option.some Jvm.ClassFile.FieldType.boolean)) ∈ lw_all := lw_g (lw_at lw_m1 207 rfl) rfl
theorem q222 : (Jvm.Cond.methodLink "CrdtTableModel" (39 : Nat) ({ cls := "CrdtTableModel", name := "badRow", desc := "(I)Z" } : Jvm.MethodName)) ∈ lw_all := lw_g (lw_at lw_m1 208 rfl) rfl
theorem q223 : (Jvm.Cond.privateMethod ({ cls := "CrdtTableModel", name := "badRow", desc := "(I)Z" } : Jvm.MethodName)) ∈ lw_tbl := lw_at lw_m1 209 rfl
theorem q224 : (Jvm.Cond.instanceMethod ({ cls := "CrdtTableModel", name := "badRow", desc := "(I)Z" } : Jvm.MethodName)) ∈ lw_all := lw_g (lw_at lw_m1 210 rfl) rfl
theorem q225 : (Jvm.Cond.code ({ cls := "CrdtTableModel", name := "badRow", desc := "(I)Z" } : Jvm.MethodName) prog_3_method_3_code (2 : Nat) (Option.some Jvm.ClassFile.FieldType.boolean)) ∈ lw_all := lw_g (lw_at lw_m1 211 rfl) rfl
theorem q226 : (Jvm.Cond.methodLink "CrdtTableModel" (42 : Nat) ({ cls := "CrdtTableModel", name := "there", desc := "(II)Z" } : Jvm.MethodName)) ∈ lw_all := lw_g (lw_at lw_m1 212 rfl) rfl
theorem q227 : (Jvm.Cond.instanceMethod ({ cls := "CrdtTableModel", name := "there", desc := "(II)Z" } : Jvm.MethodName)) ∈ lw_all := lw_g (lw_at lw_m1 213 rfl) rfl
theorem q228 : (Jvm.Cond.selects "CrdtTableModel" ({ cls := "CrdtTableModel", name := "there", desc := "(II)Z" } : Jvm.MethodName) ({ cls := "CrdtTableModel", name := "there", desc := "(II)Z" } : Jvm.MethodName)) ∈ lw_all := lw_g (lw_at lw_m1 214 rfl) rfl
theorem q229 : (Jvm.Cond.code ({ cls := "CrdtTableModel", name := "there", desc := "(II)Z" } : Jvm.MethodName) prog_3_method_14_code (4 : Nat) (Option.some Jvm.ClassFile.FieldType.boolean)) ∈ lw_all := lw_g (lw_at lw_m1 215 rfl) rfl
theorem q230 : (Jvm.Cond.methodLink "CrdtTableModel" (58 : Nat) ({ cls := "CrdtTableModel", name := "in", desc := "(JI)Z" } : Jvm.MethodName)) ∈ lw_all := lw_g (lw_at lw_m1 216 rfl) rfl
theorem q231 : (Jvm.Cond.privateMethod ({ cls := "CrdtTableModel", name := "in", desc := "(JI)Z" } : Jvm.MethodName)) ∈ lw_tbl := lw_at lw_m1 217 rfl
theorem q232 : (Jvm.Cond.instanceMethod ({ cls := "CrdtTableModel", name := "in", desc := "(JI)Z" } : Jvm.MethodName)) ∈ lw_all := lw_g (lw_at lw_m1 218 rfl) rfl
theorem q233 : (Jvm.Cond.code ({ cls := "CrdtTableModel", name := "in", desc := "(JI)Z" } : Jvm.MethodName) prog_3_method_4_code (4 : Nat) (Option.some Jvm.ClassFile.FieldType.boolean)) ∈ lw_all := lw_g (lw_at lw_m1 219 rfl) rfl
theorem q234 : (Jvm.Cond.methodLink "CrdtTableModel" (62 : Nat) ({ cls := "CrdtTableModel", name := "cancelled", desc := "(II)Z" } : Jvm.MethodName)) ∈ lw_all := lw_g (lw_at lw_m1 220 rfl) rfl
theorem q235 : (Jvm.Cond.privateMethod ({ cls := "CrdtTableModel", name := "cancelled", desc := "(II)Z" } : Jvm.MethodName)) ∈ lw_tbl := lw_at lw_m1 221 rfl
theorem q236 : (Jvm.Cond.instanceMethod ({ cls := "CrdtTableModel", name := "cancelled", desc := "(II)Z" } : Jvm.MethodName)) ∈ lw_all := lw_g (lw_at lw_m1 222 rfl) rfl
theorem q237 : (Jvm.Cond.code ({ cls := "CrdtTableModel", name := "cancelled", desc := "(II)Z" } : Jvm.MethodName) prog_3_method_13_code (4 : Nat) (Option.some Jvm.ClassFile.FieldType.boolean)) ∈ lw_all := lw_g (lw_at lw_m1 223 rfl) rfl
theorem q239 : (Jvm.Cond.instanceMethod ({ cls := "CrdtTableModel", name := "drop", desc := "(II)I" } : Jvm.MethodName)) ∈ lw_all := lw_g (lw_at lw_m1 225 rfl) rfl
theorem q240 : (Jvm.Cond.selects "CrdtTableModel" ({ cls := "CrdtTableModel", name := "drop", desc := "(II)I" } : Jvm.MethodName) ({ cls := "CrdtTableModel", name := "drop", desc := "(II)I" } : Jvm.MethodName)) ∈ lw_all := lw_g (lw_at lw_m1 226 rfl) rfl
theorem q241 : (Jvm.Cond.code ({ cls := "CrdtTableModel", name := "drop", desc := "(II)I" } : Jvm.MethodName) prog_3_method_7_code (3 : Nat) (Option.some Jvm.ClassFile.FieldType.int)) ∈ lw_all := lw_g (lw_at lw_m1 227 rfl) rfl
theorem q243 : (Jvm.Cond.instanceMethod ({ cls := "CrdtTableModel", name := "name", desc := "(III)I" } : Jvm.MethodName)) ∈ lw_all := lw_g (lw_at lw_m1 229 rfl) rfl
theorem q244 : (Jvm.Cond.selects "CrdtTableModel" ({ cls := "CrdtTableModel", name := "name", desc := "(III)I" } : Jvm.MethodName) ({ cls := "CrdtTableModel", name := "name", desc := "(III)I" } : Jvm.MethodName)) ∈ lw_all := lw_g (lw_at lw_m1 230 rfl) rfl
theorem q245 : (Jvm.Cond.code ({ cls := "CrdtTableModel", name := "name", desc := "(III)I" } : Jvm.MethodName) prog_3_method_8_code (4 : Nat) (Option.some Jvm.ClassFile.FieldType.int)) ∈ lw_all := lw_g (lw_at lw_m1 231 rfl) rfl
theorem q247 : (Jvm.Cond.instanceMethod ({ cls := "CrdtTableModel", name := "count", desc := "(III)I" } : Jvm.MethodName)) ∈ lw_all := lw_g (lw_at lw_m1 233 rfl) rfl
theorem q248 : (Jvm.Cond.selects "CrdtTableModel" ({ cls := "CrdtTableModel", name := "count", desc := "(III)I" } : Jvm.MethodName) ({ cls := "CrdtTableModel", name := "count", desc := "(III)I" } : Jvm.MethodName)) ∈ lw_all := lw_g (lw_at lw_m1 234 rfl) rfl
theorem q249 : (Jvm.Cond.code ({ cls := "CrdtTableModel", name := "count", desc := "(III)I" } : Jvm.MethodName) prog_3_method_9_code (4 : Nat) (Option.some Jvm.ClassFile.FieldType.int)) ∈ lw_all := lw_g (lw_at lw_m1 235 rfl) rfl
theorem q251 : (Jvm.Cond.instanceMethod ({ cls := "CrdtTableModel", name := "link", desc := "(III)I" } : Jvm.MethodName)) ∈ lw_all := lw_g (lw_at lw_m1 237 rfl) rfl
theorem q252 : (Jvm.Cond.selects "CrdtTableModel" ({ cls := "CrdtTableModel", name := "link", desc := "(III)I" } : Jvm.MethodName) ({ cls := "CrdtTableModel", name := "link", desc := "(III)I" } : Jvm.MethodName)) ∈ lw_all := lw_g (lw_at lw_m1 238 rfl) rfl
theorem q253 : (Jvm.Cond.code ({ cls := "CrdtTableModel", name := "link", desc := "(III)I" } : Jvm.MethodName) prog_3_method_10_code (4 : Nat) (Option.some Jvm.ClassFile.FieldType.int)) ∈ lw_all := lw_g (lw_at lw_m1 239 rfl) rfl
theorem q255 : (Jvm.Cond.instanceMethod ({ cls := "CrdtTableModel", name := "learn", desc := "(II)I" } : Jvm.MethodName)) ∈ lw_all := lw_g (lw_at lw_m2 1 rfl) rfl
theorem q256 : (Jvm.Cond.selects "CrdtTableModel" ({ cls := "CrdtTableModel", name := "learn", desc := "(II)I" } : Jvm.MethodName) ({ cls := "CrdtTableModel", name := "learn", desc := "(II)I" } : Jvm.MethodName)) ∈ lw_all := lw_g (lw_at lw_m2 2 rfl) rfl
theorem q257 : (Jvm.Cond.code ({ cls := "CrdtTableModel", name := "learn", desc := "(II)I" } : Jvm.MethodName) prog_3_method_11_code (3 : Nat) (Option.some Jvm.ClassFile.FieldType.int)) ∈ lw_all := lw_g (lw_at lw_m2 3 rfl) rfl
theorem q258 : (Jvm.Cond.methodLink "CrdtTableModel" (54 : Nat) ({ cls := "CrdtTableModel", name := "learnSome", desc := "(III)I" } : Jvm.MethodName)) ∈ lw_all := lw_g (lw_at lw_m2 4 rfl) rfl
theorem q259 : (Jvm.Cond.instanceMethod ({ cls := "CrdtTableModel", name := "learnSome", desc := "(III)I" } : Jvm.MethodName)) ∈ lw_all := lw_g (lw_at lw_m2 5 rfl) rfl
theorem q260 : (Jvm.Cond.selects "CrdtTableModel" ({ cls := "CrdtTableModel", name := "learnSome", desc := "(III)I" } : Jvm.MethodName) ({ cls := "CrdtTableModel", name := "learnSome", desc := "(III)I" } : Jvm.MethodName)) ∈ lw_all := lw_g (lw_at lw_m2 6 rfl) rfl
theorem q261 : (Jvm.Cond.code ({ cls := "CrdtTableModel", name := "learnSome", desc := "(III)I" } : Jvm.MethodName) prog_3_method_12_code (6 : Nat) (Option.some Jvm.ClassFile.FieldType.int)) ∈ lw_all := lw_g (lw_at lw_m2 7 rfl) rfl
theorem q265 : (Jvm.Cond.instanceMethod ({ cls := "CrdtTableModel", name := "nameOf", desc := "(II)I" } : Jvm.MethodName)) ∈ lw_all := lw_g (lw_at lw_m2 11 rfl) rfl
theorem q266 : (Jvm.Cond.selects "CrdtTableModel" ({ cls := "CrdtTableModel", name := "nameOf", desc := "(II)I" } : Jvm.MethodName) ({ cls := "CrdtTableModel", name := "nameOf", desc := "(II)I" } : Jvm.MethodName)) ∈ lw_all := lw_g (lw_at lw_m2 12 rfl) rfl
theorem q267 : (Jvm.Cond.code ({ cls := "CrdtTableModel", name := "nameOf", desc := "(II)I" } : Jvm.MethodName) prog_3_method_16_code (4 : Nat) (Option.some Jvm.ClassFile.FieldType.int)) ∈ lw_all := lw_g (lw_at lw_m2 13 rfl) rfl
theorem q268 : (Jvm.Cond.methodLink "CrdtTableModel" (65 : Nat) ({ cls := "CrdtTableModel", name := "last", desc := "(III)I" } : Jvm.MethodName)) ∈ lw_all := lw_g (lw_at lw_m2 14 rfl) rfl
theorem q269 : (Jvm.Cond.privateMethod ({ cls := "CrdtTableModel", name := "last", desc := "(III)I" } : Jvm.MethodName)) ∈ lw_tbl := lw_at lw_m2 15 rfl
theorem q270 : (Jvm.Cond.instanceMethod ({ cls := "CrdtTableModel", name := "last", desc := "(III)I" } : Jvm.MethodName)) ∈ lw_all := lw_g (lw_at lw_m2 16 rfl) rfl
theorem q271 : (Jvm.Cond.code ({ cls := "CrdtTableModel", name := "last", desc := "(III)I" } : Jvm.MethodName) prog_3_method_15_code (6 : Nat) (Option.some Jvm.ClassFile.FieldType.int)) ∈ lw_all := lw_g (lw_at lw_m2 17 rfl) rfl
theorem q273 : (Jvm.Cond.instanceMethod ({ cls := "CrdtTableModel", name := "countOf", desc := "(II)I" } : Jvm.MethodName)) ∈ lw_all := lw_g (lw_at lw_m2 19 rfl) rfl
theorem q274 : (Jvm.Cond.selects "CrdtTableModel" ({ cls := "CrdtTableModel", name := "countOf", desc := "(II)I" } : Jvm.MethodName) ({ cls := "CrdtTableModel", name := "countOf", desc := "(II)I" } : Jvm.MethodName)) ∈ lw_all := lw_g (lw_at lw_m2 20 rfl) rfl
theorem q275 : (Jvm.Cond.code ({ cls := "CrdtTableModel", name := "countOf", desc := "(II)I" } : Jvm.MethodName) prog_3_method_17_code (5 : Nat) (Option.some Jvm.ClassFile.FieldType.int)) ∈ lw_all := lw_g (lw_at lw_m2 21 rfl) rfl
theorem q277 : (Jvm.Cond.instanceMethod ({ cls := "CrdtTableModel", name := "linkOf", desc := "(II)I" } : Jvm.MethodName)) ∈ lw_all := lw_g (lw_at lw_m2 23 rfl) rfl
theorem q278 : (Jvm.Cond.selects "CrdtTableModel" ({ cls := "CrdtTableModel", name := "linkOf", desc := "(II)I" } : Jvm.MethodName) ({ cls := "CrdtTableModel", name := "linkOf", desc := "(II)I" } : Jvm.MethodName)) ∈ lw_all := lw_g (lw_at lw_m2 24 rfl) rfl
theorem q279 : (Jvm.Cond.code ({ cls := "CrdtTableModel", name := "linkOf", desc := "(II)I" } : Jvm.MethodName) prog_3_method_18_code (4 : Nat) (Option.some Jvm.ClassFile.FieldType.int)) ∈ lw_all := lw_g (lw_at lw_m2 25 rfl) rfl
theorem q281 : (Jvm.Cond.instanceMethod ({ cls := "CrdtTableModel", name := "rows", desc := "(I)I" } : Jvm.MethodName)) ∈ lw_all := lw_g (lw_at lw_m2 27 rfl) rfl
theorem q282 : (Jvm.Cond.selects "CrdtTableModel" ({ cls := "CrdtTableModel", name := "rows", desc := "(I)I" } : Jvm.MethodName) ({ cls := "CrdtTableModel", name := "rows", desc := "(I)I" } : Jvm.MethodName)) ∈ lw_all := lw_g (lw_at lw_m2 28 rfl) rfl
theorem q283 : (Jvm.Cond.code ({ cls := "CrdtTableModel", name := "rows", desc := "(I)I" } : Jvm.MethodName) prog_3_method_19_code (4 : Nat) (Option.some Jvm.ClassFile.FieldType.int)) ∈ lw_all := lw_g (lw_at lw_m2 29 rfl) rfl
theorem q285 : (Jvm.Cond.instanceMethod ({ cls := "CrdtTableModel", name := "sum", desc := "(I)I" } : Jvm.MethodName)) ∈ lw_all := lw_g (lw_at lw_m2 31 rfl) rfl
theorem q286 : (Jvm.Cond.selects "CrdtTableModel" ({ cls := "CrdtTableModel", name := "sum", desc := "(I)I" } : Jvm.MethodName) ({ cls := "CrdtTableModel", name := "sum", desc := "(I)I" } : Jvm.MethodName)) ∈ lw_all := lw_g (lw_at lw_m2 32 rfl) rfl
theorem q287 : (Jvm.Cond.code ({ cls := "CrdtTableModel", name := "sum", desc := "(I)I" } : Jvm.MethodName) prog_3_method_20_code (5 : Nat) (Option.some Jvm.ClassFile.FieldType.int)) ∈ lw_all := lw_g (lw_at lw_m2 33 rfl) rfl
theorem q288 : (Jvm.Cond.methodLink "CrdtTableModel" (68 : Nat) ({ cls := "CrdtTableModel", name := "countOf", desc := "(II)I" } : Jvm.MethodName)) ∈ lw_all := lw_g (lw_at lw_m2 34 rfl) rfl
theorem q290 : (Jvm.Cond.instanceMethod ({ cls := "CrdtTableModel", name := "known", desc := "(I)I" } : Jvm.MethodName)) ∈ lw_all := lw_g (lw_at lw_m2 36 rfl) rfl
theorem q291 : (Jvm.Cond.selects "CrdtTableModel" ({ cls := "CrdtTableModel", name := "known", desc := "(I)I" } : Jvm.MethodName) ({ cls := "CrdtTableModel", name := "known", desc := "(I)I" } : Jvm.MethodName)) ∈ lw_all := lw_g (lw_at lw_m2 37 rfl) rfl
theorem q292 : (Jvm.Cond.code ({ cls := "CrdtTableModel", name := "known", desc := "(I)I" } : Jvm.MethodName) prog_3_method_21_code (4 : Nat) (Option.some Jvm.ClassFile.FieldType.int)) ∈ lw_all := lw_g (lw_at lw_m2 38 rfl) rfl
theorem q294 : (Jvm.Cond.instanceMethod ({ cls := "CrdtTableModel", name := "agree", desc := "(II)Z" } : Jvm.MethodName)) ∈ lw_all := lw_g (lw_at lw_m2 40 rfl) rfl
theorem q295 : (Jvm.Cond.selects "CrdtTableModel" ({ cls := "CrdtTableModel", name := "agree", desc := "(II)Z" } : Jvm.MethodName) ({ cls := "CrdtTableModel", name := "agree", desc := "(II)Z" } : Jvm.MethodName)) ∈ lw_all := lw_g (lw_at lw_m2 41 rfl) rfl
theorem q296 : (Jvm.Cond.code ({ cls := "CrdtTableModel", name := "agree", desc := "(II)Z" } : Jvm.MethodName) prog_3_method_22_code (4 : Nat) (Option.some Jvm.ClassFile.FieldType.boolean)) ∈ lw_all := lw_g (lw_at lw_m2 42 rfl) rfl
theorem q297 : (Jvm.Cond.methodLink "CrdtTableModel" (72 : Nat) ({ cls := "CrdtTableModel", name := "nameOf", desc := "(II)I" } : Jvm.MethodName)) ∈ lw_all := lw_g (lw_at lw_m2 43 rfl) rfl
theorem q298 : (Jvm.Cond.methodLink "CrdtTableModel" (75 : Nat) ({ cls := "CrdtTableModel", name := "linkOf", desc := "(II)I" } : Jvm.MethodName)) ∈ lw_all := lw_g (lw_at lw_m2 44 rfl) rfl
theorem in_X1 : ∀ w ∈ wsX10, w ∈ lw_all := lw_in wsX10 [191, 193, 195, 197, 199, 201, 203, 205, 207] (by decide +kernel) (by decide +kernel)
end
section
/-! OWN ROWS: states of the two tables, their worlds, contracts over one world, calls over it, arrays by natural places -/
set_option maxRecDepth 100000
/-- a table's state: how many actions, its int arrays by the field's place, its long arrays by the field's place -/
abbrev TS : Type := Nat × (Nat → Nat → Int32) × (Nat → Nat → Int64)
def sI (st : TS) (k j : Nat) (x : Int32) : TS := (st.1, va_up st.2.1 k (upd (st.2.1 k) j x), st.2.2)
def sL (st : TS) (k j : Nat) (x : Int64) : TS := (st.1, st.2.1, va_up st.2.2 k (vp_updL (st.2.2 k) j x))
def sN (st : TS) : TS := (st.1 + 1, st.2.1, st.2.2)
abbrev vwCl : List vw_C := [(RX0, TX0, 15), (RX1, TX1, 9)]
abbrev tyz (G : ClassId × ClassId) : List (ClassId × FieldType) := [(G.1, .int), (G.2, .long)]
abbrev fx (ad : Nat → Nat) (n : Nat) : List Value := [.int (nI n), .ref (ad 1), .ref (ad 2), .ref (ad 3), .ref (ad 4), .ref (ad 5), .ref (ad 6), .ref (ad 7), .ref (ad 8), .ref (ad 9), .ref (ad 10), .ref (ad 11), .ref (ad 12), .ref (ad 13), .ref (ad 14)]
abbrev fm (ad : Nat → Nat) (n : Nat) : List Value := [.int (nI n), .ref (ad 1), .ref (ad 2), .ref (ad 3), .ref (ad 4), .ref (ad 5), .ref (ad 6), .ref (ad 7), .ref (ad 8)]
/-- the cells of a CrdtTable -/
def wx (G : ClassId × ClassId) (ad : Nat → Nat) (st : TS) : va_W :=
  [(ad 0, .inr (0, fx ad st.1)), (ad 1, .inl (G.1, 60, .inl (st.2.1 1))), (ad 2, .inl (G.1, 60, .inl (st.2.1 2))), (ad 3, .inl (G.1, 60, .inl (st.2.1 3))), (ad 4, .inl (G.1, 60, .inl (st.2.1 4))), (ad 5, .inl (G.1, 60, .inl (st.2.1 5))), (ad 6, .inl (G.2, 60, .inr (.inl (st.2.2 6)))), (ad 7, .inl (G.1, 3, .inl (st.2.1 7))), (ad 8, .inl (G.2, 3, .inr (.inl (st.2.2 8)))), (ad 9, .inl (G.2, 3, .inr (.inl (st.2.2 9)))), (ad 10, .inl (G.2, 24, .inr (.inl (st.2.2 10)))), (ad 11, .inl (G.2, 24, .inr (.inl (st.2.2 11)))), (ad 12, .inl (G.1, 24, .inl (st.2.1 12))), (ad 13, .inl (G.1, 24, .inl (st.2.1 13))), (ad 14, .inl (G.1, 24, .inl (st.2.1 14)))]
/-- the cells of a CrdtTableModel -/
def wm (G : ClassId × ClassId) (ad : Nat → Nat) (st : TS) : va_W :=
  [(ad 0, .inr (1, fm ad st.1)), (ad 1, .inl (G.1, 60, .inl (st.2.1 1))), (ad 2, .inl (G.1, 60, .inl (st.2.1 2))), (ad 3, .inl (G.1, 60, .inl (st.2.1 3))), (ad 4, .inl (G.1, 60, .inl (st.2.1 4))), (ad 5, .inl (G.1, 60, .inl (st.2.1 5))), (ad 6, .inl (G.2, 60, .inr (.inl (st.2.2 6)))), (ad 7, .inl (G.2, 3, .inr (.inl (st.2.2 7)))), (ad 8, .inl (G.1, 3, .inl (st.2.1 8)))]
/-- the room of a method that calls d deep and makes no cell -/
abbrev rmD (d : Nat) : Room := { frames := d, cells := 0, slots := 0, locals := 31 * d }
def PQ (D : va_G) (G : ClassId × ClassId) (wf : TS → va_W) (sz : Nat) (st : TS) (U : State) : Prop := U.heap.size = sz ∧ va_P D vwCl (wf st) U.heap ∧ va_K D vwCl (tyz G) U ∧ va_D (fun _ => True) (wf st)
def BQ (D : va_G) (G : ClassId × ClassId) (wf : TS → va_W) (A : Nat → Prop) (u : TS) (t : State) : Prop := va_P D vwCl (wf u) t.heap ∧ va_K D vwCl (tyz G) t ∧ va_D A (wf u)
/-- a contract: over the world wf st the method y with arguments As answers r, and the world is then wf u, with post r u -/
def KI (l : Launch) (D : va_G) (G : ClassId × ClassId) (wf : TS → va_W) (y : MethodName) (ws : List Cond) (d : Nat) (As : List Value) (st : TS) (post : Int32 → TS → Prop) : Prop :=
  ∀ sz : Nat, Met l y ws (rmD d) (va_Pc As (PQ D G wf sz st)) (va_Qi post (BQ D G wf (va_A (wf st) sz)) (va_A (wf st) sz)) 0 0 (va_A (wf st) sz)
/-- the same, of a method without an answer -/
def KV (l : Launch) (D : va_G) (G : ClassId × ClassId) (wf : TS → va_W) (y : MethodName) (ws : List Cond) (d : Nat) (As : List Value) (st : TS) (post : TS → Prop) : Prop :=
  ∀ sz : Nat, Met l y ws (rmD d) (va_Pc As (PQ D G wf sz st)) (va_Qv post (BQ D G wf (va_A (wf st) sz)) (va_A (wf st) sz)) 0 0 (va_A (wf st) sz)
/-- what holds all through a method's body -/
def Cx (p : Program) (s : State) (m : MethodId) (args : Array Value) (meth : Method) (c : Code) (own : String) (cc : ByteArray) (nL : Nat) (ret : Option FieldType) (A : Nat → Prop) (D : va_G) (G : ClassId × ClassId) : Prop :=
  p.tables.exec = Jvm.exec ∧ c.code = cc ∧ meth.sig.returnType = ret ∧ c.maxLocals = nL ∧ s.vm.findClass own = some m.cls ∧ (∀ w ∈ lw_all, w.before args s = true) ∧ meth.locks = false ∧ (∀ q : Nat, s.heap.size ≤ q → A q) ∧ va_K D vwCl (tyz G) s
abbrev QI (D : va_G) (G : ClassId × ClassId) (wf : TS → va_W) (below : List Frame) (args : Array Value) (s : State) (post : Int32 → TS → Prop) (A : Nat → Prop) : State → Prop := MQ below (va_Qi post (BQ D G wf A) A) args s 0 0 A
abbrev QV (D : va_G) (G : ClassId × ClassId) (wf : TS → va_W) (below : List Frame) (args : Array Value) (s : State) (post : TS → Prop) (A : Nat → Prop) : State → Prop := MQ below (va_Qv post (BQ D G wf A) A) args s 0 0 A
theorem KI.of {l : Launch} {D : va_G} {G : ClassId × ClassId} {wf : TS → va_W} {y : MethodName} {d : Nat} {As : List Value} {st : TS} {post : Int32 → TS → Prop} {cc : ByteArray} {maxL : Nat} {ret : Option FieldType} (hy : plainName y.cls = true) (hn : (lg_sl As).length ≤ maxL)
    (body : ∀ (p : Program) (e : Env) (s : State) (m : MethodId) (below : List Frame) (meth : Method) (c : Code) (A : Nat → Prop) (ls : Array Slot), Cx p s m As.toArray meth c y.cls cc maxL ret A D G → va_P D vwCl (wf st) s.heap → va_D A (wf st) → va_S A s.heap s.heap [] → lv_has ls maxL (lv_args 0 As) → W p l e (rmD d) s m As.toArray below meth c s.heap [] 0 0 (QI D G wf below As.toArray s post A) (F0 m 0 ls [])) :
    KI l D G wf y (ws_ y cc maxL ret) d As st post := by
  intro sz
  refine Met.ofW (cc := cc) (maxL := maxL) (ret := ret) hy rfl ?_
  intro p e s m args below meth c s₁ B hml hv
  obtain ⟨rfl, hsz, hP, hK, hD0⟩ := hv
  have hts := atoms_spec (ws := ws_ y cc maxL ret) B.pre
  have hts : ∀ w ∈ lw_all, w.before _ s = true := fun w h => hts w (List.mem_cons_of_mem _ h)
  have hown : s.vm.findClass y.cls = some m.cls := findClass_of_methodNamed B.named
  subst hsz
  have hD := hD0.self (sz := s.heap.size)
  generalize hAe : va_A (wf st) s.heap.size = A at hD ⊢
  have hA : ∀ q : Nat, s.heap.size ≤ q → A q := fun q h => by rw [← hAe]; exact Or.inr h
  have hl := lv_entry As (n := maxL) hn
  rw [lg_entry_eq]
  exact body p e s m below meth c A _ ⟨B.exec, B.bytes, B.returns, hml, hown, hts, B.notSynchronized, hA, hK⟩ hP hD va_S.rf hl
theorem KV.of {l : Launch} {D : va_G} {G : ClassId × ClassId} {wf : TS → va_W} {y : MethodName} {d : Nat} {As : List Value} {st : TS} {post : TS → Prop} {cc : ByteArray} {maxL : Nat} {ret : Option FieldType} (hy : plainName y.cls = true) (hn : (lg_sl As).length ≤ maxL)
    (body : ∀ (p : Program) (e : Env) (s : State) (m : MethodId) (below : List Frame) (meth : Method) (c : Code) (A : Nat → Prop) (ls : Array Slot), Cx p s m As.toArray meth c y.cls cc maxL ret A D G → va_P D vwCl (wf st) s.heap → va_D A (wf st) → va_S A s.heap s.heap [] → lv_has ls maxL (lv_args 0 As) → W p l e (rmD d) s m As.toArray below meth c s.heap [] 0 0 (QV D G wf below As.toArray s post A) (F0 m 0 ls [])) :
    KV l D G wf y (ws_ y cc maxL ret) d As st post := by
  intro sz
  refine Met.ofW (cc := cc) (maxL := maxL) (ret := ret) hy rfl ?_
  intro p e s m args below meth c s₁ B hml hv
  obtain ⟨rfl, hsz, hP, hK, hD0⟩ := hv
  have hts := atoms_spec (ws := ws_ y cc maxL ret) B.pre
  have hts : ∀ w ∈ lw_all, w.before _ s = true := fun w h => hts w (List.mem_cons_of_mem _ h)
  have hown : s.vm.findClass y.cls = some m.cls := findClass_of_methodNamed B.named
  subst hsz
  have hD := hD0.self (sz := s.heap.size)
  generalize hAe : va_A (wf st) s.heap.size = A at hD ⊢
  have hA : ∀ q : Nat, s.heap.size ≤ q → A q := fun q h => by rw [← hAe]; exact Or.inr h
  have hl := lv_entry As (n := maxL) hn
  rw [lg_entry_eq]
  exact body p e s m below meth c A _ ⟨B.exec, B.bytes, B.returns, hml, hown, hts, B.notSynchronized, hA, hK⟩ hP hD va_S.rf hl
section OWN
variable {p : Program} {l : Launch} {e : Env} {R : Room} {s : State} {m : MethodId} {args : Array Value} {below : List Frame} {meth : Method} {c : Code} {H : Heap} {locs : List Loc} {cells slots : Nat} {Q : State → Prop}
variable {cc : ByteArray} {pc : Nat} {ls : Array Slot} {rest st0 : List Value} {D : va_G} {G : ClassId × ClassId} {A : Nat → Prop} {H0 : Heap} {wf : TS → va_W} {st u : TS}
theorem w_ti {x y : Int32} (h : x = y) (k : W p l e R s m args below meth c H locs cells slots Q (F0 m pc ls (.int y :: rest))) : W p l e R s m args below meth c H locs cells slots Q (F0 m pc ls (.int x :: rest)) := by
  subst h; exact k
theorem w_tl {x y : Int64} (h : x = y) (k : W p l e R s m args below meth c H locs cells slots Q (F0 m pc ls (.long y :: rest))) : W p l e R s m args below meth c H locs cells slots Q (F0 m pc ls (.long x :: rest)) := by
  subst h; exact k
/-- the end of a method with an answer -/
theorem kret {post : Int32 → TS → Prop} {v : Int32} {ty : FieldType} (hx : p.tables.exec = Jvm.exec) (hb : c.code = cc) (hr : meth.sig.returnType = some ty) (hlocks : meth.locks = false) (hK : va_K D vwCl (tyz G) s) (hP : va_P D vwCl (wf u) H) (hD : va_D A (wf u)) (hS : va_S A s.heap H locs)
    (hn : narrow ty (.int v) = .int v) (hp : post v u) (hdg : decode cc pc = .ok (.ireturn, 1)) : W p l e R s m args below meth c H locs 0 0 (QI D G wf below args s post A) (F0 m pc ls [.int v]) :=
  W.zret hx hb hr hn (fun t ht hW => ⟨⟨v, u, rfl, hp, by rw [ht]; exact hP, va_K.moved hW.alike hK, hD⟩, hS.F ht⟩) hS.2.2 hdg (hlocks := hlocks)
theorem kretv {post : TS → Prop} (hx : p.tables.exec = Jvm.exec) (hb : c.code = cc) (hr : meth.sig.returnType = none) (hlocks : meth.locks = false) (hK : va_K D vwCl (tyz G) s) (hP : va_P D vwCl (wf u) H) (hD : va_D A (wf u)) (hS : va_S A s.heap H locs)
    (hp : post u) (hdg : decode cc pc = .ok (.return_, 1)) : W p l e R s m args below meth c H locs 0 0 (QV D G wf below args s post A) (F0 m pc ls []) :=
  W.vret hx hb hr (fun t ht hW => ⟨⟨u, rfl, hp, by rw [ht]; exact hP, va_K.moved hW.alike hK, hD⟩, hS.F ht⟩) hS.2.2 hdg (hlocks := hlocks)
theorem k_free (hD : va_D A (wf st)) (hS : va_S A s.heap H locs) (hA : ∀ q : Nat, s.heap.size ≤ q → A q) : ∀ q, va_A (wf st) H.size q → A q := by
  intro q h
  rcases h with ⟨k, e, h⟩ | h
  · exact hD.2 k (q, e) h
  · exact hA q (Nat.le_trans hS.1 h)
/-- a call through an object, over the whole world -/
theorem kcallV {y : MethodName} {d : Nat} {post : Int32 → TS → Prop} {As : List Value} {bytes : ByteArray} {maxL nL n index b : Nat} {ret : Option FieldType} {own : String}
    (S : CallFix p m c cc nL s args lw_all own) (hM : KI l D G wf y (ws_ y bytes maxL ret) d (.ref b :: As) st post)
    (hT : GoodIn lw_all (wsV own index y.cls y (ws_ y bytes maxL ret)))
    (hn : As.length = n) (hd : y.cls ≠ "java/lang/invoke/MethodHandle" ∧ y.cls ≠ "java/lang/invoke/VarHandle" ∧ (parseMethodDescriptor y.desc).map (fun d => d.parameters.length) = some n)
    (hR : d + 1 ≤ R.frames ∧ 8 + (maxL + 11) + 31 * d ≤ R.locals)
    (hrv : ∃ cell : Cell, H[b]? = some cell ∧ cell.vm.isStatics = false ∧ s.vm.findClass y.cls = some cell.cls)
    (hK : va_K D vwCl (tyz G) s) (hP : va_P D vwCl (wf st) H) (hD : va_D A (wf st)) (hS : va_S A s.heap H locs) (hA : ∀ q : Nat, s.heap.size ≤ q → A q)
    (hl : ls.size = nL) (hst : st0 = As.reverse ++ .ref b :: rest) (hW : (rest.map fun v => v.category).sum ≤ 8)
    (hdg : decode cc pc = .ok (.invokevirtual index, 3)) (hf : cells ≤ R.cells ∧ slots ≤ R.slots)
    (kk : ∀ (r : Int32) (u : TS) (H1 : Heap) (locs1 : List Loc), post r u → va_P D vwCl (wf u) H1 → va_D A (wf u) → va_S A s.heap H1 locs1 → W p l e R s m args below meth c H1 locs1 cells slots Q (F0 m (pc + 3) ls (.int r :: rest))) :
    W p l e R s m args below meth c H locs cells slots Q (F0 m pc ls st0) := by
  subst hst
  have hFc := k_free hD hS hA
  have hpre : PreV s H y.cls b (va_Pc (.ref b :: As) (PQ D G wf H.size st)) As := by
    refine ⟨fun a U g mk q => ?_, hrv, fun U hU hW => ?_⟩
    · obtain ⟨q0, q1, qP, qK, qD⟩ := q
      exact ⟨q0, q1, qP, va_K.moved (u := U) (U := U.calling g mk a) (Vm.Alike.refl U.vm) qK, qD⟩
    · exact ⟨rfl, by rw [hU], by rw [hU]; exact hP, va_K.moved hW.alike hK, hD.weaken (fun _ _ _ _ => trivial)⟩
  refine va_calli (va_runV (As := As) (rest := rest) S (hM H.size) (cwV n S.2.2.2.2 hT rfl rfl rfl ⟨rfl, hd⟩ hR) hpre rfl hn hl rfl (lv_room hW) hdg hf) hS (fun q _ h => hFc q h) hFc (fun r u t H1 locs1 ht hvm hw hB hz hk hS1 => ?_)
  obtain ⟨hP1, hK1, hD1⟩ := hB
  rw [ht] at hP1
  exact kk r u H1 locs1 hw hP1 (hD1.weaken (fun k q _ h => hFc q.1 h)) hS1
/-- the same, of a method without an answer -/
theorem kcallW {y : MethodName} {d : Nat} {post : TS → Prop} {As : List Value} {bytes : ByteArray} {maxL nL n index b : Nat} {ret : Option FieldType} {own : String}
    (S : CallFix p m c cc nL s args lw_all own) (hM : KV l D G wf y (ws_ y bytes maxL ret) d (.ref b :: As) st post)
    (hT : GoodIn lw_all (wsV own index y.cls y (ws_ y bytes maxL ret)))
    (hn : As.length = n) (hd : y.cls ≠ "java/lang/invoke/MethodHandle" ∧ y.cls ≠ "java/lang/invoke/VarHandle" ∧ (parseMethodDescriptor y.desc).map (fun d => d.parameters.length) = some n)
    (hR : d + 1 ≤ R.frames ∧ 8 + (maxL + 11) + 31 * d ≤ R.locals)
    (hrv : ∃ cell : Cell, H[b]? = some cell ∧ cell.vm.isStatics = false ∧ s.vm.findClass y.cls = some cell.cls)
    (hK : va_K D vwCl (tyz G) s) (hP : va_P D vwCl (wf st) H) (hD : va_D A (wf st)) (hS : va_S A s.heap H locs) (hA : ∀ q : Nat, s.heap.size ≤ q → A q)
    (hl : ls.size = nL) (hst : st0 = As.reverse ++ .ref b :: rest) (hW : (rest.map fun v => v.category).sum ≤ 8)
    (hdg : decode cc pc = .ok (.invokevirtual index, 3)) (hf : cells ≤ R.cells ∧ slots ≤ R.slots)
    (kk : ∀ (u : TS) (H1 : Heap) (locs1 : List Loc), post u → va_P D vwCl (wf u) H1 → va_D A (wf u) → va_S A s.heap H1 locs1 → W p l e R s m args below meth c H1 locs1 cells slots Q (F0 m (pc + 3) ls rest)) :
    W p l e R s m args below meth c H locs cells slots Q (F0 m pc ls st0) := by
  subst hst
  have hFc := k_free hD hS hA
  have hpre : PreV s H y.cls b (va_Pc (.ref b :: As) (PQ D G wf H.size st)) As := by
    refine ⟨fun a U g mk q => ?_, hrv, fun U hU hW => ?_⟩
    · obtain ⟨q0, q1, qP, qK, qD⟩ := q
      exact ⟨q0, q1, qP, va_K.moved (u := U) (U := U.calling g mk a) (Vm.Alike.refl U.vm) qK, qD⟩
    · exact ⟨rfl, by rw [hU], by rw [hU]; exact hP, va_K.moved hW.alike hK, hD.weaken (fun _ _ _ _ => trivial)⟩
  refine va_callv (va_runV (As := As) (rest := rest) S (hM H.size) (cwV n S.2.2.2.2 hT rfl rfl rfl ⟨rfl, hd⟩ hR) hpre rfl hn hl rfl (lv_room hW) hdg hf) hS (fun q _ h => hFc q h) hFc (fun u t H1 locs1 ht hvm hw hB hz hk hS1 => ?_)
  obtain ⟨hP1, hK1, hD1⟩ := hB
  rw [ht] at hP1
  exact kk u H1 locs1 hw hP1 (hD1.weaken (fun k q _ h => hFc q.1 h)) hS1
/-- a static call, over the whole world -/
theorem kcallS {y : MethodName} {d : Nat} {post : Int32 → TS → Prop} {As : List Value} {bytes : ByteArray} {maxL nL n index : Nat} {ret : Option FieldType} {own : String}
    (S : CallFix p m c cc nL s args lw_all own) (hM : KI l D G wf y (ws_ y bytes maxL ret) d As st post)
    (hT : GoodIn lw_all (va_wsS own index y (ws_ y bytes maxL ret)))
    (hn : As.length = n) (hd : y.cls ≠ "java/lang/invoke/MethodHandle" ∧ y.cls ≠ "java/lang/invoke/VarHandle" ∧ (parseMethodDescriptor y.desc).map (fun d => d.parameters.length) = some n)
    (hR : d + 1 ≤ R.frames ∧ 8 + (maxL + 11) + 31 * d ≤ R.locals)
    (hK : va_K D vwCl (tyz G) s) (hP : va_P D vwCl (wf st) H) (hD : va_D A (wf st)) (hS : va_S A s.heap H locs) (hA : ∀ q : Nat, s.heap.size ≤ q → A q)
    (hl : ls.size = nL) (hst : st0 = As.reverse ++ rest) (hW : (rest.map fun v => v.category).sum ≤ 8)
    (hdg : decode cc pc = .ok (.invokestatic index, 3)) (hf : cells ≤ R.cells ∧ slots ≤ R.slots)
    (kk : ∀ (r : Int32) (u : TS) (H1 : Heap) (locs1 : List Loc), post r u → va_P D vwCl (wf u) H1 → va_D A (wf u) → va_S A s.heap H1 locs1 → W p l e R s m args below meth c H1 locs1 cells slots Q (F0 m (pc + 3) ls (.int r :: rest))) :
    W p l e R s m args below meth c H locs cells slots Q (F0 m pc ls st0) := by
  subst hst
  have hFc := k_free hD hS hA
  have hpre : PreS s H (va_Pc As (PQ D G wf H.size st)) As := by
    refine ⟨fun a U g mk q => ?_, fun U hU hW => ?_⟩
    · obtain ⟨q0, q1, qP, qK, qD⟩ := q
      exact ⟨q0, q1, qP, va_K.moved (u := U) (U := U.calling g mk a) (Vm.Alike.refl U.vm) qK, qD⟩
    · exact ⟨rfl, by rw [hU], by rw [hU]; exact hP, va_K.moved hW.alike hK, hD.weaken (fun _ _ _ _ => trivial)⟩
  refine va_calli (va_runS (As := As) (rest := rest) S (hM H.size) (va_cwS n S.2.2.2.2 hT rfl rfl rfl hd hR) hpre rfl hn hl rfl (lv_room hW) hdg hf) hS (fun q _ h => hFc q h) hFc (fun r u t H1 locs1 ht hvm hw hB hz hk hS1 => ?_)
  obtain ⟨hP1, hK1, hD1⟩ := hB
  rw [ht] at hP1
  exact kk r u H1 locs1 hw hP1 (hD1.weaken (fun k q _ h => hFc q.1 h)) hS1
/-- arrays of the state, by natural places -/
theorem na_iald (k : Nat) {a n j : Nat} (hx : p.tables.exec = Jvm.exec) (hb : c.code = cc) (hK : va_K D vwCl (tyz G) s) (hP : va_P D vwCl (wf st) H) (ha : (wf st)[k]? = some (a, .inl (G.1, n, .inl (st.2.1 k)))) (hn : n < 2 ^ 31) (hj : j < n) (hdg : decode cc pc = .ok (.iaload, 1))
    (kk : W p l e R s m args below meth c H locs cells slots Q (F0 m (pc + 1) ls (.int (st.2.1 k j) :: rest))) : W p l e R s m args below meth c H locs cells slots Q (F0 m pc ls (.int (nI j) :: .ref a :: rest)) := by
  refine va_iald hx hb hK hP k 0 ha rfl (vp_in_nI hj hn) hdg ?_
  rw [nI_clamp (Nat.lt_trans hj hn)]
  exact kk
theorem na_lald (k : Nat) {a n j : Nat} (hx : p.tables.exec = Jvm.exec) (hb : c.code = cc) (hK : va_K D vwCl (tyz G) s) (hP : va_P D vwCl (wf st) H) (ha : (wf st)[k]? = some (a, .inl (G.2, n, .inr (.inl (st.2.2 k))))) (hn : n < 2 ^ 31) (hj : j < n) (hdg : decode cc pc = .ok (.laload, 1))
    (kk : W p l e R s m args below meth c H locs cells slots Q (F0 m (pc + 1) ls (.long (st.2.2 k j) :: rest))) : W p l e R s m args below meth c H locs cells slots Q (F0 m pc ls (.int (nI j) :: .ref a :: rest)) := by
  refine va_lald hx hb hK hP k 1 ha rfl (vp_in_nI hj hn) hdg ?_
  rw [nI_clamp (Nat.lt_trans hj hn)]
  exact kk
theorem na_iast (k : Nat) {a n j : Nat} {x : Int32} (hx : p.tables.exec = Jvm.exec) (hb : c.code = cc) (hK : va_K D vwCl (tyz G) s) (hP : va_P D vwCl (wf st) H) (hD : va_D A (wf st)) (hS : va_S A H0 H locs) (ha : (wf st)[k]? = some (a, .inl (G.1, n, .inl (st.2.1 k)))) (hset : ∀ f : Nat → Int32, (wf st).set k (a, .inl (G.1, n, .inl f)) = wf (st.1, va_up st.2.1 k f, st.2.2)) (hn : n < 2 ^ 31) (hj : j < n) (hdg : decode cc pc = .ok (.iastore, 1))
    (kk : ∀ (H1 : Heap) (locs1 : List Loc), va_P D vwCl (wf (sI st k j x)) H1 → va_D A (wf (sI st k j x)) → va_S A H0 H1 locs1 → W p l e R s m args below meth c H1 locs1 cells slots Q (F0 m (pc + 1) ls rest)) : W p l e R s m args below meth c H locs cells slots Q (F0 m pc ls (.int x :: .int (nI j) :: .ref a :: rest)) := by
  refine va_iast hx hb hK hP hD hS k 0 ha rfl (vp_in_nI hj hn) hdg (fun H1 locs1 h1 h2 h3 => ?_)
  rw [nI_clamp (Nat.lt_trans hj hn), hset] at h1 h2
  exact kk H1 locs1 h1 h2 h3
theorem na_last (k : Nat) {a n j : Nat} {x : Int64} (hx : p.tables.exec = Jvm.exec) (hb : c.code = cc) (hK : va_K D vwCl (tyz G) s) (hP : va_P D vwCl (wf st) H) (hD : va_D A (wf st)) (hS : va_S A H0 H locs) (ha : (wf st)[k]? = some (a, .inl (G.2, n, .inr (.inl (st.2.2 k))))) (hset : ∀ f : Nat → Int64, (wf st).set k (a, .inl (G.2, n, .inr (.inl f))) = wf (st.1, st.2.1, va_up st.2.2 k f)) (hn : n < 2 ^ 31) (hj : j < n) (hdg : decode cc pc = .ok (.lastore, 1))
    (kk : ∀ (H1 : Heap) (locs1 : List Loc), va_P D vwCl (wf (sL st k j x)) H1 → va_D A (wf (sL st k j x)) → va_S A H0 H1 locs1 → W p l e R s m args below meth c H1 locs1 cells slots Q (F0 m (pc + 1) ls rest)) : W p l e R s m args below meth c H locs cells slots Q (F0 m pc ls (.long x :: .int (nI j) :: .ref a :: rest)) := by
  refine va_last hx hb hK hP hD hS k 1 ha rfl (vp_in_nI hj hn) hdg (fun H1 locs1 h1 h2 h3 => ?_)
  rw [nI_clamp (Nat.lt_trans hj hn), hset] at h1 h2
  exact kk H1 locs1 h1 h2 h3
/-- fields of the two objects -/
theorem x_get (k : Nat) {ad : Nat → Nat} {index : Nat} {v : Value} (hx : p.tables.exec = Jvm.exec) (hb : c.code = cc) (hts : ∀ w ∈ lw_all, w.before args s = true) (hown : s.vm.findClass RX0 = some m.cls) (hK : va_K D vwCl (tyz G) s) (hP : va_P D vwCl (wx G ad st) H) (hk : k < 15) (hs : (TX0 k).1 = RX0) (hq : Cond.fieldLink RX0 index RX0 (TX0 k).2.1 (TX0 k).2.2.1 ∈ lw_all) (hv : (fx ad st.1)[k]? = some v) (hdg : decode cc pc = .ok (.getfield index, 3))
    (kk : W p l e R s m args below meth c H locs cells slots Q (F0 m (pc + 3) ls (v :: rest))) : W p l e R s m args below meth c H locs cells slots Q (F0 m pc ls (.ref (ad 0) :: rest)) :=
  va_get (D := D) (ci := 0) (C := RX0) (T := TX0) (N := 15) hx hb hts in_X0 hown hK hP 0 rfl rfl k hk (hts _ hq) (fun _ h9 => by rw [hs] at h9; exact h9) hv hdg kk
theorem m_get (k : Nat) {ad : Nat → Nat} {index : Nat} {v : Value} (hx : p.tables.exec = Jvm.exec) (hb : c.code = cc) (hts : ∀ w ∈ lw_all, w.before args s = true) (hown : s.vm.findClass RX1 = some m.cls) (hK : va_K D vwCl (tyz G) s) (hP : va_P D vwCl (wm G ad st) H) (hk : k < 9) (hs : (TX1 k).1 = RX1) (hq : Cond.fieldLink RX1 index RX1 (TX1 k).2.1 (TX1 k).2.2.1 ∈ lw_all) (hv : (fm ad st.1)[k]? = some v) (hdg : decode cc pc = .ok (.getfield index, 3))
    (kk : W p l e R s m args below meth c H locs cells slots Q (F0 m (pc + 3) ls (v :: rest))) : W p l e R s m args below meth c H locs cells slots Q (F0 m pc ls (.ref (ad 0) :: rest)) :=
  va_get (D := D) (ci := 1) (C := RX1) (T := TX1) (N := 9) hx hb hts in_X1 hown hK hP 0 rfl rfl k hk (hts _ hq) (fun _ h9 => by rw [hs] at h9; exact h9) hv hdg kk
theorem x_putN {ad : Nat → Nat} (hx : p.tables.exec = Jvm.exec) (hb : c.code = cc) (hts : ∀ w ∈ lw_all, w.before args s = true) (hown : s.vm.findClass RX0 = some m.cls) (hK : va_K D vwCl (tyz G) s) (hP : va_P D vwCl (wx G ad st) H) (hD : va_D A (wx G ad st)) (hS : va_S A H0 H locs) (hdg : decode cc pc = .ok (.putfield 59, 3))
    (kk : ∀ (H1 : Heap) (locs1 : List Loc), va_P D vwCl (wx G ad (sN st)) H1 → va_D A (wx G ad (sN st)) → va_S A H0 H1 locs1 → W p l e R s m args below meth c H1 locs1 cells slots Q (F0 m (pc + 3) ls rest)) : W p l e R s m args below meth c H locs cells slots Q (F0 m pc ls (.int (nI (st.1 + 1)) :: .ref (ad 0) :: rest)) :=
  va_put (D := D) (ci := 0) (v := .int (nI (st.1 + 1))) (ty := .int) (C := RX0) (T := TX0) (N := 15) hx hb hts in_X0 tyX0 tyX0_ok nmX0 hown hK hP hD hS 0 rfl rfl 0 (by decide) (hts _ q25) (fun _ h9 => h9) rfl (by decide +kernel) rfl rfl (Nat.le_of_ble_eq_true rfl) hdg (fun H1 locs1 h1 h2 h3 => kk H1 locs1 h1 h2 h3)
theorem m_putN {ad : Nat → Nat} (hx : p.tables.exec = Jvm.exec) (hb : c.code = cc) (hts : ∀ w ∈ lw_all, w.before args s = true) (hown : s.vm.findClass RX1 = some m.cls) (hK : va_K D vwCl (tyz G) s) (hP : va_P D vwCl (wm G ad st) H) (hD : va_D A (wm G ad st)) (hS : va_S A H0 H locs) (hdg : decode cc pc = .ok (.putfield 46, 3))
    (kk : ∀ (H1 : Heap) (locs1 : List Loc), va_P D vwCl (wm G ad (sN st)) H1 → va_D A (wm G ad (sN st)) → va_S A H0 H1 locs1 → W p l e R s m args below meth c H1 locs1 cells slots Q (F0 m (pc + 3) ls rest)) : W p l e R s m args below meth c H locs cells slots Q (F0 m pc ls (.int (nI (st.1 + 1)) :: .ref (ad 0) :: rest)) :=
  va_put (D := D) (ci := 1) (v := .int (nI (st.1 + 1))) (ty := .int) (C := RX1) (T := TX1) (N := 9) hx hb hts in_X1 tyX1 tyX1_ok nmX1 hown hK hP hD hS 0 rfl rfl 0 (by decide) (hts _ q182) (fun _ h9 => h9) rfl (by decide +kernel) rfl rfl (Nat.le_of_ble_eq_true rfl) hdg (fun H1 locs1 h1 h2 h3 => kk H1 locs1 h1 h2 h3)
theorem x_rv {ad : Nat → Nat} (hK : va_K D vwCl (tyz G) s) (hP : va_P D vwCl (wx G ad st) H) : ∃ cell : Cell, H[ad 0]? = some cell ∧ cell.vm.isStatics = false ∧ s.vm.findClass RX0 = some cell.cls := va_recv hK hP (ci := 0) (q0 := 0) (q := (RX0, TX0, 15)) rfl rfl
theorem m_rv {ad : Nat → Nat} (hK : va_K D vwCl (tyz G) s) (hP : va_P D vwCl (wm G ad st) H) : ∃ cell : Cell, H[ad 0]? = some cell ∧ cell.vm.isStatics = false ∧ s.vm.findClass RX1 = some cell.cls := va_recv hK hP (ci := 1) (q0 := 0) (q := (RX1, TX1, 9)) rfl rfl
end OWN
end
section
/-! PURE WORDS: truth as an int, valid arguments, bits of a long; what the two tables compute, as plain functions -/
noncomputable def cT {α : Type} (p : Prop) (x y : α) : α := @ite α p (Classical.propDecidable p) x y
theorem cT_t {α : Type} {p : Prop} (h : p) (x y : α) : cT p x y = x := by unfold cT; exact @if_pos p (Classical.propDecidable p) h α x y
theorem cT_f {α : Type} {p : Prop} (h : ¬ p) (x y : α) : cT p x y = y := by unfold cT; exact @if_neg p (Classical.propDecidable p) h α x y
theorem cT_c {α : Type} {p q : Prop} (h : p ↔ q) {x y x' y' : α} (hx : q → x = x') (hy : ¬ q → y = y') : cT p x y = cT q x' y' := by
  by_cases hq : q
  · rw [cT_t (h.mpr hq), cT_t hq, hx hq]
  · rw [cT_f (fun z => hq (h.mp z)), cT_f hq, hy hq]
noncomputable def bI (p : Prop) : Int32 := cT p 1 0
theorem bI_t {p : Prop} (h : p) : bI p = 1 := cT_t h 1 0
theorem bI_f {p : Prop} (h : ¬ p) : bI p = 0 := cT_f h 1 0
theorem bI_c {p q : Prop} (h : p ↔ q) : bI p = bI q := cT_c h (fun _ => rfl) (fun _ => rfl)
theorem bI_ne {p : Prop} (h : ¬ bI p = 0) : p := by
  by_cases hp : p
  · exact hp
  · exact absurd (bI_f hp) h
theorem bI_eq {p : Prop} (h : bI p = 0) : ¬ p := by
  intro hp
  rw [bI_t hp] at h
  exact absurd h (by decide)
theorem bI_bI {p q : Prop} (h : bI p = bI q) : p ↔ q := by
  by_cases hq : q
  · rw [bI_t hq] at h
    exact ⟨fun _ => hq, fun _ => bI_ne (by rw [h]; decide)⟩
  · rw [bI_f hq] at h
    exact ⟨fun hp => absurd hp (bI_eq h), fun z => absurd z hq⟩
theorem nar_b (p : Prop) : narrow .boolean (.int (bI p)) = .int (bI p) := by
  by_cases hp : p
  · rw [bI_t hp]; rfl
  · rw [bI_f hp]; rfl
/-- a number below N -/
def rr (N : Nat) (p : Int32) : Prop := ∃ r, r < N ∧ p = nI r
theorem rr_mk {N r : Nat} (h : r < N) : rr N (nI r) := ⟨r, h, rfl⟩
theorem rr_neg {N : Nat} (hN : N < 2 ^ 31) {p : Int32} (h : p < 0) : ¬ rr N p := by
  rintro ⟨r, hr, rfl⟩
  exact nI_pos (Nat.lt_trans hr hN) h
theorem rr_lt {N : Nat} {M p : Int32} (hM : M = nI N) (hN : N < 2 ^ 31) (h0 : ¬ p < 0) (h : p < M) : rr N p := by
  obtain ⟨j, hj, rfl⟩ := nI_of h0
  subst hM
  exact ⟨j, (nI_ltI hj hN).mp h, rfl⟩
theorem rr_nlt {N : Nat} {M p : Int32} (hM : M = nI N) (hN : N < 2 ^ 31) (h : ¬ p < M) : ¬ rr N p := by
  rintro ⟨r, hr, rfl⟩
  subst hM
  exact h (nI_lt hr hN)
theorem rr_le {N : Nat} {M p : Int32} (hM : M = nI N) (hN : N + 1 < 2 ^ 31) (h0 : ¬ p < 0) (h : p ≤ M) : rr (N + 1) p := by
  obtain ⟨j, hj, rfl⟩ := nI_of h0
  subst hM
  have := (nI_leI hj (by omega)).mp h
  exact ⟨j, by omega, rfl⟩
theorem rr_nle {N : Nat} {M p : Int32} (hM : M = nI N) (hN : N + 1 < 2 ^ 31) (h : ¬ p ≤ M) : ¬ rr (N + 1) p := by
  rintro ⟨r, hr, rfl⟩
  subst hM
  exact h (nI_le (by omega) (by omega))
theorem nI_in_lt {N a b : Nat} (hN : N < 2 ^ 31) (ha : a < N) (hb : b < N) (h : nI a = nI b) : a = b := (nI_eq (Nat.lt_trans ha hN) (Nat.lt_trans hb hN)).mp h
/-- an answer that is F at valid arguments, and d at others -/
def vf (N M : Nat) (p q : Int32) (F : Nat → Nat → Int32) (d r : Int32) : Prop := (∀ a b, a < N → b < M → p = nI a → q = nI b → r = F a b) ∧ (¬ (rr N p ∧ rr M q) → r = d)
theorem vf_ok {N M a b : Nat} {F : Nat → Nat → Int32} {d r : Int32} (hN : N < 2 ^ 31) (hM : M < 2 ^ 31) (ha : a < N) (hb : b < M) (h : r = F a b) : vf N M (nI a) (nI b) F d r := by
  refine ⟨fun a' b' h1 h2 e1 e2 => ?_, fun z => absurd ⟨rr_mk ha, rr_mk hb⟩ z⟩
  rw [← nI_in_lt hN ha h1 e1, ← nI_in_lt hM hb h2 e2]
  exact h
theorem vf_no {N M : Nat} {p q : Int32} {F : Nat → Nat → Int32} {d r : Int32} (h : ¬ (rr N p ∧ rr M q)) (hr : r = d) : vf N M p q F d r :=
  ⟨fun a b h1 h2 e1 e2 => absurd ⟨⟨a, h1, e1⟩, ⟨b, h2, e2⟩⟩ h, fun _ => hr⟩
theorem vf_at {N M a b : Nat} {F : Nat → Nat → Int32} {d r : Int32} (h : vf N M (nI a) (nI b) F d r) (ha : a < N) (hb : b < M) : r = F a b := h.1 a b ha hb rfl rfl
theorem vf_eq {N M : Nat} {p q : Int32} {F F' : Nat → Nat → Int32} {d r r' : Int32} (h : vf N M p q F d r) (h' : vf N M p q F' d r') (hF : ∀ a b, a < N → b < M → F a b = F' a b) : r = r' := by
  by_cases hv : rr N p ∧ rr M q
  · obtain ⟨⟨a, ha, rfl⟩, ⟨b, hb, rfl⟩⟩ := hv
    rw [vf_at h ha hb, vf_at h' ha hb, hF a b ha hb]
  · rw [h.2 hv, h'.2 hv]
def vg (N : Nat) (p : Int32) (F : Nat → Int32) (d r : Int32) : Prop := (∀ a, a < N → p = nI a → r = F a) ∧ (¬ rr N p → r = d)
theorem vg_ok {N a : Nat} {F : Nat → Int32} {d r : Int32} (hN : N < 2 ^ 31) (ha : a < N) (h : r = F a) : vg N (nI a) F d r := by
  refine ⟨fun a' h1 e1 => ?_, fun z => absurd (rr_mk ha) z⟩
  rw [← nI_in_lt hN ha h1 e1]
  exact h
theorem vg_no {N : Nat} {p : Int32} {F : Nat → Int32} {d r : Int32} (h : ¬ rr N p) (hr : r = d) : vg N p F d r :=
  ⟨fun a h1 e1 => absurd ⟨a, h1, e1⟩ h, fun _ => hr⟩
theorem vg_eq {N : Nat} {p : Int32} {F F' : Nat → Int32} {d r r' : Int32} (h : vg N p F d r) (h' : vg N p F' d r') (hF : ∀ a, a < N → F a = F' a) : r = r' := by
  by_cases hv : rr N p
  · obtain ⟨a, ha, rfl⟩ := hv
    rw [h.1 a ha rfl, h'.1 a ha rfl, hF a ha]
  · rw [h.2 hv, h'.2 hv]
theorem ix8 (a b : Nat) : nI a * 8 + nI b = nI (a * 8 + b) := by
  rw [show (8 : Int32) = nI 8 from rfl, pk_mul, nI_add]
theorem nI_60 : (60 : Int32) = nI 60 := rfl
/-- bits of a long -/
def lb (w : Int64) (b : Nat) : Prop := w.toBitVec.getLsbD b = true
def bitL (a : Nat) : Int64 := (1 : Int64) <<< ((nI a).toInt64 &&& 63)
def shU (w : Int64) (a : Nat) : Int64 := (w.toUInt64 >>> ((nI a).toInt64.toUInt64 &&& Int64.toUInt64 63)).toInt64
def shS (w : Int64) (a : Nat) : Int64 := w >>> ((nI a).toInt64 &&& 63)
theorem lb_lt {w : Int64} {b : Nat} (h : lb w b) : b < 64 := by
  unfold lb at h
  rcases Nat.lt_or_ge b 64 with h1 | h1
  · exact h1
  · rw [BitVec.getLsbD_of_ge _ _ h1] at h; cases h
theorem bitL_bv : ∀ a, a < 64 → (bitL a).toBitVec = BitVec.twoPow 64 a := by decide +kernel
theorem lb_bit {a : Nat} (ha : a < 64) (b : Nat) : lb (bitL a) b ↔ b = a := by
  unfold lb
  rw [bitL_bv a ha, BitVec.getLsbD_twoPow]
  simp [ha]
  exact eq_comm
theorem lb_or (w v : Int64) (b : Nat) : lb (w ||| v) b ↔ lb w b ∨ lb v b := by
  unfold lb
  rw [Int64.toBitVec_or, BitVec.getLsbD_or, Bool.or_eq_true]
theorem lb_and (w v : Int64) (b : Nat) : lb (w &&& v) b ↔ lb w b ∧ lb v b := by
  unfold lb
  rw [Int64.toBitVec_and, BitVec.getLsbD_and, Bool.and_eq_true]
theorem lb_not {b : Nat} (hb : b < 64) (w : Int64) : lb (w ^^^ (-1)) b ↔ ¬ lb w b := by
  unfold lb
  have ha : (-1 : Int64).toBitVec = BitVec.allOnes 64 := by decide
  rw [Int64.toBitVec_xor, ha, BitVec.getLsbD_xor, BitVec.getLsbD_allOnes]
  simp [hb]
theorem lb_andn (w v : Int64) (b : Nat) : lb (w &&& (v ^^^ (-1))) b ↔ lb w b ∧ ¬ lb v b := by
  rw [lb_and]
  constructor
  · intro h; exact ⟨h.1, (lb_not (lb_lt h.1) v).mp h.2⟩
  · intro h; exact ⟨h.1, (lb_not (lb_lt h.1) v).mpr h.2⟩
theorem lb_0 (b : Nat) : ¬ lb 0 b := by
  unfold lb
  show ¬ (0#64).getLsbD b = true
  simp
theorem lb_ne (w : Int64) : ¬ w = 0 ↔ ∃ b, lb w b := by
  constructor
  · intro h
    by_cases hx : ∃ b, lb w b
    · exact hx
    · refine absurd ?_ h
      apply Int64.toBitVec_inj.mp
      apply BitVec.eq_of_getLsbD_eq
      intro i hi
      have h1 : ¬ lb w i := fun z => hx ⟨i, z⟩
      unfold lb at h1
      show _ = (0#64).getLsbD i
      simp only [Bool.not_eq_true] at h1
      rw [h1]
      simp
  · rintro ⟨b, hb⟩ rfl
    exact lb_0 b hb
theorem lb_one (w : Int64) : (w &&& 1) = 1 ↔ lb w 0 := by
  unfold lb
  rw [← Int64.toBitVec_inj, Int64.toBitVec_and]
  show w.toBitVec &&& 1#64 = 1#64 ↔ _
  constructor
  · intro h
    have t := congrArg (fun x => x.getLsbD 0) h
    simpa using t
  · intro h
    apply BitVec.eq_of_getLsbD_eq
    intro i hi
    cases i with
    | zero => simp [h]
    | succ i => simp
theorem amt_u : ∀ a, a < 64 → ((nI a).toInt64.toUInt64 &&& Int64.toUInt64 63).toNat = a := by decide +kernel
theorem amt_s : ∀ a, a < 64 → (((nI a).toInt64 &&& 63).toBitVec.smod 64).toNat = a := by decide +kernel
theorem shU_lb {a : Nat} (ha : a < 64) (w : Int64) : (shU w a &&& 1) = 1 ↔ lb w a := by
  rw [lb_one]
  have e : (shU w a).toBitVec = w.toBitVec >>> a := by
    apply BitVec.eq_of_toNat_eq
    show (w.toUInt64 >>> ((nI a).toInt64.toUInt64 &&& Int64.toUInt64 63)).toNat = _
    rw [UInt64.toNat_shiftRight, amt_u a ha, Nat.mod_eq_of_lt ha, BitVec.toNat_ushiftRight]
    rfl
  unfold lb
  rw [e]
  simp
theorem shS_lb {a : Nat} (ha : a < 64) (w : Int64) : (shS w a &&& 1) = 1 ↔ lb w a := by
  rw [lb_one]
  have e : (shS w a).toBitVec = w.toBitVec.sshiftRight a := by
    show (w >>> ((nI a).toInt64 &&& 63)).toBitVec = _
    rw [Int64.toBitVec_shiftRight, BitVec.sshiftRight_eq', amt_s a ha]
  unfold lb
  rw [e, BitVec.getLsbD_sshiftRight]
  simp [ha]
/-- the state's cells behind a store -/
theorem sI_at (st : TS) (k j : Nat) (x : Int32) (k' j' : Nat) : (sI st k j x).2.1 k' j' = if k' = k ∧ j' = j then x else st.2.1 k' j' := by
  unfold sI va_up upd
  dsimp only
  by_cases h1 : k' = k
  · subst h1
    by_cases h2 : j' = j
    · simp [h2]
    · simp [h2]
  · simp [h1]
theorem sI_L (st : TS) (k j : Nat) (x : Int32) : (sI st k j x).2.2 = st.2.2 := rfl
theorem sI_n (st : TS) (k j : Nat) (x : Int32) : (sI st k j x).1 = st.1 := rfl
theorem sL_at (st : TS) (k j : Nat) (x : Int64) (k' j' : Nat) : (sL st k j x).2.2 k' j' = if k' = k ∧ j' = j then x else st.2.2 k' j' := by
  unfold sL va_up vp_updL
  dsimp only
  by_cases h1 : k' = k
  · subst h1
    by_cases h2 : j' = j
    · simp [h2]
    · simp [h2]
  · simp [h1]
theorem sL_I (st : TS) (k j : Nat) (x : Int64) : (sL st k j x).2.1 = st.2.1 := rfl
theorem sL_n (st : TS) (k j : Nat) (x : Int64) : (sL st k j x).1 = st.1 := rfl
theorem sI_k (st : TS) (k j : Nat) (x : Int32) (k' : Nat) (h : k' ≠ k) : (sI st k j x).2.1 k' = st.2.1 k' := by
  unfold sI va_up
  dsimp only
  rw [if_neg h]
theorem sL_k (st : TS) (k j : Nat) (x : Int64) (k' : Nat) (h : k' ≠ k) : (sL st k j x).2.2 k' = st.2.2 k' := by
  unfold sL va_up
  dsimp only
  rw [if_neg h]
theorem sN_I (st : TS) : (sN st).2.1 = st.2.1 := rfl
theorem sN_L (st : TS) : (sN st).2.2 = st.2.2 := rfl
theorem sN_n (st : TS) : (sN st).1 = st.1 + 1 := rfl
/-! ===== what CrdtTable computes ===== -/
abbrev latN (z : TS) (a b : Nat) : Prop := (¬ z.2.1 4 a = z.2.1 4 b ∧ z.2.1 4 b < z.2.1 4 a) ∨ (z.2.1 4 a = z.2.1 4 b ∧ z.2.1 5 b < z.2.1 5 a)
def lat (z : TS) (a : Nat) (v : Int32) : Prop := v < 0 ∨ latN z a v.toNatClampNeg
def xThB (z : TS) (a b : Nat) : Prop := ¬ z.2.2 11 (a * 8 + b) = 0
noncomputable def xTh (z : TS) (a b : Nat) : Int32 := bI (xThB z a b)
noncomputable def xName (z : TS) (a b : Nat) : Int32 := cT (xThB z a b) (cT (z.2.1 12 (a * 8 + b) < 0) 0 (z.2.1 3 (z.2.1 12 (a * 8 + b)).toNatClampNeg)) 0
noncomputable def xCount (z : TS) (a b : Nat) : Int32 := cT (xThB z a b) (z.2.1 14 (a * 8 + b)) 0
noncomputable def xLink (z : TS) (a b : Nat) : Int32 := cT (xThB z a b) (cT (z.2.1 13 (a * 8 + b) < 0 ∨ z.2.1 3 (z.2.1 13 (a * 8 + b)).toNatClampNeg < 0) (-1) (cT (xThB z a (z.2.1 3 (z.2.1 13 (a * 8 + b)).toNatClampNeg).toNatClampNeg) (z.2.1 3 (z.2.1 13 (a * 8 + b)).toNatClampNeg) (-1))) (-1)
noncomputable def xRows (z : TS) (a : Nat) : Nat → Int32
  | 0 => 0
  | k + 1 => xRows z a k + xTh z a k
noncomputable def xSum (z : TS) (a : Nat) : Nat → Int32
  | 0 => 0
  | k + 1 => xSum z a k + xCount z a k
noncomputable def xKnown (z : TS) (a : Nat) : Nat → Int32
  | 0 => 0
  | k + 1 => xKnown z a k + bI (lb (z.2.2 8 a) k)
def xSame (z : TS) (a b k : Nat) : Prop := (xThB z a k ↔ xThB z b k) ∧ xName z a k = xName z b k ∧ xCount z a k = xCount z b k ∧ xLink z a k = xLink z b k
noncomputable def xAgree (z : TS) (a b : Nat) : Int32 := bI (∀ k, k < 8 → xSame z a b k)
noncomputable def xRow (z : TS) (r a : Nat) : TS :=
  cT (z.2.1 1 a = 0) (sL (sL z 10 (r * 8 + (z.2.1 2 a).toNatClampNeg) (z.2.2 10 (r * 8 + (z.2.1 2 a).toNatClampNeg) ||| bitL a)) 11 (r * 8 + (z.2.1 2 a).toNatClampNeg) (z.2.2 11 (r * 8 + (z.2.1 2 a).toNatClampNeg) ||| (bitL a &&& (z.2.2 9 r ^^^ (-1)))))
  (cT (z.2.1 1 a = 1) (sL (sL z 9 r (z.2.2 9 r ||| z.2.2 6 a)) 11 (r * 8 + (z.2.1 2 a).toNatClampNeg) (z.2.2 11 (r * 8 + (z.2.1 2 a).toNatClampNeg) &&& (z.2.2 6 a ^^^ (-1))))
  (cT (z.2.1 1 a = 2) (cT (lat z a (z.2.1 12 (r * 8 + (z.2.1 2 a).toNatClampNeg))) (sI z 12 (r * 8 + (z.2.1 2 a).toNatClampNeg) (nI a)) z)
  (cT (z.2.1 1 a = 3) (sI z 14 (r * 8 + (z.2.1 2 a).toNatClampNeg) (z.2.1 14 (r * 8 + (z.2.1 2 a).toNatClampNeg) + z.2.1 3 a))
  (cT (lat z a (z.2.1 13 (r * 8 + (z.2.1 2 a).toNatClampNeg))) (sI z 13 (r * 8 + (z.2.1 2 a).toNatClampNeg) (nI a)) z))))
noncomputable def xSt (z : TS) (r a : Nat) : TS := cT (z.2.1 7 r < z.2.1 4 a) (sI z 7 r (z.2.1 4 a)) z
noncomputable def xTake (z : TS) (r a : Nat) : TS := xRow (xSt (sL z 8 r (z.2.2 8 r ||| bitL a)) r a) r a
def xApp (z : TS) (r k w : Nat) (v : Int32) : TS := sN (sL (sI (sI (sI (sI (sI z 1 z.1 (nI k)) 2 z.1 (nI w)) 3 z.1 v) 4 z.1 (z.2.1 7 r + 1)) 5 z.1 (nI r)) 6 z.1 (if k = 1 then z.2.2 10 (r * 8 + w) else 0))
noncomputable def xAct (z : TS) (r k w : Nat) (v : Int32) : TS := xTake (xApp z r k w v) r z.1
noncomputable def xLr (to : Nat) (fresh : Int64) (lim : Int32) : Nat → Nat → Nat → TS → TS × Nat
  | 0, _, c, z => (z, c)
  | k + 1, a, c, z => cT (lim ≤ nI c) (z, c) (cT (lb fresh a) (xLr to fresh lim k (a + 1) (c + 1) (xTake z to a)) (xLr to fresh lim k (a + 1) c z))
/-- what takeIn's places need -/
def WFw (z : TS) : Prop := (∀ a, a < 60 → ∃ w, w < 8 ∧ z.2.1 2 a = nI w) ∧ (∀ i, i < 24 → z.2.1 12 i < 0 ∨ ∃ b, b < 60 ∧ z.2.1 12 i = nI b) ∧ (∀ i, i < 24 → z.2.1 13 i < 0 ∨ ∃ b, b < 60 ∧ z.2.1 13 i = nI b)
/-- what linkOf's places need -/
def WFl (z : TS) : Prop := ∀ i b, i < 24 → b < 60 → z.2.1 13 i = nI b → z.2.1 3 b < 0 ∨ ∃ w, w < 8 ∧ z.2.1 3 b = nI w
/-! ===== what CrdtTableModel computes ===== -/
def mCanc (z : TS) (r a : Nat) : Prop := ∃ b, b < z.1 ∧ lb (z.2.2 7 r) b ∧ z.2.1 1 b = 1 ∧ z.2.1 2 b = z.2.1 2 a ∧ lb (z.2.2 6 b) a
def mThB (z : TS) (r : Nat) (w : Int32) : Prop := ∃ a, a < z.1 ∧ lb (z.2.2 7 r) a ∧ z.2.1 1 a = 0 ∧ z.2.1 2 a = w ∧ ¬ mCanc z r a
noncomputable def mTh (z : TS) (a b : Nat) : Int32 := bI (mThB z a (nI b))
def mHit (z : TS) (r : Nat) (w k : Int32) (a : Nat) : Prop := lb (z.2.2 7 r) a ∧ z.2.1 1 a = k ∧ z.2.1 2 a = w
def mBet (z : TS) (a : Nat) (v : Int32) : Prop := v < 0 ∨ z.2.1 4 v.toNatClampNeg < z.2.1 4 a ∨ (z.2.1 4 a = z.2.1 4 v.toNatClampNeg ∧ z.2.1 5 v.toNatClampNeg < z.2.1 5 a)
noncomputable def mLast (z : TS) (r : Nat) (w k : Int32) : Nat → Int32
  | 0 => -1
  | a + 1 => cT (mHit z r w k a ∧ mBet z a (mLast z r w k a)) (nI a) (mLast z r w k a)
noncomputable def mSumR (z : TS) (r : Nat) (w : Int32) : Nat → Int32
  | 0 => 0
  | a + 1 => cT (mHit z r w 3 a) (mSumR z r w a + z.2.1 3 a) (mSumR z r w a)
noncomputable def mName (z : TS) (a b : Nat) : Int32 := cT (mThB z a (nI b)) (cT (mLast z a (nI b) 2 z.1 < 0) 0 (z.2.1 3 (mLast z a (nI b) 2 z.1).toNatClampNeg)) 0
noncomputable def mCount (z : TS) (a b : Nat) : Int32 := cT (mThB z a (nI b)) (mSumR z a (nI b) z.1) 0
noncomputable def mLink (z : TS) (a b : Nat) : Int32 := cT (mThB z a (nI b)) (cT (¬ mLast z a (nI b) 4 z.1 < 0 ∧ rr 8 (z.2.1 3 (mLast z a (nI b) 4 z.1).toNatClampNeg) ∧ mThB z a (z.2.1 3 (mLast z a (nI b) 4 z.1).toNatClampNeg)) (z.2.1 3 (mLast z a (nI b) 4 z.1).toNatClampNeg) (-1)) (-1)
noncomputable def mRows (z : TS) (a : Nat) : Nat → Int32
  | 0 => 0
  | k + 1 => mRows z a k + mTh z a k
noncomputable def mSum (z : TS) (a : Nat) : Nat → Int32
  | 0 => 0
  | k + 1 => mSum z a k + mCount z a k
noncomputable def mKnown (z : TS) (a : Nat) : Nat → Int32
  | 0 => 0
  | k + 1 => mKnown z a k + bI (lb (z.2.2 7 a) k)
def mSame (z : TS) (a b k : Nat) : Prop := (mThB z a (nI k) ↔ mThB z b (nI k)) ∧ mName z a k = mName z b k ∧ mCount z a k = mCount z b k ∧ mLink z a k = mLink z b k
noncomputable def mAgree (z : TS) (a b : Nat) : Int32 := bI (∀ k, k < 8 → mSame z a b k)
noncomputable def mSt (z : TS) (r a : Nat) : TS := cT (z.2.1 8 r < z.2.1 4 a) (sI z 8 r (z.2.1 4 a)) z
noncomputable def mTake (z : TS) (r a : Nat) : TS := mSt (sL z 7 r (z.2.2 7 r ||| bitL a)) r a
noncomputable def mLr (to fr : Nat) (lim : Int32) : Nat → Nat → Nat → TS → TS × Nat
  | 0, _, c, z => (z, c)
  | k + 1, a, c, z => cT (nI c < lim ∧ lb (z.2.2 7 fr) a ∧ ¬ lb (z.2.2 7 to) a) (mLr to fr lim k (a + 1) (c + 1) (mTake z to a)) (mLr to fr lim k (a + 1) c z)
def mAct (z : TS) (r k w : Nat) (v : Int32) : TS :=
  sN (sL (sI (sI (sL (sI (sI (sI (sI z 1 z.1 (nI k)) 2 z.1 (nI w)) 3 z.1 v) 5 z.1 (nI r)) 6 z.1 (z.2.2 7 r)) 8 r (z.2.1 8 r + 1)) 4 z.1 (z.2.1 8 r + 1)) 7 r (z.2.2 7 r ||| bitL z.1))
/-! ===== what an action answers, and learning ===== -/
def actR (p q : Int32) (k : Nat) (v : Int32) (th : Nat → Nat → Prop) (full : Prop) (n : Nat) (z : TS) (f : Nat → Nat → TS) (r : Int32) (u : TS) : Prop :=
  (¬ rr 3 p → r = -1 ∧ u = z) ∧ (rr 3 p → ¬ rr 8 q → r = -2 ∧ u = z) ∧ ∀ a b, a < 3 → b < 8 → p = nI a → q = nI b →
    (k = 4 ∧ ¬ v = -1 ∧ ¬ rr 8 v → r = -2 ∧ u = z) ∧ (¬ (k = 4 ∧ ¬ v = -1 ∧ ¬ rr 8 v) → (¬ k = 0 ∧ ¬ th a b → r = -4 ∧ u = z) ∧ (k = 0 ∨ th a b → (full → r = -3 ∧ u = z) ∧ (¬ full → r = nI n ∧ u = f a b)))
def lrnR (p q : Int32) (z : TS) (f : Nat → Nat → TS × Nat) (r : Int32) (u : TS) : Prop :=
  (¬ (rr 3 p ∧ rr 3 q) → r = -1 ∧ u = z) ∧ ∀ a b, a < 3 → b < 3 → p = nI a → q = nI b → (a = b → r = -5 ∧ u = z) ∧ (¬ a = b → r = nI (f a b).2 ∧ u = (f a b).1)
/-- a read-only method's answer -/
abbrev RO (st : TS) (P : Int32 → Prop) : Int32 → TS → Prop := fun r u => u = st ∧ P r
end
section
/-! calls and ends of methods that only read; rows of shifts and of loops' counters -/
section OWN2
variable {p : Program} {l : Launch} {e : Env} {R : Room} {s : State} {m : MethodId} {args : Array Value} {below : List Frame} {meth : Method} {c : Code} {H : Heap} {locs : List Loc} {cells slots : Nat} {Q : State → Prop}
variable {cc : ByteArray} {pc : Nat} {ls : Array Slot} {rest st0 : List Value} {D : va_G} {G : ClassId × ClassId} {A : Nat → Prop} {H0 : Heap} {wf : TS → va_W} {st u : TS}
theorem kcallVr {y : MethodName} {d : Nat} {P : Int32 → Prop} {As : List Value} {bytes : ByteArray} {maxL nL n index b : Nat} {ret : Option FieldType} {own : String}
    (S : CallFix p m c cc nL s args lw_all own) (hM : KI l D G wf y (ws_ y bytes maxL ret) d (.ref b :: As) st (RO st P))
    (hT : GoodIn lw_all (wsV own index y.cls y (ws_ y bytes maxL ret)))
    (hn : As.length = n) (hd : y.cls ≠ "java/lang/invoke/MethodHandle" ∧ y.cls ≠ "java/lang/invoke/VarHandle" ∧ (parseMethodDescriptor y.desc).map (fun d => d.parameters.length) = some n)
    (hR : d + 1 ≤ R.frames ∧ 8 + (maxL + 11) + 31 * d ≤ R.locals)
    (hrv : ∃ cell : Cell, H[b]? = some cell ∧ cell.vm.isStatics = false ∧ s.vm.findClass y.cls = some cell.cls)
    (hK : va_K D vwCl (tyz G) s) (hP : va_P D vwCl (wf st) H) (hD : va_D A (wf st)) (hS : va_S A s.heap H locs) (hA : ∀ q : Nat, s.heap.size ≤ q → A q)
    (hl : ls.size = nL) (hst : st0 = As.reverse ++ .ref b :: rest) (hW : (rest.map fun v => v.category).sum ≤ 8)
    (hdg : decode cc pc = .ok (.invokevirtual index, 3)) (hf : cells ≤ R.cells ∧ slots ≤ R.slots)
    (kk : ∀ (r : Int32) (H1 : Heap) (locs1 : List Loc), P r → va_P D vwCl (wf st) H1 → va_S A s.heap H1 locs1 → W p l e R s m args below meth c H1 locs1 cells slots Q (F0 m (pc + 3) ls (.int r :: rest))) :
    W p l e R s m args below meth c H locs cells slots Q (F0 m pc ls st0) :=
  kcallV S hM hT hn hd hR hrv hK hP hD hS hA hl hst hW hdg hf (fun r u H1 locs1 hw hP1 _ hS1 => kk r H1 locs1 hw.2 (by rw [hw.1] at hP1; exact hP1) hS1)
theorem kcallSr {y : MethodName} {d : Nat} {P : Int32 → Prop} {As : List Value} {bytes : ByteArray} {maxL nL n index : Nat} {ret : Option FieldType} {own : String}
    (S : CallFix p m c cc nL s args lw_all own) (hM : KI l D G wf y (ws_ y bytes maxL ret) d As st (RO st P))
    (hT : GoodIn lw_all (va_wsS own index y (ws_ y bytes maxL ret)))
    (hn : As.length = n) (hd : y.cls ≠ "java/lang/invoke/MethodHandle" ∧ y.cls ≠ "java/lang/invoke/VarHandle" ∧ (parseMethodDescriptor y.desc).map (fun d => d.parameters.length) = some n)
    (hR : d + 1 ≤ R.frames ∧ 8 + (maxL + 11) + 31 * d ≤ R.locals)
    (hK : va_K D vwCl (tyz G) s) (hP : va_P D vwCl (wf st) H) (hD : va_D A (wf st)) (hS : va_S A s.heap H locs) (hA : ∀ q : Nat, s.heap.size ≤ q → A q)
    (hl : ls.size = nL) (hst : st0 = As.reverse ++ rest) (hW : (rest.map fun v => v.category).sum ≤ 8)
    (hdg : decode cc pc = .ok (.invokestatic index, 3)) (hf : cells ≤ R.cells ∧ slots ≤ R.slots)
    (kk : ∀ (r : Int32) (H1 : Heap) (locs1 : List Loc), P r → va_P D vwCl (wf st) H1 → va_S A s.heap H1 locs1 → W p l e R s m args below meth c H1 locs1 cells slots Q (F0 m (pc + 3) ls (.int r :: rest))) :
    W p l e R s m args below meth c H locs cells slots Q (F0 m pc ls st0) :=
  kcallS S hM hT hn hd hR hK hP hD hS hA hl hst hW hdg hf (fun r u H1 locs1 hw hP1 _ hS1 => kk r H1 locs1 hw.2 (by rw [hw.1] at hP1; exact hP1) hS1)
theorem n_lshl {a : Nat} (hx : p.tables.exec = Jvm.exec) (hb : c.code = cc) (hdg : decode cc pc = .ok (.lshl, 1)) (k : W p l e R s m args below meth c H locs cells slots Q (F0 m (pc + 1) ls (.long (bitL a) :: rest))) : W p l e R s m args below meth c H locs cells slots Q (F0 m pc ls (.int (nI a) :: .long 1 :: rest)) := lv_lshl hx hb hdg rfl k
theorem n_lushr {a : Nat} {w : Int64} (hx : p.tables.exec = Jvm.exec) (hb : c.code = cc) (hdg : decode cc pc = .ok (.lushr, 1)) (k : W p l e R s m args below meth c H locs cells slots Q (F0 m (pc + 1) ls (.long (shU w a) :: rest))) : W p l e R s m args below meth c H locs cells slots Q (F0 m pc ls (.int (nI a) :: .long w :: rest)) := lv_lushr hx hb hdg rfl k
theorem n_lshr {a : Nat} {w : Int64} (hx : p.tables.exec = Jvm.exec) (hb : c.code = cc) (hdg : decode cc pc = .ok (.lshr, 1)) (k : W p l e R s m args below meth c H locs cells slots Q (F0 m (pc + 1) ls (.long (shS w a) :: rest))) : W p l e R s m args below meth c H locs cells slots Q (F0 m pc ls (.int (nI a) :: .long w :: rest)) := lv_lshr hx hb hdg rfl k
end OWN2
end
section
/-! small rows that the walks use -/
theorem i_nlt {x y : Int32} (h : y ≤ x) : ¬ x < y := Int32.not_lt.mpr h
theorem i_lt {x y : Int32} (h : ¬ y ≤ x) : x < y := Int32.not_le.mp h
theorem n60 {n : Nat} (hn : n ≤ 60) (h : nI n < 60) : n < 60 := (nI_ltI (by omega) (by decide)).mp h
theorem n60' {n : Nat} (h : ¬ nI n < 60) : 60 ≤ n := by
  rcases Nat.lt_or_ge n 60 with q | q
  · exact absurd (nI_lt q (by decide)) h
  · exact q
theorem nI_leM {i n : Nat} (hi : i < 2 ^ 31) (hn : n < 2 ^ 31) (h : ¬ nI n ≤ nI i) : i < n := by
  rcases Nat.lt_or_ge i n with q | q
  · exact q
  · exact absurd (nI_le q hi) h
theorem nI_1i (i : Nat) : nI i + Int32.ofInt 1 = nI (i + 1) := nI_1 i
theorem lat_nI {z : TS} {a b : Nat} (hb : b < 2 ^ 31) : lat z a (nI b) ↔ latN z a b := by
  unfold lat
  rw [nI_clamp hb]
  constructor
  · rintro (h | h)
    · exact absurd h (nI_pos hb)
    · exact h
  · exact Or.inr
theorem lat_neg {z : TS} {a : Nat} {v : Int32} (h : v < 0) : lat z a v := Or.inl h
theorem vf_valid {N M : Nat} {p q : Int32} {F : Nat → Nat → Int32} {d r : Int32} (h : vf N M p q F d r) (hr : r ≠ d) : rr N p ∧ rr M q := by
  by_cases hv : rr N p ∧ rr M q
  · exact hv
  · exact absurd (h.2 hv) hr
theorem hid_no {z : TS} {p q r d : Int32} {F : Nat → Nat → Int32} (h : vf 3 8 p q (fun a b => bI (¬ xThB z a b)) 1 r) (hr : ¬ r = 0) (hF : ∀ a b, ¬ xThB z a b → F a b = d) : vf 3 8 p q F d d := by
  by_cases hv : rr 3 p ∧ rr 8 q
  · obtain ⟨⟨a, ha, rfl⟩, ⟨b, hb, rfl⟩⟩ := hv
    have h1 := vf_at h ha hb
    rw [h1] at hr
    exact vf_ok (by decide) (by decide) ha hb (hF a b (bI_ne hr)).symm
  · exact vf_no hv rfl
theorem hid_yes {z : TS} {p q r : Int32} (h : vf 3 8 p q (fun a b => bI (¬ xThB z a b)) 1 r) (hr : r = 0) : ∃ a b, a < 3 ∧ b < 8 ∧ p = nI a ∧ q = nI b ∧ xThB z a b := by
  subst hr
  obtain ⟨⟨a, ha, rfl⟩, ⟨b, hb, rfl⟩⟩ := vf_valid h (by decide)
  have h1 := vf_at h ha hb
  exact ⟨a, b, ha, hb, rfl, rfl, Classical.byContradiction (fun n => bI_eq h1.symm n)⟩
/-- what refusal answers -/
def refR (p q r : Int32) : Prop := (¬ rr 3 p → r = -1) ∧ (rr 3 p → ¬ rr 8 q → r = -2) ∧ (rr 3 p → rr 8 q → r = 0)
theorem refR_0 {p q r : Int32} (h : refR p q r) (hr : r = 0) : rr 3 p ∧ rr 8 q := by
  subst hr
  by_cases h1 : rr 3 p
  · by_cases h2 : rr 8 q
    · exact ⟨h1, h2⟩
    · exact absurd (h.2.1 h1 h2) (by decide)
  · exact absurd (h.1 h1) (by decide)
theorem refR_n {p q r : Int32} (h : refR p q r) (hr : ¬ r = 0) : ¬ (rr 3 p ∧ rr 8 q) := fun v => hr (h.2.2 v.1 v.2)
/-- what refusalAbsent answers -/
def refA (z : TS) (p q r : Int32) : Prop := (¬ rr 3 p → r = -1) ∧ (rr 3 p → ¬ rr 8 q → r = -2) ∧ (∀ a b, a < 3 → b < 8 → p = nI a → q = nI b → r = cT (xThB z a b) 0 (-4))
theorem refA_0 {z : TS} {p q r : Int32} (h : refA z p q r) (hr : r = 0) : ∃ a b, a < 3 ∧ b < 8 ∧ p = nI a ∧ q = nI b ∧ xThB z a b := by
  subst hr
  by_cases h1 : rr 3 p
  · by_cases h2 : rr 8 q
    · obtain ⟨a, ha, rfl⟩ := h1
      obtain ⟨b, hb, rfl⟩ := h2
      have h3 := h.2.2 a b ha hb rfl rfl
      refine ⟨a, b, ha, hb, rfl, rfl, Classical.byContradiction (fun n => ?_)⟩
      rw [cT_f n] at h3
      exact absurd h3 (by decide)
    · exact absurd (h.2.1 h1 h2) (by decide)
  · exact absurd (h.1 h1) (by decide)
/-- an action that was refused -/
theorem actR_ref {p q v r : Int32} {k n : Nat} {th : Nat → Nat → Prop} {full : Prop} {z : TS} {f : Nat → Nat → TS} (h : refR p q r) (hr : ¬ r = 0) : actR p q k v th full n z f r z := by
  refine ⟨fun h1 => ⟨h.1 h1, rfl⟩, fun h1 h2 => ⟨h.2.1 h1 h2, rfl⟩, fun a b ha hb e1 e2 => ?_⟩
  subst e1; subst e2
  exact absurd ⟨rr_mk ha, rr_mk hb⟩ (refR_n h hr)
theorem actR_abs {p q v r : Int32} {k n : Nat} {full : Prop} {z : TS} {f : Nat → Nat → TS} (hk : ¬ k = 0) (hk4 : ¬ k = 4) (h : refA z p q r) (hr : ¬ r = 0) : actR p q k v (xThB z) full n z f r z := by
  refine ⟨fun h1 => ⟨h.1 h1, rfl⟩, fun h1 h2 => ⟨h.2.1 h1 h2, rfl⟩, fun a b ha hb e1 e2 => ?_⟩
  have h3 := h.2.2 a b ha hb e1 e2
  refine ⟨fun x => absurd x.1 hk4, fun _ => ⟨fun x => ⟨by rw [h3, cT_f x.2], rfl⟩, fun x => ?_⟩⟩
  rcases x with x | x
  · exact absurd x hk
  · rw [cT_t x] at h3
    exact absurd h3 hr
/-- an action that goes on to act -/
theorem actR_go {a b : Nat} {v r : Int32} {k n : Nat} {th : Nat → Nat → Prop} {full : Prop} {z u : TS} {f : Nat → Nat → TS} (ha : a < 3) (hb : b < 8) (h4 : ¬ (k = 4 ∧ ¬ v = -1 ∧ ¬ rr 8 v)) (ht : k = 0 ∨ th a b) (h : (full → r = -3 ∧ u = z) ∧ (¬ full → r = nI n ∧ u = f a b)) : actR (nI a) (nI b) k v th full n z f r u := by
  refine ⟨fun x => absurd (rr_mk ha) x, fun _ x => absurd (rr_mk hb) x, fun a' b' h1 h2 e1 e2 => ?_⟩
  have ea := nI_in_lt (by decide) ha h1 e1
  have eb := nI_in_lt (by decide) hb h2 e2
  subst ea; subst eb
  refine ⟨fun x => absurd x h4, fun _ => ⟨fun x => ?_, fun _ => h⟩⟩
  rcases ht with t | t
  · exact absurd t x.1
  · exact absurd t x.2
theorem xAct_r {z : TS} {a k w : Nat} {v : Int32} {r : Int32} {u : TS} (h : (60 ≤ z.1 → r = -3 ∧ u = z) ∧ (z.1 < 60 → r = nI z.1 ∧ u = xAct z a k w v)) : (60 ≤ z.1 → r = -3 ∧ u = z) ∧ (¬ 60 ≤ z.1 → r = nI z.1 ∧ u = xAct z a k w v) := ⟨h.1, fun x => h.2 (Nat.lt_of_not_le x)⟩
theorem WFw.app {z : TS} (h : WFw z) (r k w : Nat) (v : Int32) (hw : w < 8) : WFw (xApp z r k w v) := by
  obtain ⟨h1, h2, h3⟩ := h
  refine ⟨fun a ha => ?_, fun i hi => ?_, fun i hi => ?_⟩
  · have e : (xApp z r k w v).2.1 2 a = if a = z.1 then nI w else z.2.1 2 a := by
      unfold xApp
      rw [sN_I, sL_I, sI_k _ _ _ _ _ (by decide), sI_k _ _ _ _ _ (by decide), sI_k _ _ _ _ _ (by decide), sI_at]
      simp only [true_and]
      rw [sI_k _ _ _ _ _ (by decide)]
    rw [e]
    by_cases hz : a = z.1
    · rw [if_pos hz]; exact ⟨w, hw, rfl⟩
    · rw [if_neg hz]; exact h1 a ha
  · exact h2 i hi
  · exact h3 i hi
theorem WFw.take {z : TS} (h : WFw z) {r a : Nat} (ha : a < 60) : WFw (xTake z r a) := by
  have hL : WFw (sL z 8 r (z.2.2 8 r ||| bitL a)) := h
  have hS : WFw (xSt (sL z 8 r (z.2.2 8 r ||| bitL a)) r a) := by
    unfold xSt
    by_cases hc : (sL z 8 r (z.2.2 8 r ||| bitL a)).2.1 7 r < (sL z 8 r (z.2.2 8 r ||| bitL a)).2.1 4 a
    · rw [cT_t hc]; exact hL
    · rw [cT_f hc]; exact hL
  unfold xTake
  generalize xSt (sL z 8 r (z.2.2 8 r ||| bitL a)) r a = y at hS
  obtain ⟨h1, h2, h3⟩ := hS
  have key12 : ∀ j, WFw (sI y 12 j (nI a)) := by
    intro j
    refine ⟨h1, fun i hi => ?_, h3⟩
    rw [sI_at]
    by_cases hz : i = j
    · rw [if_pos ⟨rfl, hz⟩]; exact Or.inr ⟨a, ha, rfl⟩
    · rw [if_neg (fun x => hz x.2)]; exact h2 i hi
  have key13 : ∀ j, WFw (sI y 13 j (nI a)) := by
    intro j
    refine ⟨h1, h2, fun i hi => ?_⟩
    rw [sI_at]
    by_cases hz : i = j
    · rw [if_pos ⟨rfl, hz⟩]; exact Or.inr ⟨a, ha, rfl⟩
    · rw [if_neg (fun x => hz x.2)]; exact h3 i hi
  unfold xRow
  by_cases c0 : y.2.1 1 a = 0
  · rw [cT_t c0]; exact ⟨h1, h2, h3⟩
  · rw [cT_f c0]
    by_cases c1 : y.2.1 1 a = 1
    · rw [cT_t c1]; exact ⟨h1, h2, h3⟩
    · rw [cT_f c1]
      by_cases c2 : y.2.1 1 a = 2
      · rw [cT_t c2]
        by_cases c4 : lat y a (y.2.1 12 (r * 8 + (y.2.1 2 a).toNatClampNeg))
        · rw [cT_t c4]; exact key12 _
        · rw [cT_f c4]; exact ⟨h1, h2, h3⟩
      · rw [cT_f c2]
        by_cases c3 : y.2.1 1 a = 3
        · rw [cT_t c3]; exact ⟨h1, h2, h3⟩
        · rw [cT_f c3]
          by_cases c4 : lat y a (y.2.1 13 (r * 8 + (y.2.1 2 a).toNatClampNeg))
          · rw [cT_t c4]; exact key13 _
          · rw [cT_f c4]; exact ⟨h1, h2, h3⟩
theorem xTake_n (z : TS) (r a : Nat) : (xTake z r a).1 = z.1 := by
  unfold xTake xRow xSt
  by_cases h0 : (sL z 8 r (z.2.2 8 r ||| bitL a)).2.1 7 r < (sL z 8 r (z.2.2 8 r ||| bitL a)).2.1 4 a
  all_goals first | rw [cT_t h0] | rw [cT_f h0]
  all_goals
    unfold cT
    repeat (first | rfl | split)
end
section
/-! more small rows of the walks -/
theorem bI_nn {p : Prop} (h : bI (¬ p) = 0) : p := Classical.byContradiction (bI_eq h)
theorem refA_ok {z : TS} {a b : Nat} {r : Int32} (ga : a < 3) (gb : b < 8) (h : r = cT (xThB z a b) 0 (-4)) : refA z (nI a) (nI b) r := by
  refine ⟨fun x => absurd (rr_mk ga) x, fun _ x => absurd (rr_mk gb) x, fun a' b' h1 h2 e1 e2 => ?_⟩
  rw [← nI_in_lt (by decide) ga h1 e1, ← nI_in_lt (by decide) gb h2 e2]
  exact h
theorem refA_n {z : TS} {p q r : Int32} (h : refR p q r) (hr : ¬ r = 0) : refA z p q r :=
  ⟨h.1, h.2.1, fun _ _ ha hb e1 e2 => absurd (h.2.2 ⟨_, ha, e1⟩ ⟨_, hb, e2⟩) hr⟩
theorem actR_bad4 {a b n : Nat} {v : Int32} {th : Nat → Nat → Prop} {full : Prop} {z : TS} {f : Nat → Nat → TS} (ga : a < 3) (gb : b < 8) (h : ¬ v = -1 ∧ ¬ rr 8 v) : actR (nI a) (nI b) 4 v th full n z f (-2) z := by
  refine ⟨fun x => absurd (rr_mk ga) x, fun _ x => absurd (rr_mk gb) x, fun a' b' h1 h2 e1 e2 => ⟨fun _ => ⟨rfl, rfl⟩, fun x => absurd ⟨rfl, h⟩ x⟩⟩
theorem actR_abs4 {a b k n : Nat} {v : Int32} {th : Nat → Nat → Prop} {full : Prop} {z : TS} {f : Nat → Nat → TS} (ga : a < 3) (gb : b < 8) (hk : ¬ k = 0) (h4 : ¬ (k = 4 ∧ ¬ v = -1 ∧ ¬ rr 8 v)) (ht : ¬ th a b) : actR (nI a) (nI b) k v th full n z f (-4) z := by
  refine ⟨fun x => absurd (rr_mk ga) x, fun _ x => absurd (rr_mk gb) x, fun a' b' h1 h2 e1 e2 => ?_⟩
  have ea := nI_in_lt (by decide) ga h1 e1
  have eb := nI_in_lt (by decide) gb h2 e2
  subst ea; subst eb
  refine ⟨fun x => absurd x h4, fun _ => ⟨fun _ => ⟨rfl, rfl⟩, fun x => ?_⟩⟩
  rcases x with x | x
  · exact absurd x hk
  · exact absurd x ht
theorem actR_no1 {p q v : Int32} {k n : Nat} {th : Nat → Nat → Prop} {full : Prop} {z : TS} {f : Nat → Nat → TS} (h : ¬ rr 3 p) : actR p q k v th full n z f (-1) z :=
  ⟨fun _ => ⟨rfl, rfl⟩, fun x => absurd x h, fun a b ha hb e1 e2 => absurd ⟨a, ha, e1⟩ h⟩
theorem actR_no2 {p q v : Int32} {k n : Nat} {th : Nat → Nat → Prop} {full : Prop} {z : TS} {f : Nat → Nat → TS} (h1 : rr 3 p) (h : ¬ rr 8 q) : actR p q k v th full n z f (-2) z :=
  ⟨fun x => absurd h1 x, fun _ _ => ⟨rfl, rfl⟩, fun a b ha hb e1 e2 => absurd ⟨b, hb, e2⟩ h⟩
theorem lrnR_no {p q : Int32} {z : TS} {f : Nat → Nat → TS × Nat} (h : ¬ (rr 3 p ∧ rr 3 q)) : lrnR p q z f (-1) z :=
  ⟨fun _ => ⟨rfl, rfl⟩, fun a b ha hb e1 e2 => absurd ⟨⟨a, ha, e1⟩, ⟨b, hb, e2⟩⟩ h⟩
theorem lrnR_eq {a b : Nat} {z : TS} {f : Nat → Nat → TS × Nat} (ga : a < 3) (gb : b < 3) (h : a = b) : lrnR (nI a) (nI b) z f (-5) z := by
  refine ⟨fun x => absurd ⟨rr_mk ga, rr_mk gb⟩ x, fun a' b' h1 h2 e1 e2 => ?_⟩
  have ea := nI_in_lt (by decide) ga h1 e1
  have eb := nI_in_lt (by decide) gb h2 e2
  subst ea; subst eb
  exact ⟨fun _ => ⟨rfl, rfl⟩, fun x => absurd h x⟩
theorem lrnR_go {a b : Nat} {z u : TS} {r : Int32} {f : Nat → Nat → TS × Nat} (ga : a < 3) (gb : b < 3) (h : ¬ a = b) (e : r = nI (f a b).2 ∧ u = (f a b).1) : lrnR (nI a) (nI b) z f r u := by
  refine ⟨fun x => absurd ⟨rr_mk ga, rr_mk gb⟩ x, fun a' b' h1 h2 e1 e2 => ?_⟩
  have ea := nI_in_lt (by decide) ga h1 e1
  have eb := nI_in_lt (by decide) gb h2 e2
  subst ea; subst eb
  exact ⟨fun x => absurd x h, fun _ => e⟩
theorem nI_8le {i : Nat} (h : i < 8) : ¬ (8 : Int32) ≤ nI i := nI_ge (a := i) (b := 8) h (by decide)
end
section
/-! CrdtTable: the leaves, by contract -/
set_option maxRecDepth 100000
set_option maxHeartbeats 4000000 in
theorem mX_badReplica (l : Launch) (D : va_G) (G : ClassId × ClassId) (ad : Nat → Nat) (z : TS) (wf : TS → va_W) (p0 : Int32) : KI l D G wf yX0_badReplica (ws_ yX0_badReplica cX0_badReplica 1 (some .boolean)) 0 [.int p0] z (RO z (fun r => r = bI (¬ rr 3 p0))) := by
  refine KI.of (by decide) (Nat.le_of_ble_eq_true rfl) ?_
  intro p e s m below meth c A ls C hP hD hS hl
  obtain ⟨hx, hb, hr, hml, hown, hts, hlocks, hA, hK⟩ := id C
  have hown : s.vm.findClass RX0 = some m.cls := hown
  have hl : lv_has ls 1 [(0, .int p0)] := hl
  refine lv_iload_n hx hb dX0_badReplica_0 rfl (lv_at hl 0 rfl) ?_
  refine lv_if_lt (tgt := 9) hx hb dX0_badReplica_1 (by decide) (fun c1 => ?_) (fun c1 => ?_)
  · refine lv_iconst (v := 1) hx hb dX0_badReplica_9 (by decide) ?_
    refine lv_goto (tgt := 14) hx hb dX0_badReplica_10 (by decide) ?_
    exact kret hx hb hr hlocks hK hP hD hS rfl ⟨rfl, (bI_t (rr_neg (by decide) c1)).symm⟩ dX0_badReplica_14
  · refine lv_iload_n hx hb dX0_badReplica_4 rfl (lv_at hl 0 rfl) ?_
    refine lv_iconst (v := 2) hx hb dX0_badReplica_5 (by decide) ?_
    refine lv_icmp_le (tgt := 13) hx hb dX0_badReplica_6 (by decide) (fun c6 => ?_) (fun c6 => ?_)
    · refine lv_iconst (v := 0) hx hb dX0_badReplica_13 (by decide) ?_
      exact kret hx hb hr hlocks hK hP hD hS rfl ⟨rfl, (bI_f (fun z => z (rr_le (N := 2) rfl (by decide) c1 c6))).symm⟩ dX0_badReplica_14
    · refine lv_iconst (v := 1) hx hb dX0_badReplica_9 (by decide) ?_
      refine lv_goto (tgt := 14) hx hb dX0_badReplica_10 (by decide) ?_
      exact kret hx hb hr hlocks hK hP hD hS rfl ⟨rfl, (bI_t (rr_nle (N := 2) rfl (by decide) c6)).symm⟩ dX0_badReplica_14
set_option maxHeartbeats 4000000 in
theorem mX_badRow (l : Launch) (D : va_G) (G : ClassId × ClassId) (ad : Nat → Nat) (z : TS) (wf : TS → va_W) (p0 : Int32) : KI l D G wf yX0_badRow (ws_ yX0_badRow cX0_badRow 1 (some .boolean)) 0 [.int p0] z (RO z (fun r => r = bI (¬ rr 8 p0))) := by
  refine KI.of (by decide) (Nat.le_of_ble_eq_true rfl) ?_
  intro p e s m below meth c A ls C hP hD hS hl
  obtain ⟨hx, hb, hr, hml, hown, hts, hlocks, hA, hK⟩ := id C
  have hown : s.vm.findClass RX0 = some m.cls := hown
  have hl : lv_has ls 1 [(0, .int p0)] := hl
  refine lv_iload_n hx hb dX0_badRow_0 rfl (lv_at hl 0 rfl) ?_
  refine lv_if_lt (tgt := 10) hx hb dX0_badRow_1 (by decide) (fun c1 => ?_) (fun c1 => ?_)
  · refine lv_iconst (v := 1) hx hb dX0_badRow_10 (by decide) ?_
    refine lv_goto (tgt := 15) hx hb dX0_badRow_11 (by decide) ?_
    exact kret hx hb hr hlocks hK hP hD hS rfl ⟨rfl, (bI_t (rr_neg (by decide) c1)).symm⟩ dX0_badRow_15
  · refine lv_iload_n hx hb dX0_badRow_4 rfl (lv_at hl 0 rfl) ?_
    refine lv_bipush (v := 8) hx hb dX0_badRow_5 (by decide) ?_
    refine lv_icmp_lt (tgt := 14) hx hb dX0_badRow_7 (by decide) (fun c7 => ?_) (fun c7 => ?_)
    · refine lv_iconst (v := 0) hx hb dX0_badRow_14 (by decide) ?_
      exact kret hx hb hr hlocks hK hP hD hS rfl ⟨rfl, (bI_f (fun z => z (rr_lt (N := 8) rfl (by decide) c1 c7))).symm⟩ dX0_badRow_15
    · refine lv_iconst (v := 1) hx hb dX0_badRow_10 (by decide) ?_
      refine lv_goto (tgt := 15) hx hb dX0_badRow_11 (by decide) ?_
      exact kret hx hb hr hlocks hK hP hD hS rfl ⟨rfl, (bI_t (rr_nlt (N := 8) rfl (by decide) c7)).symm⟩ dX0_badRow_15
set_option maxHeartbeats 4000000 in
theorem mX_isThere (l : Launch) (D : va_G) (G : ClassId × ClassId) (ad : Nat → Nat) (z : TS) {a b : Nat} (ga : a < 3) (gb : b < 8) : KI l D G (wx G ad) yX0_isThere (ws_ yX0_isThere cX0_isThere 3 (some .boolean)) 0 [.ref (ad 0), .int (nI a), .int (nI b)] z (RO z (fun r => r = xTh z a b)) := by
  refine KI.of (by decide) (Nat.le_of_ble_eq_true rfl) ?_
  intro p e s m below meth c A ls C hP hD hS hl
  obtain ⟨hx, hb, hr, hml, hown, hts, hlocks, hA, hK⟩ := id C
  have hown : s.vm.findClass RX0 = some m.cls := hown
  have hl : lv_has ls 3 [(0, .ref (ad 0)), (1, .int (nI a)), (2, .int (nI b))] := hl
  refine lv_aload_n hx hb dX0_isThere_0 rfl (lv_at hl 0 rfl) ?_
  refine x_get 11 hx hb hts hown hK hP (by decide) rfl q36 rfl dX0_isThere_1 ?_
  refine lv_iload_n hx hb dX0_isThere_4 rfl (lv_at hl 1 rfl) ?_
  refine lv_bipush (v := 8) hx hb dX0_isThere_5 (by decide) ?_
  refine lv_imul hx hb dX0_isThere_7 ?_
  refine lv_iload_n hx hb dX0_isThere_8 rfl (lv_at hl 2 rfl) ?_
  refine lv_iadd hx hb dX0_isThere_9 ?_
  refine w_ti (ix8 _ _) ?_
  refine na_lald 11 hx hb hK hP rfl (by decide) (by omega) dX0_isThere_10 ?_
  refine lv_lconst (v := 0) hx hb dX0_isThere_11 (by decide) ?_
  refine W.lcmp hx hb dX0_isThere_12 ?_
  refine lv_if_eq (tgt := 20) hx hb dX0_isThere_13 (by decide) (fun c13 => ?_) (fun c13 => ?_)
  · refine lv_iconst (v := 0) hx hb dX0_isThere_20 (by decide) ?_
    exact kret hx hb hr hlocks hK hP hD hS rfl ⟨rfl, (bI_f (fun q => q ((lg_cmp_eq _ _).mp c13))).symm⟩ dX0_isThere_21
  · refine lv_iconst (v := 1) hx hb dX0_isThere_16 (by decide) ?_
    refine lv_goto (tgt := 21) hx hb dX0_isThere_17 (by decide) ?_
    exact kret hx hb hr hlocks hK hP hD hS rfl ⟨rfl, (bI_t (fun q => c13 ((lg_cmp_eq _ _).mpr q))).symm⟩ dX0_isThere_21
set_option maxHeartbeats 4000000 in
theorem mX_later (l : Launch) (D : va_G) (G : ClassId × ClassId) (ad : Nat → Nat) (z : TS) {a : Nat} {v : Int32} (ga : a < 60) (gv : v < 0 ∨ ∃ b, b < 60 ∧ v = nI b) : KI l D G (wx G ad) yX0_later (ws_ yX0_later cX0_later 3 (some .boolean)) 0 [.ref (ad 0), .int (nI a), .int v] z (RO z (fun r => r = bI (lat z a v))) := by
  refine KI.of (by decide) (Nat.le_of_ble_eq_true rfl) ?_
  intro p e s m below meth c A ls C hP hD hS hl
  obtain ⟨hx, hb, hr, hml, hown, hts, hlocks, hA, hK⟩ := id C
  have hown : s.vm.findClass RX0 = some m.cls := hown
  have hl : lv_has ls 3 [(0, .ref (ad 0)), (1, .int (nI a)), (2, .int v)] := hl
  refine lv_iload_n hx hb dX0_later_0 rfl (lv_at hl 2 rfl) ?_
  refine lv_if_ge (tgt := 6) hx hb dX0_later_1 (by decide) (fun c1 => ?_) (fun c1 => ?_)
  · obtain ⟨b, gb, rfl⟩ := gv.resolve_left (i_nlt c1)
    refine lv_aload_n hx hb dX0_later_6 rfl (lv_at hl 0 rfl) ?_
    refine x_get 4 hx hb hts hown hK hP (by decide) rfl q29 rfl dX0_later_7 ?_
    refine lv_iload_n hx hb dX0_later_10 rfl (lv_at hl 1 rfl) ?_
    refine na_iald 4 hx hb hK hP rfl (by decide) (by omega) dX0_later_11 ?_
    refine lv_aload_n hx hb dX0_later_12 rfl (lv_at hl 0 rfl) ?_
    refine x_get 4 hx hb hts hown hK hP (by decide) rfl q29 rfl dX0_later_13 ?_
    refine lv_iload_n hx hb dX0_later_16 rfl (lv_at hl 2 rfl) ?_
    refine na_iald 4 hx hb hK hP rfl (by decide) (by omega) dX0_later_17 ?_
    refine lv_icmp_eq (tgt := 44) hx hb dX0_later_18 (by decide) (fun c18 => ?_) (fun c18 => ?_)
    · refine lv_aload_n hx hb dX0_later_44 rfl (lv_at hl 0 rfl) ?_
      refine x_get 5 hx hb hts hown hK hP (by decide) rfl q30 rfl dX0_later_45 ?_
      refine lv_iload_n hx hb dX0_later_48 rfl (lv_at hl 1 rfl) ?_
      refine na_iald 5 hx hb hK hP rfl (by decide) (by omega) dX0_later_49 ?_
      refine lv_aload_n hx hb dX0_later_50 rfl (lv_at hl 0 rfl) ?_
      refine x_get 5 hx hb hts hown hK hP (by decide) rfl q30 rfl dX0_later_51 ?_
      refine lv_iload_n hx hb dX0_later_54 rfl (lv_at hl 2 rfl) ?_
      refine na_iald 5 hx hb hK hP rfl (by decide) (by omega) dX0_later_55 ?_
      refine lv_icmp_le (tgt := 63) hx hb dX0_later_56 (by decide) (fun c56 => ?_) (fun c56 => ?_)
      · refine lv_iconst (v := 0) hx hb dX0_later_63 (by decide) ?_
        exact kret hx hb hr hlocks hK hP hD hS rfl ⟨rfl, ((bI_c (lat_nI (by omega))).trans (bI_f (fun q => q.elim (fun x => x.1 c18) (fun x => i_nlt c56 x.2)))).symm⟩ dX0_later_64
      · refine lv_iconst (v := 1) hx hb dX0_later_59 (by decide) ?_
        refine lv_goto (tgt := 64) hx hb dX0_later_60 (by decide) ?_
        exact kret hx hb hr hlocks hK hP hD hS rfl ⟨rfl, ((bI_c (lat_nI (by omega))).trans (bI_t (Or.inr ⟨c18, i_lt c56⟩))).symm⟩ dX0_later_64
    · refine lv_aload_n hx hb dX0_later_21 rfl (lv_at hl 0 rfl) ?_
      refine x_get 4 hx hb hts hown hK hP (by decide) rfl q29 rfl dX0_later_22 ?_
      refine lv_iload_n hx hb dX0_later_25 rfl (lv_at hl 1 rfl) ?_
      refine na_iald 4 hx hb hK hP rfl (by decide) (by omega) dX0_later_26 ?_
      refine lv_aload_n hx hb dX0_later_27 rfl (lv_at hl 0 rfl) ?_
      refine x_get 4 hx hb hts hown hK hP (by decide) rfl q29 rfl dX0_later_28 ?_
      refine lv_iload_n hx hb dX0_later_31 rfl (lv_at hl 2 rfl) ?_
      refine na_iald 4 hx hb hK hP rfl (by decide) (by omega) dX0_later_32 ?_
      refine lv_icmp_le (tgt := 40) hx hb dX0_later_33 (by decide) (fun c33 => ?_) (fun c33 => ?_)
      · refine lv_iconst (v := 0) hx hb dX0_later_40 (by decide) ?_
        refine lv_goto (tgt := 64) hx hb dX0_later_41 (by decide) ?_
        exact kret hx hb hr hlocks hK hP hD hS rfl ⟨rfl, ((bI_c (lat_nI (by omega))).trans (bI_f (fun q => q.elim (fun x => i_nlt c33 x.2) (fun x => c18 x.1)))).symm⟩ dX0_later_64
      · refine lv_iconst (v := 1) hx hb dX0_later_36 (by decide) ?_
        refine lv_goto (tgt := 64) hx hb dX0_later_37 (by decide) ?_
        exact kret hx hb hr hlocks hK hP hD hS rfl ⟨rfl, ((bI_c (lat_nI (by omega))).trans (bI_t (Or.inl ⟨c18, i_lt c33⟩))).symm⟩ dX0_later_64
  · refine lv_iconst (v := 1) hx hb dX0_later_4 (by decide) ?_
    exact kret hx hb hr hlocks hK hP hD hS rfl ⟨rfl, (bI_t (lat_neg (i_lt c1))).symm⟩ dX0_later_5
end
section
/-! CrdtTable: taking an action in, and acting -/
set_option maxRecDepth 100000
set_option maxHeartbeats 4000000 in
/-- takeIn behind the stamp: the row is brought up to date -/
theorem tX_takeIn39 {p : Program} {l : Launch} {e : Env} {s : State} {m : MethodId} {args : Array Value} {below : List Frame} {meth : Method} {c : Code} {A : Nat → Prop} {ls : Array Slot} {H : Heap} {locs : List Loc} {D : va_G} {G : ClassId × ClassId} {ad : Nat → Nat} {post : TS → Prop} (C : Cx p s m args meth c RX0 cX0_takeIn 4 none A D G) (z : TS) {r a w : Nat} (gr : r < 3) (ga : a < 60) (gw : w < 8) (ew : z.2.1 2 a = nI w) (g12 : z.2.1 12 (r * 8 + w) < 0 ∨ ∃ b, b < 60 ∧ z.2.1 12 (r * 8 + w) = nI b) (g13 : z.2.1 13 (r * 8 + w) < 0 ∨ ∃ b, b < 60 ∧ z.2.1 13 (r * 8 + w) = nI b) (hpost : post (xRow z r a)) (hP : va_P D vwCl ((wx G ad) z) H) (hD : va_D A ((wx G ad) z)) (hS : va_S A s.heap H locs) (hl : lv_has ls 4 [(0, .ref (ad 0)), (1, .int (nI r)), (2, .int (nI a))]) : W p l e (rmD 1) s m args below meth c H locs 0 0 (QV D G (wx G ad) below args s post A) (F0 m 39 ls []) := by
  obtain ⟨hx, hb, hr, hml, hown, hts, hlocks, hA, hK⟩ := id C
  have ecl : (z.2.1 2 a).toNatClampNeg = w := by rw [ew]; exact nI_clamp (by omega)
  refine lv_iload_n hx hb dX0_takeIn_39 rfl (lv_at hl 1 rfl) ?_
  refine lv_bipush (v := 8) hx hb dX0_takeIn_40 (by decide) ?_
  refine lv_imul hx hb dX0_takeIn_42 ?_
  refine lv_aload_n hx hb dX0_takeIn_43 rfl (lv_at hl 0 rfl) ?_
  refine x_get 2 hx hb hts hown hK hP (by decide) rfl q27 rfl dX0_takeIn_44 ?_
  refine lv_iload_n hx hb dX0_takeIn_47 rfl (lv_at hl 2 rfl) ?_
  refine na_iald 2 hx hb hK hP rfl (by decide) (by omega) dX0_takeIn_48 ?_
  refine w_ti (y := nI w) ew ?_
  refine lv_iadd hx hb dX0_takeIn_49 ?_
  refine w_ti (ix8 _ _) ?_
  refine lv_istore_n (lv' := [(3, .int (nI (r * 8 + w))), (0, .ref (ad 0)), (1, .int (nI r)), (2, .int (nI a))]) hx hb dX0_takeIn_50 rfl hl (by decide) rfl (fun ls hl => ?_)
  refine lv_aload_n hx hb dX0_takeIn_51 rfl (lv_at hl 1 rfl) ?_
  refine x_get 1 hx hb hts hown hK hP (by decide) rfl q26 rfl dX0_takeIn_52 ?_
  refine lv_iload_n hx hb dX0_takeIn_55 rfl (lv_at hl 3 rfl) ?_
  refine na_iald 1 hx hb hK hP rfl (by decide) (by omega) dX0_takeIn_56 ?_
  by_cases k0 : z.2.1 1 a = 0
  · refine w_ti k0 ?_
    refine lv_tableIn (tgt := 88) hx hb dX0_takeIn_57 (by decide) (by decide) rfl (by decide) ?_
    refine lv_aload_n hx hb dX0_takeIn_88 rfl (lv_at hl 1 rfl) ?_
    refine x_get 10 hx hb hts hown hK hP (by decide) rfl q35 rfl dX0_takeIn_89 ?_
    refine lv_iload_n hx hb dX0_takeIn_92 rfl (lv_at hl 0 rfl) ?_
    refine lv_dup2_11 hx hb dX0_takeIn_93 rfl rfl ?_
    refine na_lald 10 hx hb hK hP rfl (by decide) (by omega) dX0_takeIn_94 ?_
    refine lv_lconst (v := 1) hx hb dX0_takeIn_95 (by decide) ?_
    refine lv_iload_n hx hb dX0_takeIn_96 rfl (lv_at hl 3 rfl) ?_
    refine n_lshl hx hb dX0_takeIn_97 ?_
    refine lv_lor hx hb dX0_takeIn_98 ?_
    refine na_last 10 hx hb hK hP hD hS rfl (fun _ => rfl) (by decide) (by omega) dX0_takeIn_99 (fun H locs hP hD hS => ?_)
    refine lv_aload_n hx hb dX0_takeIn_100 rfl (lv_at hl 1 rfl) ?_
    refine x_get 11 hx hb hts hown hK hP (by decide) rfl q36 rfl dX0_takeIn_101 ?_
    refine lv_iload_n hx hb dX0_takeIn_104 rfl (lv_at hl 0 rfl) ?_
    refine lv_dup2_11 hx hb dX0_takeIn_105 rfl rfl ?_
    refine na_lald 11 hx hb hK hP rfl (by decide) (by omega) dX0_takeIn_106 ?_
    refine w_tl (y := z.2.2 11 (r * 8 + w)) rfl ?_
    refine lv_lconst (v := 1) hx hb dX0_takeIn_107 (by decide) ?_
    refine lv_iload_n hx hb dX0_takeIn_108 rfl (lv_at hl 3 rfl) ?_
    refine n_lshl hx hb dX0_takeIn_109 ?_
    refine lv_aload_n hx hb dX0_takeIn_110 rfl (lv_at hl 1 rfl) ?_
    refine x_get 9 hx hb hts hown hK hP (by decide) rfl q34 rfl dX0_takeIn_111 ?_
    refine lv_iload_n hx hb dX0_takeIn_114 rfl (lv_at hl 2 rfl) ?_
    refine na_lald 9 hx hb hK hP rfl (by decide) (by omega) dX0_takeIn_115 ?_
    refine w_tl (y := z.2.2 9 r) rfl ?_
    refine lv_ldc2 (v := -1) hx hb hown (hts _ q95) dX0_takeIn_116 ?_
    refine lv_lxor hx hb dX0_takeIn_119 ?_
    refine lv_land hx hb dX0_takeIn_120 ?_
    refine lv_lor hx hb dX0_takeIn_121 ?_
    refine na_last 11 hx hb hK hP hD hS rfl (fun _ => rfl) (by decide) (by omega) dX0_takeIn_122 (fun H locs hP hD hS => ?_)
    refine lv_goto (tgt := 226) hx hb dX0_takeIn_123 (by decide) ?_
    exact kretv hx hb hr hlocks hK hP hD hS (by
      have eu : xRow z r a = sL (sL z 10 (r * 8 + w) ((z.2.2 10 (r * 8 + w)) ||| (bitL a))) 11 (r * 8 + w) ((z.2.2 11 (r * 8 + w)) ||| ((bitL a) &&& ((z.2.2 9 r) ^^^ (-1)))) := by unfold xRow; rw [ecl, cT_t k0]
      rw [← eu]; exact hpost) dX0_takeIn_226
  by_cases k1 : z.2.1 1 a = 1
  · refine w_ti k1 ?_
    refine lv_tableIn (tgt := 126) hx hb dX0_takeIn_57 (by decide) (by decide) rfl (by decide) ?_
    refine lv_aload_n hx hb dX0_takeIn_126 rfl (lv_at hl 1 rfl) ?_
    refine x_get 9 hx hb hts hown hK hP (by decide) rfl q34 rfl dX0_takeIn_127 ?_
    refine lv_iload_n hx hb dX0_takeIn_130 rfl (lv_at hl 2 rfl) ?_
    refine lv_dup2_11 hx hb dX0_takeIn_131 rfl rfl ?_
    refine na_lald 9 hx hb hK hP rfl (by decide) (by omega) dX0_takeIn_132 ?_
    refine lv_aload_n hx hb dX0_takeIn_133 rfl (lv_at hl 1 rfl) ?_
    refine x_get 6 hx hb hts hown hK hP (by decide) rfl q31 rfl dX0_takeIn_134 ?_
    refine lv_iload_n hx hb dX0_takeIn_137 rfl (lv_at hl 3 rfl) ?_
    refine na_lald 6 hx hb hK hP rfl (by decide) (by omega) dX0_takeIn_138 ?_
    refine lv_lor hx hb dX0_takeIn_139 ?_
    refine na_last 9 hx hb hK hP hD hS rfl (fun _ => rfl) (by decide) (by omega) dX0_takeIn_140 (fun H locs hP hD hS => ?_)
    refine lv_aload_n hx hb dX0_takeIn_141 rfl (lv_at hl 1 rfl) ?_
    refine x_get 11 hx hb hts hown hK hP (by decide) rfl q36 rfl dX0_takeIn_142 ?_
    refine lv_iload_n hx hb dX0_takeIn_145 rfl (lv_at hl 0 rfl) ?_
    refine lv_dup2_11 hx hb dX0_takeIn_146 rfl rfl ?_
    refine na_lald 11 hx hb hK hP rfl (by decide) (by omega) dX0_takeIn_147 ?_
    refine w_tl (y := z.2.2 11 (r * 8 + w)) rfl ?_
    refine lv_aload_n hx hb dX0_takeIn_148 rfl (lv_at hl 1 rfl) ?_
    refine x_get 6 hx hb hts hown hK hP (by decide) rfl q31 rfl dX0_takeIn_149 ?_
    refine lv_iload_n hx hb dX0_takeIn_152 rfl (lv_at hl 3 rfl) ?_
    refine na_lald 6 hx hb hK hP rfl (by decide) (by omega) dX0_takeIn_153 ?_
    refine w_tl (y := z.2.2 6 a) rfl ?_
    refine lv_ldc2 (v := -1) hx hb hown (hts _ q95) dX0_takeIn_154 ?_
    refine lv_lxor hx hb dX0_takeIn_157 ?_
    refine lv_land hx hb dX0_takeIn_158 ?_
    refine na_last 11 hx hb hK hP hD hS rfl (fun _ => rfl) (by decide) (by omega) dX0_takeIn_159 (fun H locs hP hD hS => ?_)
    refine lv_goto (tgt := 226) hx hb dX0_takeIn_160 (by decide) ?_
    exact kretv hx hb hr hlocks hK hP hD hS (by
      have eu : xRow z r a = sL (sL z 9 r ((z.2.2 9 r) ||| (z.2.2 6 a))) 11 (r * 8 + w) ((z.2.2 11 (r * 8 + w)) &&& ((z.2.2 6 a) ^^^ (-1))) := by unfold xRow; rw [ecl, cT_f k0, cT_t k1]
      rw [← eu]; exact hpost) dX0_takeIn_226
  by_cases k2 : z.2.1 1 a = 2
  · refine w_ti k2 ?_
    refine lv_tableIn (tgt := 163) hx hb dX0_takeIn_57 (by decide) (by decide) rfl (by decide) ?_
    refine lv_aload_n hx hb dX0_takeIn_163 rfl (lv_at hl 1 rfl) ?_
    refine lv_iload_n hx hb dX0_takeIn_164 rfl (lv_at hl 3 rfl) ?_
    refine lv_aload_n hx hb dX0_takeIn_165 rfl (lv_at hl 1 rfl) ?_
    refine x_get 12 hx hb hts hown hK hP (by decide) rfl q37 rfl dX0_takeIn_166 ?_
    refine lv_iload_n hx hb dX0_takeIn_169 rfl (lv_at hl 0 rfl) ?_
    refine na_iald 12 hx hb hK hP rfl (by decide) (by omega) dX0_takeIn_170 ?_
    refine kcallVr (n := 2) (As := [.int (nI a), .int (z.2.1 12 (r * 8 + w))]) (rest := []) ⟨hx, hb, hml, hown, hts⟩ (mX_later l D G ad z ga g12) (lw_V q96 q98 qs3 q15 q99) rfl (by decide +kernel) ⟨Nat.le_of_ble_eq_true rfl, Nat.le_of_ble_eq_true rfl⟩ (x_rv hK hP) hK hP hD hS hA hl.1 rfl (Nat.le_of_ble_eq_true rfl) dX0_takeIn_171 ⟨Nat.zero_le _, Nat.zero_le _⟩ (fun r171 H locs er171 hP hS => ?_)
    subst er171
    refine lv_if_eq (tgt := 226) hx hb dX0_takeIn_174 (by decide) (fun c174 => ?_) (fun c174 => ?_)
    · exact kretv hx hb hr hlocks hK hP hD hS (by
        have eu : xRow z r a = z := by unfold xRow; rw [ecl, cT_f k0, cT_f k1, cT_t k2, cT_f (bI_eq c174)]
        rw [← eu]; exact hpost) dX0_takeIn_226
    · refine lv_aload_n hx hb dX0_takeIn_177 rfl (lv_at hl 1 rfl) ?_
      refine x_get 12 hx hb hts hown hK hP (by decide) rfl q37 rfl dX0_takeIn_178 ?_
      refine lv_iload_n hx hb dX0_takeIn_181 rfl (lv_at hl 0 rfl) ?_
      refine lv_iload_n hx hb dX0_takeIn_182 rfl (lv_at hl 3 rfl) ?_
      refine na_iast 12 hx hb hK hP hD hS rfl (fun _ => rfl) (by decide) (by omega) dX0_takeIn_183 (fun H locs hP hD hS => ?_)
      refine lv_goto (tgt := 226) hx hb dX0_takeIn_184 (by decide) ?_
      exact kretv hx hb hr hlocks hK hP hD hS (by
        have eu : xRow z r a = sI z 12 (r * 8 + w) (nI a) := by unfold xRow; rw [ecl, cT_f k0, cT_f k1, cT_t k2, cT_t (bI_ne c174)]
        rw [← eu]; exact hpost) dX0_takeIn_226
  by_cases k3 : z.2.1 1 a = 3
  · refine w_ti k3 ?_
    refine lv_tableIn (tgt := 187) hx hb dX0_takeIn_57 (by decide) (by decide) rfl (by decide) ?_
    refine lv_aload_n hx hb dX0_takeIn_187 rfl (lv_at hl 1 rfl) ?_
    refine x_get 14 hx hb hts hown hK hP (by decide) rfl q39 rfl dX0_takeIn_188 ?_
    refine lv_iload_n hx hb dX0_takeIn_191 rfl (lv_at hl 0 rfl) ?_
    refine lv_dup2_11 hx hb dX0_takeIn_192 rfl rfl ?_
    refine na_iald 14 hx hb hK hP rfl (by decide) (by omega) dX0_takeIn_193 ?_
    refine lv_aload_n hx hb dX0_takeIn_194 rfl (lv_at hl 1 rfl) ?_
    refine x_get 3 hx hb hts hown hK hP (by decide) rfl q28 rfl dX0_takeIn_195 ?_
    refine lv_iload_n hx hb dX0_takeIn_198 rfl (lv_at hl 3 rfl) ?_
    refine na_iald 3 hx hb hK hP rfl (by decide) (by omega) dX0_takeIn_199 ?_
    refine lv_iadd hx hb dX0_takeIn_200 ?_
    refine na_iast 14 hx hb hK hP hD hS rfl (fun _ => rfl) (by decide) (by omega) dX0_takeIn_201 (fun H locs hP hD hS => ?_)
    refine lv_goto (tgt := 226) hx hb dX0_takeIn_202 (by decide) ?_
    exact kretv hx hb hr hlocks hK hP hD hS (by
      have eu : xRow z r a = sI z 14 (r * 8 + w) ((z.2.1 14 (r * 8 + w)) + z.2.1 3 a) := by unfold xRow; rw [ecl, cT_f k0, cT_f k1, cT_f k2, cT_t k3]
      rw [← eu]; exact hpost) dX0_takeIn_226
  have o0 := lv_neT k0 (a := 0) rfl
  have o1 := lv_neT k1 (a := 1) rfl
  have o2 := lv_neT k2 (a := 2) rfl
  have o3 := lv_neT k3 (a := 3) rfl
  refine lv_tableOut (tgt := 205) hx hb dX0_takeIn_57 (by omega) (by decide) ?_
  refine lv_aload_n hx hb dX0_takeIn_205 rfl (lv_at hl 1 rfl) ?_
  refine lv_iload_n hx hb dX0_takeIn_206 rfl (lv_at hl 3 rfl) ?_
  refine lv_aload_n hx hb dX0_takeIn_207 rfl (lv_at hl 1 rfl) ?_
  refine x_get 13 hx hb hts hown hK hP (by decide) rfl q38 rfl dX0_takeIn_208 ?_
  refine lv_iload_n hx hb dX0_takeIn_211 rfl (lv_at hl 0 rfl) ?_
  refine na_iald 13 hx hb hK hP rfl (by decide) (by omega) dX0_takeIn_212 ?_
  refine kcallVr (n := 2) (As := [.int (nI a), .int (z.2.1 13 (r * 8 + w))]) (rest := []) ⟨hx, hb, hml, hown, hts⟩ (mX_later l D G ad z ga g13) (lw_V q96 q98 qs3 q15 q99) rfl (by decide +kernel) ⟨Nat.le_of_ble_eq_true rfl, Nat.le_of_ble_eq_true rfl⟩ (x_rv hK hP) hK hP hD hS hA hl.1 rfl (Nat.le_of_ble_eq_true rfl) dX0_takeIn_213 ⟨Nat.zero_le _, Nat.zero_le _⟩ (fun r213 H locs er213 hP hS => ?_)
  subst er213
  refine lv_if_eq (tgt := 226) hx hb dX0_takeIn_216 (by decide) (fun c216 => ?_) (fun c216 => ?_)
  · exact kretv hx hb hr hlocks hK hP hD hS (by
      have eu : xRow z r a = z := by unfold xRow; rw [ecl, cT_f k0, cT_f k1, cT_f k2, cT_f k3, cT_f (bI_eq c216)]
      rw [← eu]; exact hpost) dX0_takeIn_226
  · refine lv_aload_n hx hb dX0_takeIn_219 rfl (lv_at hl 1 rfl) ?_
    refine x_get 13 hx hb hts hown hK hP (by decide) rfl q38 rfl dX0_takeIn_220 ?_
    refine lv_iload_n hx hb dX0_takeIn_223 rfl (lv_at hl 0 rfl) ?_
    refine lv_iload_n hx hb dX0_takeIn_224 rfl (lv_at hl 3 rfl) ?_
    refine na_iast 13 hx hb hK hP hD hS rfl (fun _ => rfl) (by decide) (by omega) dX0_takeIn_225 (fun H locs hP hD hS => ?_)
    exact kretv hx hb hr hlocks hK hP hD hS (by
      have eu : xRow z r a = sI z 13 (r * 8 + w) (nI a) := by unfold xRow; rw [ecl, cT_f k0, cT_f k1, cT_f k2, cT_f k3, cT_t (bI_ne c216)]
      rw [← eu]; exact hpost) dX0_takeIn_226
set_option maxHeartbeats 4000000 in
/-- takeIn: the replica comes to know an action -/
theorem mX_takeIn (l : Launch) (D : va_G) (G : ClassId × ClassId) (ad : Nat → Nat) (z : TS) {r a : Nat} (gr : r < 3) (ga : a < 60) (hw : WFw z) : KV l D G (wx G ad) yX0_takeIn (ws_ yX0_takeIn cX0_takeIn 4 none) 1 [.ref (ad 0), .int (nI r), .int (nI a)] z (fun u => u = xTake z r a) := by
  refine KV.of (by decide) (Nat.le_of_ble_eq_true rfl) ?_
  intro p e s m below meth c A ls C hP hD hS hl
  obtain ⟨hx, hb, hr, hml, hown, hts, hlocks, hA, hK⟩ := id C
  have hown : s.vm.findClass RX0 = some m.cls := hown
  have hl : lv_has ls 4 [(0, .ref (ad 0)), (1, .int (nI r)), (2, .int (nI a))] := hl
  obtain ⟨w, gw, ew⟩ := hw.1 a ga
  have g12 := hw.2.1 (r * 8 + w) (by omega)
  have g13 := hw.2.2 (r * 8 + w) (by omega)
  refine lv_aload_n hx hb dX0_takeIn_0 rfl (lv_at hl 0 rfl) ?_
  refine x_get 8 hx hb hts hown hK hP (by decide) rfl q33 rfl dX0_takeIn_1 ?_
  refine lv_iload_n hx hb dX0_takeIn_4 rfl (lv_at hl 1 rfl) ?_
  refine lv_dup2_11 hx hb dX0_takeIn_5 rfl rfl ?_
  refine na_lald 8 hx hb hK hP rfl (by decide) (by omega) dX0_takeIn_6 ?_
  refine lv_lconst (v := 1) hx hb dX0_takeIn_7 (by decide) ?_
  refine lv_iload_n hx hb dX0_takeIn_8 rfl (lv_at hl 2 rfl) ?_
  refine n_lshl hx hb dX0_takeIn_9 ?_
  refine lv_lor hx hb dX0_takeIn_10 ?_
  refine na_last 8 hx hb hK hP hD hS rfl (fun _ => rfl) (by decide) (by omega) dX0_takeIn_11 (fun H locs hP hD hS => ?_)
  refine lv_aload_n hx hb dX0_takeIn_12 rfl (lv_at hl 0 rfl) ?_
  refine x_get 7 hx hb hts hown hK hP (by decide) rfl q32 rfl dX0_takeIn_13 ?_
  refine lv_iload_n hx hb dX0_takeIn_16 rfl (lv_at hl 1 rfl) ?_
  refine na_iald 7 hx hb hK hP rfl (by decide) (by omega) dX0_takeIn_17 ?_
  refine w_ti (y := z.2.1 7 r) rfl ?_
  refine lv_aload_n hx hb dX0_takeIn_18 rfl (lv_at hl 0 rfl) ?_
  refine x_get 4 hx hb hts hown hK hP (by decide) rfl q29 rfl dX0_takeIn_19 ?_
  refine lv_iload_n hx hb dX0_takeIn_22 rfl (lv_at hl 2 rfl) ?_
  refine na_iald 4 hx hb hK hP rfl (by decide) (by omega) dX0_takeIn_23 ?_
  refine w_ti (y := z.2.1 4 a) rfl ?_
  refine lv_icmp_ge (tgt := 39) hx hb dX0_takeIn_24 (by decide) (fun c24 => ?_) (fun c24 => ?_)
  · exact tX_takeIn39 C (sL z 8 r ((z.2.2 8 r) ||| (bitL a))) gr ga gw ew g12 g13 (congrArg (fun q => xRow q r a) (show xSt (sL z 8 r (z.2.2 8 r ||| bitL a)) r a = sL z 8 r ((z.2.2 8 r) ||| (bitL a)) from cT_f (i_nlt c24) _ _)).symm hP hD hS hl
  · refine lv_aload_n hx hb dX0_takeIn_27 rfl (lv_at hl 0 rfl) ?_
    refine x_get 7 hx hb hts hown hK hP (by decide) rfl q32 rfl dX0_takeIn_28 ?_
    refine lv_iload_n hx hb dX0_takeIn_31 rfl (lv_at hl 1 rfl) ?_
    refine lv_aload_n hx hb dX0_takeIn_32 rfl (lv_at hl 0 rfl) ?_
    refine x_get 4 hx hb hts hown hK hP (by decide) rfl q29 rfl dX0_takeIn_33 ?_
    refine lv_iload_n hx hb dX0_takeIn_36 rfl (lv_at hl 2 rfl) ?_
    refine na_iald 4 hx hb hK hP rfl (by decide) (by omega) dX0_takeIn_37 ?_
    refine w_ti (y := z.2.1 4 a) rfl ?_
    refine na_iast 7 hx hb hK hP hD hS rfl (fun _ => rfl) (by decide) (by omega) dX0_takeIn_38 (fun H locs hP hD hS => ?_)
    exact tX_takeIn39 C (sI (sL z 8 r ((z.2.2 8 r) ||| (bitL a))) 7 r (z.2.1 4 a)) gr ga gw ew g12 g13 (congrArg (fun q => xRow q r a) (show xSt (sL z 8 r (z.2.2 8 r ||| bitL a)) r a = sI (sL z 8 r ((z.2.2 8 r) ||| (bitL a))) 7 r (z.2.1 4 a) from cT_t (i_lt c24) _ _)).symm hP hD hS hl
set_option maxHeartbeats 4000000 in
/-- act: a new action, known to its replica -/
theorem mX_act (l : Launch) (D : va_G) (G : ClassId × ClassId) (ad : Nat → Nat) (z : TS) {r k w : Nat} (v : Int32) (gr : r < 3) (gk : k < 5) (gw : w < 8) (gn : z.1 ≤ 60) (hwf : WFw z) : KI l D G (wx G ad) yX0_act (ws_ yX0_act cX0_act 6 (some .int)) 2 [.ref (ad 0), .int (nI r), .int (nI k), .int (nI w), .int v] z (fun r' u => (60 ≤ z.1 → r' = -3 ∧ u = z) ∧ (z.1 < 60 → r' = nI z.1 ∧ u = xAct z r k w v)) := by
  refine KI.of (by decide) (Nat.le_of_ble_eq_true rfl) ?_
  intro p e s m below meth c A ls C hP hD hS hl
  obtain ⟨hx, hb, hr, hml, hown, hts, hlocks, hA, hK⟩ := id C
  have hown : s.vm.findClass RX0 = some m.cls := hown
  have hl : lv_has ls 6 [(0, .ref (ad 0)), (1, .int (nI r)), (2, .int (nI k)), (3, .int (nI w)), (4, .int v)] := hl
  refine lv_aload_n hx hb dX0_act_0 rfl (lv_at hl 0 rfl) ?_
  refine x_get 0 hx hb hts hown hK hP (by decide) rfl q25 rfl dX0_act_1 ?_
  refine lv_bipush (v := 60) hx hb dX0_act_4 (by decide) ?_
  refine lv_icmp_lt (tgt := 12) hx hb dX0_act_6 (by decide) (fun c6 => ?_) (fun c6 => ?_)
  · have g60 := n60 gn c6
    refine lv_aload_n hx hb dX0_act_12 rfl (lv_at hl 0 rfl) ?_
    refine x_get 0 hx hb hts hown hK hP (by decide) rfl q25 rfl dX0_act_13 ?_
    refine lv_istore (lv' := [(5, .int (nI z.1)), (0, .ref (ad 0)), (1, .int (nI r)), (2, .int (nI k)), (3, .int (nI w)), (4, .int v)]) hx hb dX0_act_16 hl (by decide) rfl (fun ls hl => ?_)
    refine lv_aload_n hx hb dX0_act_18 rfl (lv_at hl 1 rfl) ?_
    refine x_get 1 hx hb hts hown hK hP (by decide) rfl q26 rfl dX0_act_19 ?_
    refine lv_iload hx hb dX0_act_22 (lv_at hl 0 rfl) ?_
    refine lv_iload_n hx hb dX0_act_24 rfl (lv_at hl 3 rfl) ?_
    refine na_iast 1 hx hb hK hP hD hS rfl (fun _ => rfl) (by decide) (by omega) dX0_act_25 (fun H locs hP hD hS => ?_)
    refine lv_aload_n hx hb dX0_act_26 rfl (lv_at hl 1 rfl) ?_
    refine x_get 2 hx hb hts hown hK hP (by decide) rfl q27 rfl dX0_act_27 ?_
    refine lv_iload hx hb dX0_act_30 (lv_at hl 0 rfl) ?_
    refine lv_iload_n hx hb dX0_act_32 rfl (lv_at hl 4 rfl) ?_
    refine na_iast 2 hx hb hK hP hD hS rfl (fun _ => rfl) (by decide) (by omega) dX0_act_33 (fun H locs hP hD hS => ?_)
    refine lv_aload_n hx hb dX0_act_34 rfl (lv_at hl 1 rfl) ?_
    refine x_get 3 hx hb hts hown hK hP (by decide) rfl q28 rfl dX0_act_35 ?_
    refine lv_iload hx hb dX0_act_38 (lv_at hl 0 rfl) ?_
    refine lv_iload hx hb dX0_act_40 (lv_at hl 5 rfl) ?_
    refine na_iast 3 hx hb hK hP hD hS rfl (fun _ => rfl) (by decide) (by omega) dX0_act_42 (fun H locs hP hD hS => ?_)
    refine lv_aload_n hx hb dX0_act_43 rfl (lv_at hl 1 rfl) ?_
    refine x_get 4 hx hb hts hown hK hP (by decide) rfl q29 rfl dX0_act_44 ?_
    refine lv_iload hx hb dX0_act_47 (lv_at hl 0 rfl) ?_
    refine lv_aload_n hx hb dX0_act_49 rfl (lv_at hl 1 rfl) ?_
    refine x_get 7 hx hb hts hown hK hP (by decide) rfl q32 rfl dX0_act_50 ?_
    refine lv_iload_n hx hb dX0_act_53 rfl (lv_at hl 2 rfl) ?_
    refine na_iald 7 hx hb hK hP rfl (by decide) (by omega) dX0_act_54 ?_
    refine w_ti (y := z.2.1 7 r) rfl ?_
    refine lv_iconst (v := 1) hx hb dX0_act_55 (by decide) ?_
    refine lv_iadd hx hb dX0_act_56 ?_
    refine na_iast 4 hx hb hK hP hD hS rfl (fun _ => rfl) (by decide) (by omega) dX0_act_57 (fun H locs hP hD hS => ?_)
    refine lv_aload_n hx hb dX0_act_58 rfl (lv_at hl 1 rfl) ?_
    refine x_get 5 hx hb hts hown hK hP (by decide) rfl q30 rfl dX0_act_59 ?_
    refine lv_iload hx hb dX0_act_62 (lv_at hl 0 rfl) ?_
    refine lv_iload_n hx hb dX0_act_64 rfl (lv_at hl 2 rfl) ?_
    refine na_iast 5 hx hb hK hP hD hS rfl (fun _ => rfl) (by decide) (by omega) dX0_act_65 (fun H locs hP hD hS => ?_)
    refine lv_aload_n hx hb dX0_act_66 rfl (lv_at hl 1 rfl) ?_
    refine x_get 6 hx hb hts hown hK hP (by decide) rfl q31 rfl dX0_act_67 ?_
    refine lv_iload hx hb dX0_act_70 (lv_at hl 0 rfl) ?_
    refine lv_iload_n hx hb dX0_act_72 rfl (lv_at hl 3 rfl) ?_
    refine lv_iconst (v := 1) hx hb dX0_act_73 (by decide) ?_
    refine lv_icmp_ne (tgt := 91) hx hb dX0_act_74 (by decide) (fun c74 => ?_) (fun c74 => ?_)
    · have k1 : ¬ k = 1 := fun x => c74 (by rw [x]; rfl)
      refine lv_lconst (v := 0) hx hb dX0_act_91 (by decide) ?_
      refine na_last 6 hx hb hK hP hD hS rfl (fun _ => rfl) (by decide) (by omega) dX0_act_92 (fun H locs hP hD hS => ?_)
      have ez : sN (sL (sI (sI (sI (sI (sI z 1 z.1 (nI k)) 2 z.1 (nI w)) 3 z.1 v) 4 z.1 ((z.2.1 7 r) + 1)) 5 z.1 (nI r)) 6 z.1 0) = xApp z r k w v := by unfold xApp; rw [if_neg k1]
      refine lv_aload_n hx hb dX0_act_93 rfl (lv_at hl 1 rfl) ?_
      refine lv_dup hx hb dX0_act_94 rfl ?_
      refine x_get 0 hx hb hts hown hK hP (by decide) rfl q25 rfl dX0_act_95 ?_
      refine lv_iconst (v := 1) hx hb dX0_act_98 (by decide) ?_
      refine lv_iadd hx hb dX0_act_99 ?_
      refine w_ti (nI_1 _) ?_
      refine x_putN hx hb hts hown hK hP hD hS dX0_act_100 (fun H locs hP hD hS => ?_)
      rw [ez] at hP hD
      refine lv_aload_n hx hb dX0_act_103 rfl (lv_at hl 1 rfl) ?_
      refine lv_iload_n hx hb dX0_act_104 rfl (lv_at hl 2 rfl) ?_
      refine lv_iload hx hb dX0_act_105 (lv_at hl 0 rfl) ?_
      refine kcallW (n := 2) (As := [.int (nI r), .int (nI z.1)]) (rest := []) ⟨hx, hb, hml, hown, hts⟩ (mX_takeIn l D G ad (xApp z r k w v) gr g60 (hwf.app r k w v gw)) (lw_V q91 q93 qs2 q15 q94) rfl (by decide +kernel) ⟨Nat.le_of_ble_eq_true rfl, Nat.le_of_ble_eq_true rfl⟩ (x_rv hK hP) hK hP hD hS hA hl.1 rfl (Nat.le_of_ble_eq_true rfl) dX0_act_107 ⟨Nat.zero_le _, Nat.zero_le _⟩ (fun u H locs hw hP hD hS => ?_)
      refine lv_iload hx hb dX0_act_110 (lv_at hl 0 rfl) ?_
      exact kret hx hb hr hlocks hK hP hD hS rfl ⟨fun x => absurd x (Nat.not_le.mpr g60), fun _ => ⟨rfl, hw⟩⟩ dX0_act_112
    · have k1 : k = 1 := (nI_eq (a := k) (b := 1) (by omega) (by decide)).mp c74
      refine lv_aload_n hx hb dX0_act_77 rfl (lv_at hl 1 rfl) ?_
      refine x_get 10 hx hb hts hown hK hP (by decide) rfl q35 rfl dX0_act_78 ?_
      refine lv_iload_n hx hb dX0_act_81 rfl (lv_at hl 2 rfl) ?_
      refine lv_bipush (v := 8) hx hb dX0_act_82 (by decide) ?_
      refine lv_imul hx hb dX0_act_84 ?_
      refine lv_iload_n hx hb dX0_act_85 rfl (lv_at hl 4 rfl) ?_
      refine lv_iadd hx hb dX0_act_86 ?_
      refine w_ti (ix8 _ _) ?_
      refine na_lald 10 hx hb hK hP rfl (by decide) (by omega) dX0_act_87 ?_
      refine w_tl (y := z.2.2 10 (r * 8 + w)) rfl ?_
      refine lv_goto (tgt := 92) hx hb dX0_act_88 (by decide) ?_
      refine na_last 6 hx hb hK hP hD hS rfl (fun _ => rfl) (by decide) (by omega) dX0_act_92 (fun H locs hP hD hS => ?_)
      have ez : sN (sL (sI (sI (sI (sI (sI z 1 z.1 (nI k)) 2 z.1 (nI w)) 3 z.1 v) 4 z.1 ((z.2.1 7 r) + 1)) 5 z.1 (nI r)) 6 z.1 (z.2.2 10 (r * 8 + w))) = xApp z r k w v := by unfold xApp; rw [if_pos k1]
      refine lv_aload_n hx hb dX0_act_93 rfl (lv_at hl 1 rfl) ?_
      refine lv_dup hx hb dX0_act_94 rfl ?_
      refine x_get 0 hx hb hts hown hK hP (by decide) rfl q25 rfl dX0_act_95 ?_
      refine lv_iconst (v := 1) hx hb dX0_act_98 (by decide) ?_
      refine lv_iadd hx hb dX0_act_99 ?_
      refine w_ti (nI_1 _) ?_
      refine x_putN hx hb hts hown hK hP hD hS dX0_act_100 (fun H locs hP hD hS => ?_)
      rw [ez] at hP hD
      refine lv_aload_n hx hb dX0_act_103 rfl (lv_at hl 1 rfl) ?_
      refine lv_iload_n hx hb dX0_act_104 rfl (lv_at hl 2 rfl) ?_
      refine lv_iload hx hb dX0_act_105 (lv_at hl 0 rfl) ?_
      refine kcallW (n := 2) (As := [.int (nI r), .int (nI z.1)]) (rest := []) ⟨hx, hb, hml, hown, hts⟩ (mX_takeIn l D G ad (xApp z r k w v) gr g60 (hwf.app r k w v gw)) (lw_V q91 q93 qs2 q15 q94) rfl (by decide +kernel) ⟨Nat.le_of_ble_eq_true rfl, Nat.le_of_ble_eq_true rfl⟩ (x_rv hK hP) hK hP hD hS hA hl.1 rfl (Nat.le_of_ble_eq_true rfl) dX0_act_107 ⟨Nat.zero_le _, Nat.zero_le _⟩ (fun u H locs hw hP hD hS => ?_)
      refine lv_iload hx hb dX0_act_110 (lv_at hl 0 rfl) ?_
      exact kret hx hb hr hlocks hK hP hD hS rfl ⟨fun x => absurd x (Nat.not_le.mpr g60), fun _ => ⟨rfl, hw⟩⟩ dX0_act_112
  · refine lv_bipush (v := (-3)) hx hb dX0_act_9 (by decide) ?_
    exact kret hx hb hr hlocks hK hP hD hS rfl ⟨fun _ => ⟨rfl, rfl⟩, fun x => absurd x (Nat.not_lt.mpr (n60' c6))⟩ dX0_act_11
end
section
/-! CrdtTable: refusals and the five actions -/
set_option maxRecDepth 100000
set_option maxHeartbeats 4000000 in
theorem mX_refusal (l : Launch) (D : va_G) (G : ClassId × ClassId) (ad : Nat → Nat) (z : TS) (p0 p1 : Int32) : KI l D G (wx G ad) yX0_refusal (ws_ yX0_refusal cX0_refusal 3 (some .int)) 1 [.ref (ad 0), .int p0, .int p1] z (RO z (refR p0 p1)) := by
  refine KI.of (by decide) (Nat.le_of_ble_eq_true rfl) ?_
  intro p e s m below meth c A ls C hP hD hS hl
  obtain ⟨hx, hb, hr, hml, hown, hts, hlocks, hA, hK⟩ := id C
  have hown : s.vm.findClass RX0 = some m.cls := hown
  have hl : lv_has ls 3 [(0, .ref (ad 0)), (1, .int p0), (2, .int p1)] := hl
  refine lv_iload_n hx hb dX0_refusal_0 rfl (lv_at hl 1 rfl) ?_
  refine kcallSr (n := 1) (As := [.int p0]) (rest := []) ⟨hx, hb, hml, hown, hts⟩ (mX_badReplica l D G ad z (wx G ad) p0) (lw_S q81 q82 q15 q83) rfl (by decide +kernel) ⟨Nat.le_of_ble_eq_true rfl, Nat.le_of_ble_eq_true rfl⟩ hK hP hD hS hA hl.1 rfl (Nat.le_of_ble_eq_true rfl) dX0_refusal_1 ⟨Nat.zero_le _, Nat.zero_le _⟩ (fun r1 H locs er1 hP hS => ?_)
  subst er1
  refine lv_if_eq (tgt := 9) hx hb dX0_refusal_4 (by decide) (fun c4 => ?_) (fun c4 => ?_)
  · refine lv_iload_n hx hb dX0_refusal_9 rfl (lv_at hl 2 rfl) ?_
    refine kcallSr (n := 1) (As := [.int p1]) (rest := []) ⟨hx, hb, hml, hown, hts⟩ (mX_badRow l D G ad z (wx G ad) p1) (lw_S q84 q85 q15 q86) rfl (by decide +kernel) ⟨Nat.le_of_ble_eq_true rfl, Nat.le_of_ble_eq_true rfl⟩ hK hP hD hS hA hl.1 rfl (Nat.le_of_ble_eq_true rfl) dX0_refusal_10 ⟨Nat.zero_le _, Nat.zero_le _⟩ (fun r10 H locs er10 hP hS => ?_)
    subst er10
    refine lv_if_eq (tgt := 21) hx hb dX0_refusal_13 (by decide) (fun c13 => ?_) (fun c13 => ?_)
    · refine lv_iconst (v := 0) hx hb dX0_refusal_21 (by decide) ?_
      exact kret hx hb hr hlocks hK hP hD hS rfl ⟨rfl, fun x => absurd (bI_nn c4) x, fun _ x => absurd (bI_nn c13) x, fun _ _ => rfl⟩ dX0_refusal_22
    · refine lv_bipush (v := (-2)) hx hb dX0_refusal_16 (by decide) ?_
      refine lv_goto (tgt := 22) hx hb dX0_refusal_18 (by decide) ?_
      exact kret hx hb hr hlocks hK hP hD hS rfl ⟨rfl, fun x => absurd (bI_nn c4) x, fun _ _ => rfl, fun _ x => absurd x (bI_ne c13)⟩ dX0_refusal_22
  · refine lv_iconst (v := (-1)) hx hb dX0_refusal_7 (by decide) ?_
    exact kret hx hb hr hlocks hK hP hD hS rfl ⟨rfl, fun _ => rfl, fun x => absurd x (bI_ne c4), fun x => absurd x (bI_ne c4)⟩ dX0_refusal_8
set_option maxHeartbeats 4000000 in
theorem mX_refusalAbsent (l : Launch) (D : va_G) (G : ClassId × ClassId) (ad : Nat → Nat) (z : TS) (p0 p1 : Int32) : KI l D G (wx G ad) yX0_refusalAbsent (ws_ yX0_refusalAbsent cX0_refusalAbsent 4 (some .int)) 2 [.ref (ad 0), .int p0, .int p1] z (RO z (refA z p0 p1)) := by
  refine KI.of (by decide) (Nat.le_of_ble_eq_true rfl) ?_
  intro p e s m below meth c A ls C hP hD hS hl
  obtain ⟨hx, hb, hr, hml, hown, hts, hlocks, hA, hK⟩ := id C
  have hown : s.vm.findClass RX0 = some m.cls := hown
  have hl : lv_has ls 4 [(0, .ref (ad 0)), (1, .int p0), (2, .int p1)] := hl
  refine lv_aload_n hx hb dX0_refusalAbsent_0 rfl (lv_at hl 0 rfl) ?_
  refine lv_iload_n hx hb dX0_refusalAbsent_1 rfl (lv_at hl 1 rfl) ?_
  refine lv_iload_n hx hb dX0_refusalAbsent_2 rfl (lv_at hl 2 rfl) ?_
  refine kcallVr (n := 2) (As := [.int p0, .int p1]) (rest := []) ⟨hx, hb, hml, hown, hts⟩ (mX_refusal l D G ad z p0 p1) (lw_V q77 q79 qs0 q15 q80) rfl (by decide +kernel) ⟨Nat.le_of_ble_eq_true rfl, Nat.le_of_ble_eq_true rfl⟩ (x_rv hK hP) hK hP hD hS hA hl.1 rfl (Nat.le_of_ble_eq_true rfl) dX0_refusalAbsent_3 ⟨Nat.zero_le _, Nat.zero_le _⟩ (fun r3 H locs er3 hP hS => ?_)
  refine lv_istore_n (lv' := [(3, .int r3), (0, .ref (ad 0)), (1, .int p0), (2, .int p1)]) hx hb dX0_refusalAbsent_6 rfl hl (by decide) rfl (fun ls hl => ?_)
  refine lv_iload_n hx hb dX0_refusalAbsent_7 rfl (lv_at hl 0 rfl) ?_
  refine lv_if_eq (tgt := 13) hx hb dX0_refusalAbsent_8 (by decide) (fun c8 => ?_) (fun c8 => ?_)
  · obtain ⟨⟨a, ga, rfl⟩, ⟨b, gb, rfl⟩⟩ := refR_0 er3 c8
    refine lv_aload_n hx hb dX0_refusalAbsent_13 rfl (lv_at hl 1 rfl) ?_
    refine lv_iload_n hx hb dX0_refusalAbsent_14 rfl (lv_at hl 2 rfl) ?_
    refine lv_iload_n hx hb dX0_refusalAbsent_15 rfl (lv_at hl 3 rfl) ?_
    refine kcallVr (n := 2) (As := [.int (nI a), .int (nI b)]) (rest := []) ⟨hx, hb, hml, hown, hts⟩ (mX_isThere l D G ad z ga gb) (lw_V q108 q110 qs5 q15 q111) rfl (by decide +kernel) ⟨Nat.le_of_ble_eq_true rfl, Nat.le_of_ble_eq_true rfl⟩ (x_rv hK hP) hK hP hD hS hA hl.1 rfl (Nat.le_of_ble_eq_true rfl) dX0_refusalAbsent_16 ⟨Nat.zero_le _, Nat.zero_le _⟩ (fun r16 H locs er16 hP hS => ?_)
    subst er16
    refine lv_if_eq (tgt := 26) hx hb dX0_refusalAbsent_19 (by decide) (fun c19 => ?_) (fun c19 => ?_)
    · refine lv_bipush (v := (-4)) hx hb dX0_refusalAbsent_26 (by decide) ?_
      exact kret hx hb hr hlocks hK hP hD hS rfl ⟨rfl, refA_ok ga gb (cT_f (bI_eq c19) _ _).symm⟩ dX0_refusalAbsent_28
    · refine lv_iconst (v := 0) hx hb dX0_refusalAbsent_22 (by decide) ?_
      refine lv_goto (tgt := 28) hx hb dX0_refusalAbsent_23 (by decide) ?_
      exact kret hx hb hr hlocks hK hP hD hS rfl ⟨rfl, refA_ok ga gb (cT_t (bI_ne c19) _ _).symm⟩ dX0_refusalAbsent_28
  · refine lv_iload_n hx hb dX0_refusalAbsent_11 rfl (lv_at hl 0 rfl) ?_
    exact kret hx hb hr hlocks hK hP hD hS rfl ⟨rfl, refA_n er3 c8⟩ dX0_refusalAbsent_12
set_option maxHeartbeats 4000000 in
theorem mX_add (l : Launch) (D : va_G) (G : ClassId × ClassId) (ad : Nat → Nat) (z : TS) (p0 p1 : Int32) (gn : z.1 ≤ 60) (hwf : WFw z) : KI l D G (wx G ad) yX0_add (ws_ yX0_add cX0_add 4 (some .int)) 3 [.ref (ad 0), .int p0, .int p1] z (actR p0 p1 0 0 (xThB z) (60 ≤ z.1) z.1 z (fun a b => xAct z a 0 b 0)) := by
  refine KI.of (by decide) (Nat.le_of_ble_eq_true rfl) ?_
  intro p e s m below meth c A ls C hP hD hS hl
  obtain ⟨hx, hb, hr, hml, hown, hts, hlocks, hA, hK⟩ := id C
  have hown : s.vm.findClass RX0 = some m.cls := hown
  have hl : lv_has ls 4 [(0, .ref (ad 0)), (1, .int p0), (2, .int p1)] := hl
  refine lv_aload_n hx hb dX0_add_0 rfl (lv_at hl 0 rfl) ?_
  refine lv_iload_n hx hb dX0_add_1 rfl (lv_at hl 1 rfl) ?_
  refine lv_iload_n hx hb dX0_add_2 rfl (lv_at hl 2 rfl) ?_
  refine kcallVr (n := 2) (As := [.int p0, .int p1]) (rest := []) ⟨hx, hb, hml, hown, hts⟩ (mX_refusal l D G ad z p0 p1) (lw_V q77 q79 qs0 q15 q80) rfl (by decide +kernel) ⟨Nat.le_of_ble_eq_true rfl, Nat.le_of_ble_eq_true rfl⟩ (x_rv hK hP) hK hP hD hS hA hl.1 rfl (Nat.le_of_ble_eq_true rfl) dX0_add_3 ⟨Nat.zero_le _, Nat.zero_le _⟩ (fun r3 H locs er3 hP hS => ?_)
  refine lv_istore_n (lv' := [(3, .int r3), (0, .ref (ad 0)), (1, .int p0), (2, .int p1)]) hx hb dX0_add_6 rfl hl (by decide) rfl (fun ls hl => ?_)
  refine lv_iload_n hx hb dX0_add_7 rfl (lv_at hl 0 rfl) ?_
  refine lv_if_eq (tgt := 15) hx hb dX0_add_8 (by decide) (fun c8 => ?_) (fun c8 => ?_)
  · obtain ⟨⟨a, ga, rfl⟩, ⟨b, gb, rfl⟩⟩ := refR_0 er3 c8
    refine lv_aload_n hx hb dX0_add_15 rfl (lv_at hl 1 rfl) ?_
    refine lv_iload_n hx hb dX0_add_16 rfl (lv_at hl 2 rfl) ?_
    refine lv_iconst (v := 0) hx hb dX0_add_17 (by decide) ?_
    refine lv_iload_n hx hb dX0_add_18 rfl (lv_at hl 3 rfl) ?_
    refine lv_iconst (v := 0) hx hb dX0_add_19 (by decide) ?_
    refine kcallV (n := 4) (As := [.int (nI a), .int 0, .int (nI b), .int 0]) (rest := []) ⟨hx, hb, hml, hown, hts⟩ (mX_act l D G ad z (k := 0) 0 ga (by decide) gb gn hwf) (lw_V q87 q89 qs1 q15 q90) rfl (by decide +kernel) ⟨Nat.le_of_ble_eq_true rfl, Nat.le_of_ble_eq_true rfl⟩ (x_rv hK hP) hK hP hD hS hA hl.1 rfl (Nat.le_of_ble_eq_true rfl) dX0_add_20 ⟨Nat.zero_le _, Nat.zero_le _⟩ (fun r20 u H locs hw hP hD hS => ?_)
    exact kret hx hb hr hlocks hK hP hD hS rfl (actR_go ga gb (fun x => absurd x.1 (by decide)) (Or.inl rfl) (xAct_r hw)) dX0_add_23
  · refine lv_iload_n hx hb dX0_add_11 rfl (lv_at hl 0 rfl) ?_
    refine lv_goto (tgt := 23) hx hb dX0_add_12 (by decide) ?_
    exact kret hx hb hr hlocks hK hP hD hS rfl (actR_ref er3 c8) dX0_add_23
set_option maxHeartbeats 4000000 in
theorem mX_drop (l : Launch) (D : va_G) (G : ClassId × ClassId) (ad : Nat → Nat) (z : TS) (p0 p1 : Int32) (gn : z.1 ≤ 60) (hwf : WFw z) : KI l D G (wx G ad) yX0_drop (ws_ yX0_drop cX0_drop 4 (some .int)) 3 [.ref (ad 0), .int p0, .int p1] z (actR p0 p1 1 0 (xThB z) (60 ≤ z.1) z.1 z (fun a b => xAct z a 1 b 0)) := by
  refine KI.of (by decide) (Nat.le_of_ble_eq_true rfl) ?_
  intro p e s m below meth c A ls C hP hD hS hl
  obtain ⟨hx, hb, hr, hml, hown, hts, hlocks, hA, hK⟩ := id C
  have hown : s.vm.findClass RX0 = some m.cls := hown
  have hl : lv_has ls 4 [(0, .ref (ad 0)), (1, .int p0), (2, .int p1)] := hl
  refine lv_aload_n hx hb dX0_drop_0 rfl (lv_at hl 0 rfl) ?_
  refine lv_iload_n hx hb dX0_drop_1 rfl (lv_at hl 1 rfl) ?_
  refine lv_iload_n hx hb dX0_drop_2 rfl (lv_at hl 2 rfl) ?_
  refine kcallVr (n := 2) (As := [.int p0, .int p1]) (rest := []) ⟨hx, hb, hml, hown, hts⟩ (mX_refusalAbsent l D G ad z p0 p1) (lw_V q104 q106 qs4 q15 q107) rfl (by decide +kernel) ⟨Nat.le_of_ble_eq_true rfl, Nat.le_of_ble_eq_true rfl⟩ (x_rv hK hP) hK hP hD hS hA hl.1 rfl (Nat.le_of_ble_eq_true rfl) dX0_drop_3 ⟨Nat.zero_le _, Nat.zero_le _⟩ (fun r3 H locs er3 hP hS => ?_)
  refine lv_istore_n (lv' := [(3, .int r3), (0, .ref (ad 0)), (1, .int p0), (2, .int p1)]) hx hb dX0_drop_6 rfl hl (by decide) rfl (fun ls hl => ?_)
  refine lv_iload_n hx hb dX0_drop_7 rfl (lv_at hl 0 rfl) ?_
  refine lv_if_eq (tgt := 15) hx hb dX0_drop_8 (by decide) (fun c8 => ?_) (fun c8 => ?_)
  · obtain ⟨a, b, ga, gb, rfl, rfl, th⟩ := refA_0 er3 c8
    refine lv_aload_n hx hb dX0_drop_15 rfl (lv_at hl 1 rfl) ?_
    refine lv_iload_n hx hb dX0_drop_16 rfl (lv_at hl 2 rfl) ?_
    refine lv_iconst (v := 1) hx hb dX0_drop_17 (by decide) ?_
    refine lv_iload_n hx hb dX0_drop_18 rfl (lv_at hl 3 rfl) ?_
    refine lv_iconst (v := 0) hx hb dX0_drop_19 (by decide) ?_
    refine kcallV (n := 4) (As := [.int (nI a), .int 1, .int (nI b), .int 0]) (rest := []) ⟨hx, hb, hml, hown, hts⟩ (mX_act l D G ad z (k := 1) 0 ga (by decide) gb gn hwf) (lw_V q87 q89 qs1 q15 q90) rfl (by decide +kernel) ⟨Nat.le_of_ble_eq_true rfl, Nat.le_of_ble_eq_true rfl⟩ (x_rv hK hP) hK hP hD hS hA hl.1 rfl (Nat.le_of_ble_eq_true rfl) dX0_drop_20 ⟨Nat.zero_le _, Nat.zero_le _⟩ (fun r20 u H locs hw hP hD hS => ?_)
    exact kret hx hb hr hlocks hK hP hD hS rfl (actR_go ga gb (fun x => absurd x.1 (by decide)) (Or.inr th) (xAct_r hw)) dX0_drop_23
  · refine lv_iload_n hx hb dX0_drop_11 rfl (lv_at hl 0 rfl) ?_
    refine lv_goto (tgt := 23) hx hb dX0_drop_12 (by decide) ?_
    exact kret hx hb hr hlocks hK hP hD hS rfl (actR_abs (by decide) (by decide) er3 c8) dX0_drop_23
set_option maxHeartbeats 4000000 in
theorem mX_name (l : Launch) (D : va_G) (G : ClassId × ClassId) (ad : Nat → Nat) (z : TS) (p0 p1 p2 : Int32) (gn : z.1 ≤ 60) (hwf : WFw z) : KI l D G (wx G ad) yX0_name (ws_ yX0_name cX0_name 5 (some .int)) 3 [.ref (ad 0), .int p0, .int p1, .int p2] z (actR p0 p1 2 p2 (xThB z) (60 ≤ z.1) z.1 z (fun a b => xAct z a 2 b p2)) := by
  refine KI.of (by decide) (Nat.le_of_ble_eq_true rfl) ?_
  intro p e s m below meth c A ls C hP hD hS hl
  obtain ⟨hx, hb, hr, hml, hown, hts, hlocks, hA, hK⟩ := id C
  have hown : s.vm.findClass RX0 = some m.cls := hown
  have hl : lv_has ls 5 [(0, .ref (ad 0)), (1, .int p0), (2, .int p1), (3, .int p2)] := hl
  refine lv_aload_n hx hb dX0_name_0 rfl (lv_at hl 0 rfl) ?_
  refine lv_iload_n hx hb dX0_name_1 rfl (lv_at hl 1 rfl) ?_
  refine lv_iload_n hx hb dX0_name_2 rfl (lv_at hl 2 rfl) ?_
  refine kcallVr (n := 2) (As := [.int p0, .int p1]) (rest := []) ⟨hx, hb, hml, hown, hts⟩ (mX_refusalAbsent l D G ad z p0 p1) (lw_V q104 q106 qs4 q15 q107) rfl (by decide +kernel) ⟨Nat.le_of_ble_eq_true rfl, Nat.le_of_ble_eq_true rfl⟩ (x_rv hK hP) hK hP hD hS hA hl.1 rfl (Nat.le_of_ble_eq_true rfl) dX0_name_3 ⟨Nat.zero_le _, Nat.zero_le _⟩ (fun r3 H locs er3 hP hS => ?_)
  refine lv_istore (lv' := [(4, .int r3), (0, .ref (ad 0)), (1, .int p0), (2, .int p1), (3, .int p2)]) hx hb dX0_name_6 hl (by decide) rfl (fun ls hl => ?_)
  refine lv_iload hx hb dX0_name_8 (lv_at hl 0 rfl) ?_
  refine lv_if_eq (tgt := 18) hx hb dX0_name_10 (by decide) (fun c10 => ?_) (fun c10 => ?_)
  · obtain ⟨a, b, ga, gb, rfl, rfl, th⟩ := refA_0 er3 c10
    refine lv_aload_n hx hb dX0_name_18 rfl (lv_at hl 1 rfl) ?_
    refine lv_iload_n hx hb dX0_name_19 rfl (lv_at hl 2 rfl) ?_
    refine lv_iconst (v := 2) hx hb dX0_name_20 (by decide) ?_
    refine lv_iload_n hx hb dX0_name_21 rfl (lv_at hl 3 rfl) ?_
    refine lv_iload_n hx hb dX0_name_22 rfl (lv_at hl 4 rfl) ?_
    refine kcallV (n := 4) (As := [.int (nI a), .int 2, .int (nI b), .int p2]) (rest := []) ⟨hx, hb, hml, hown, hts⟩ (mX_act l D G ad z (k := 2) p2 ga (by decide) gb gn hwf) (lw_V q87 q89 qs1 q15 q90) rfl (by decide +kernel) ⟨Nat.le_of_ble_eq_true rfl, Nat.le_of_ble_eq_true rfl⟩ (x_rv hK hP) hK hP hD hS hA hl.1 rfl (Nat.le_of_ble_eq_true rfl) dX0_name_23 ⟨Nat.zero_le _, Nat.zero_le _⟩ (fun r23 u H locs hw hP hD hS => ?_)
    exact kret hx hb hr hlocks hK hP hD hS rfl (actR_go ga gb (fun x => absurd x.1 (by decide)) (Or.inr th) (xAct_r hw)) dX0_name_26
  · refine lv_iload hx hb dX0_name_13 (lv_at hl 0 rfl) ?_
    refine lv_goto (tgt := 26) hx hb dX0_name_15 (by decide) ?_
    exact kret hx hb hr hlocks hK hP hD hS rfl (actR_abs (by decide) (by decide) er3 c10) dX0_name_26
set_option maxHeartbeats 4000000 in
theorem mX_count (l : Launch) (D : va_G) (G : ClassId × ClassId) (ad : Nat → Nat) (z : TS) (p0 p1 p2 : Int32) (gn : z.1 ≤ 60) (hwf : WFw z) : KI l D G (wx G ad) yX0_count (ws_ yX0_count cX0_count 5 (some .int)) 3 [.ref (ad 0), .int p0, .int p1, .int p2] z (actR p0 p1 3 p2 (xThB z) (60 ≤ z.1) z.1 z (fun a b => xAct z a 3 b p2)) := by
  refine KI.of (by decide) (Nat.le_of_ble_eq_true rfl) ?_
  intro p e s m below meth c A ls C hP hD hS hl
  obtain ⟨hx, hb, hr, hml, hown, hts, hlocks, hA, hK⟩ := id C
  have hown : s.vm.findClass RX0 = some m.cls := hown
  have hl : lv_has ls 5 [(0, .ref (ad 0)), (1, .int p0), (2, .int p1), (3, .int p2)] := hl
  refine lv_aload_n hx hb dX0_count_0 rfl (lv_at hl 0 rfl) ?_
  refine lv_iload_n hx hb dX0_count_1 rfl (lv_at hl 1 rfl) ?_
  refine lv_iload_n hx hb dX0_count_2 rfl (lv_at hl 2 rfl) ?_
  refine kcallVr (n := 2) (As := [.int p0, .int p1]) (rest := []) ⟨hx, hb, hml, hown, hts⟩ (mX_refusalAbsent l D G ad z p0 p1) (lw_V q104 q106 qs4 q15 q107) rfl (by decide +kernel) ⟨Nat.le_of_ble_eq_true rfl, Nat.le_of_ble_eq_true rfl⟩ (x_rv hK hP) hK hP hD hS hA hl.1 rfl (Nat.le_of_ble_eq_true rfl) dX0_count_3 ⟨Nat.zero_le _, Nat.zero_le _⟩ (fun r3 H locs er3 hP hS => ?_)
  refine lv_istore (lv' := [(4, .int r3), (0, .ref (ad 0)), (1, .int p0), (2, .int p1), (3, .int p2)]) hx hb dX0_count_6 hl (by decide) rfl (fun ls hl => ?_)
  refine lv_iload hx hb dX0_count_8 (lv_at hl 0 rfl) ?_
  refine lv_if_eq (tgt := 18) hx hb dX0_count_10 (by decide) (fun c10 => ?_) (fun c10 => ?_)
  · obtain ⟨a, b, ga, gb, rfl, rfl, th⟩ := refA_0 er3 c10
    refine lv_aload_n hx hb dX0_count_18 rfl (lv_at hl 1 rfl) ?_
    refine lv_iload_n hx hb dX0_count_19 rfl (lv_at hl 2 rfl) ?_
    refine lv_iconst (v := 3) hx hb dX0_count_20 (by decide) ?_
    refine lv_iload_n hx hb dX0_count_21 rfl (lv_at hl 3 rfl) ?_
    refine lv_iload_n hx hb dX0_count_22 rfl (lv_at hl 4 rfl) ?_
    refine kcallV (n := 4) (As := [.int (nI a), .int 3, .int (nI b), .int p2]) (rest := []) ⟨hx, hb, hml, hown, hts⟩ (mX_act l D G ad z (k := 3) p2 ga (by decide) gb gn hwf) (lw_V q87 q89 qs1 q15 q90) rfl (by decide +kernel) ⟨Nat.le_of_ble_eq_true rfl, Nat.le_of_ble_eq_true rfl⟩ (x_rv hK hP) hK hP hD hS hA hl.1 rfl (Nat.le_of_ble_eq_true rfl) dX0_count_23 ⟨Nat.zero_le _, Nat.zero_le _⟩ (fun r23 u H locs hw hP hD hS => ?_)
    exact kret hx hb hr hlocks hK hP hD hS rfl (actR_go ga gb (fun x => absurd x.1 (by decide)) (Or.inr th) (xAct_r hw)) dX0_count_26
  · refine lv_iload hx hb dX0_count_13 (lv_at hl 0 rfl) ?_
    refine lv_goto (tgt := 26) hx hb dX0_count_15 (by decide) ?_
    exact kret hx hb hr hlocks hK hP hD hS rfl (actR_abs (by decide) (by decide) er3 c10) dX0_count_26
set_option maxHeartbeats 4000000 in
theorem mX_link (l : Launch) (D : va_G) (G : ClassId × ClassId) (ad : Nat → Nat) (z : TS) (p0 p1 p2 : Int32) (gn : z.1 ≤ 60) (hwf : WFw z) : KI l D G (wx G ad) yX0_link (ws_ yX0_link cX0_link 5 (some .int)) 3 [.ref (ad 0), .int p0, .int p1, .int p2] z (actR p0 p1 4 p2 (xThB z) (60 ≤ z.1) z.1 z (fun a b => xAct z a 4 b p2)) := by
  refine KI.of (by decide) (Nat.le_of_ble_eq_true rfl) ?_
  intro p e s m below meth c A ls C hP hD hS hl
  obtain ⟨hx, hb, hr, hml, hown, hts, hlocks, hA, hK⟩ := id C
  have hown : s.vm.findClass RX0 = some m.cls := hown
  have hl : lv_has ls 5 [(0, .ref (ad 0)), (1, .int p0), (2, .int p1), (3, .int p2)] := hl
  refine lv_aload_n hx hb dX0_link_0 rfl (lv_at hl 0 rfl) ?_
  refine lv_iload_n hx hb dX0_link_1 rfl (lv_at hl 1 rfl) ?_
  refine lv_iload_n hx hb dX0_link_2 rfl (lv_at hl 2 rfl) ?_
  refine kcallVr (n := 2) (As := [.int p0, .int p1]) (rest := []) ⟨hx, hb, hml, hown, hts⟩ (mX_refusal l D G ad z p0 p1) (lw_V q77 q79 qs0 q15 q80) rfl (by decide +kernel) ⟨Nat.le_of_ble_eq_true rfl, Nat.le_of_ble_eq_true rfl⟩ (x_rv hK hP) hK hP hD hS hA hl.1 rfl (Nat.le_of_ble_eq_true rfl) dX0_link_3 ⟨Nat.zero_le _, Nat.zero_le _⟩ (fun r3 H locs er3 hP hS => ?_)
  refine lv_istore (lv' := [(4, .int r3), (0, .ref (ad 0)), (1, .int p0), (2, .int p1), (3, .int p2)]) hx hb dX0_link_6 hl (by decide) rfl (fun ls hl => ?_)
  refine lv_iload hx hb dX0_link_8 (lv_at hl 0 rfl) ?_
  refine lv_if_eq (tgt := 16) hx hb dX0_link_10 (by decide) (fun c10 => ?_) (fun c10 => ?_)
  · obtain ⟨⟨a, ga, rfl⟩, ⟨b, gb, rfl⟩⟩ := refR_0 er3 c10
    refine lv_iload_n hx hb dX0_link_16 rfl (lv_at hl 4 rfl) ?_
    refine lv_iconst (v := (-1)) hx hb dX0_link_17 (by decide) ?_
    refine lv_icmp_eq (tgt := 31) hx hb dX0_link_18 (by decide) (fun c18 => ?_) (fun c18 => ?_)
    · refine lv_aload_n hx hb dX0_link_31 rfl (lv_at hl 1 rfl) ?_
      refine lv_iload_n hx hb dX0_link_32 rfl (lv_at hl 2 rfl) ?_
      refine lv_iload_n hx hb dX0_link_33 rfl (lv_at hl 3 rfl) ?_
      refine kcallVr (n := 2) (As := [.int (nI a), .int (nI b)]) (rest := []) ⟨hx, hb, hml, hown, hts⟩ (mX_isThere l D G ad z ga gb) (lw_V q108 q110 qs5 q15 q111) rfl (by decide +kernel) ⟨Nat.le_of_ble_eq_true rfl, Nat.le_of_ble_eq_true rfl⟩ (x_rv hK hP) hK hP hD hS hA hl.1 rfl (Nat.le_of_ble_eq_true rfl) dX0_link_34 ⟨Nat.zero_le _, Nat.zero_le _⟩ (fun r34 H locs er34 hP hS => ?_)
      subst er34
      refine lv_if_ne (tgt := 43) hx hb dX0_link_37 (by decide) (fun c37 => ?_) (fun c37 => ?_)
      · refine lv_aload_n hx hb dX0_link_43 rfl (lv_at hl 1 rfl) ?_
        refine lv_iload_n hx hb dX0_link_44 rfl (lv_at hl 2 rfl) ?_
        refine lv_iconst (v := 4) hx hb dX0_link_45 (by decide) ?_
        refine lv_iload_n hx hb dX0_link_46 rfl (lv_at hl 3 rfl) ?_
        refine lv_iload_n hx hb dX0_link_47 rfl (lv_at hl 4 rfl) ?_
        refine kcallV (n := 4) (As := [.int (nI a), .int 4, .int (nI b), .int p2]) (rest := []) ⟨hx, hb, hml, hown, hts⟩ (mX_act l D G ad z (k := 4) p2 ga (by decide) gb gn hwf) (lw_V q87 q89 qs1 q15 q90) rfl (by decide +kernel) ⟨Nat.le_of_ble_eq_true rfl, Nat.le_of_ble_eq_true rfl⟩ (x_rv hK hP) hK hP hD hS hA hl.1 rfl (Nat.le_of_ble_eq_true rfl) dX0_link_48 ⟨Nat.zero_le _, Nat.zero_le _⟩ (fun r48 u H locs hw hP hD hS => ?_)
        exact kret hx hb hr hlocks hK hP hD hS rfl (actR_go ga gb (fun x => x.2.1 c18) (Or.inr (bI_ne c37)) (xAct_r hw)) dX0_link_51
      · refine lv_bipush (v := (-4)) hx hb dX0_link_40 (by decide) ?_
        exact kret hx hb hr hlocks hK hP hD hS rfl (actR_abs4 ga gb (by decide) (fun x => x.2.1 c18) (bI_eq c37)) dX0_link_42
    · refine lv_iload_n hx hb dX0_link_21 rfl (lv_at hl 4 rfl) ?_
      refine kcallSr (n := 1) (As := [.int p2]) (rest := []) ⟨hx, hb, hml, hown, hts⟩ (mX_badRow l D G ad z (wx G ad) p2) (lw_S q84 q85 q15 q86) rfl (by decide +kernel) ⟨Nat.le_of_ble_eq_true rfl, Nat.le_of_ble_eq_true rfl⟩ hK hP hD hS hA hl.1 rfl (Nat.le_of_ble_eq_true rfl) dX0_link_22 ⟨Nat.zero_le _, Nat.zero_le _⟩ (fun r22 H locs er22 hP hS => ?_)
      subst er22
      refine lv_if_eq (tgt := 31) hx hb dX0_link_25 (by decide) (fun c25 => ?_) (fun c25 => ?_)
      · refine lv_aload_n hx hb dX0_link_31 rfl (lv_at hl 1 rfl) ?_
        refine lv_iload_n hx hb dX0_link_32 rfl (lv_at hl 2 rfl) ?_
        refine lv_iload_n hx hb dX0_link_33 rfl (lv_at hl 3 rfl) ?_
        refine kcallVr (n := 2) (As := [.int (nI a), .int (nI b)]) (rest := []) ⟨hx, hb, hml, hown, hts⟩ (mX_isThere l D G ad z ga gb) (lw_V q108 q110 qs5 q15 q111) rfl (by decide +kernel) ⟨Nat.le_of_ble_eq_true rfl, Nat.le_of_ble_eq_true rfl⟩ (x_rv hK hP) hK hP hD hS hA hl.1 rfl (Nat.le_of_ble_eq_true rfl) dX0_link_34 ⟨Nat.zero_le _, Nat.zero_le _⟩ (fun r34 H locs er34 hP hS => ?_)
        subst er34
        refine lv_if_ne (tgt := 43) hx hb dX0_link_37 (by decide) (fun c37 => ?_) (fun c37 => ?_)
        · refine lv_aload_n hx hb dX0_link_43 rfl (lv_at hl 1 rfl) ?_
          refine lv_iload_n hx hb dX0_link_44 rfl (lv_at hl 2 rfl) ?_
          refine lv_iconst (v := 4) hx hb dX0_link_45 (by decide) ?_
          refine lv_iload_n hx hb dX0_link_46 rfl (lv_at hl 3 rfl) ?_
          refine lv_iload_n hx hb dX0_link_47 rfl (lv_at hl 4 rfl) ?_
          refine kcallV (n := 4) (As := [.int (nI a), .int 4, .int (nI b), .int p2]) (rest := []) ⟨hx, hb, hml, hown, hts⟩ (mX_act l D G ad z (k := 4) p2 ga (by decide) gb gn hwf) (lw_V q87 q89 qs1 q15 q90) rfl (by decide +kernel) ⟨Nat.le_of_ble_eq_true rfl, Nat.le_of_ble_eq_true rfl⟩ (x_rv hK hP) hK hP hD hS hA hl.1 rfl (Nat.le_of_ble_eq_true rfl) dX0_link_48 ⟨Nat.zero_le _, Nat.zero_le _⟩ (fun r48 u H locs hw hP hD hS => ?_)
          exact kret hx hb hr hlocks hK hP hD hS rfl (actR_go ga gb (fun x => x.2.2 (bI_nn c25)) (Or.inr (bI_ne c37)) (xAct_r hw)) dX0_link_51
        · refine lv_bipush (v := (-4)) hx hb dX0_link_40 (by decide) ?_
          exact kret hx hb hr hlocks hK hP hD hS rfl (actR_abs4 ga gb (by decide) (fun x => x.2.2 (bI_nn c25)) (bI_eq c37)) dX0_link_42
      · refine lv_bipush (v := (-2)) hx hb dX0_link_28 (by decide) ?_
        exact kret hx hb hr hlocks hK hP hD hS rfl (actR_bad4 ga gb ⟨c18, bI_ne c25⟩) dX0_link_30
  · refine lv_iload hx hb dX0_link_13 (lv_at hl 0 rfl) ?_
    exact kret hx hb hr hlocks hK hP hD hS rfl (actR_ref er3 c10) dX0_link_15
end
section
/-! CrdtTable: questions -/
set_option maxRecDepth 100000
set_option maxHeartbeats 4000000 in
theorem mX_there (l : Launch) (D : va_G) (G : ClassId × ClassId) (ad : Nat → Nat) (z : TS) (p0 p1 : Int32) : KI l D G (wx G ad) yX0_there (ws_ yX0_there cX0_there 3 (some .boolean)) 1 [.ref (ad 0), .int p0, .int p1] z (RO z (vf 3 8 p0 p1 (xTh z) 0)) := by
  refine KI.of (by decide) (Nat.le_of_ble_eq_true rfl) ?_
  intro p e s m below meth c A ls C hP hD hS hl
  obtain ⟨hx, hb, hr, hml, hown, hts, hlocks, hA, hK⟩ := id C
  have hown : s.vm.findClass RX0 = some m.cls := hown
  have hl : lv_has ls 3 [(0, .ref (ad 0)), (1, .int p0), (2, .int p1)] := hl
  refine lv_iload_n hx hb dX0_there_0 rfl (lv_at hl 1 rfl) ?_
  refine kcallSr (n := 1) (As := [.int p0]) (rest := []) ⟨hx, hb, hml, hown, hts⟩ (mX_badReplica l D G ad z (wx G ad) p0) (lw_S q81 q82 q15 q83) rfl (by decide +kernel) ⟨Nat.le_of_ble_eq_true rfl, Nat.le_of_ble_eq_true rfl⟩ hK hP hD hS hA hl.1 rfl (Nat.le_of_ble_eq_true rfl) dX0_there_1 ⟨Nat.zero_le _, Nat.zero_le _⟩ (fun r1 H locs er1 hP hS => ?_)
  subst er1
  refine lv_if_ne (tgt := 14) hx hb dX0_there_4 (by decide) (fun c4 => ?_) (fun c4 => ?_)
  · refine lv_iconst (v := 0) hx hb dX0_there_14 (by decide) ?_
    exact kret hx hb hr hlocks hK hP hD hS rfl ⟨rfl, vf_no (fun v => bI_ne c4 v.1) rfl⟩ dX0_there_15
  · refine lv_iload_n hx hb dX0_there_7 rfl (lv_at hl 2 rfl) ?_
    refine kcallSr (n := 1) (As := [.int p1]) (rest := []) ⟨hx, hb, hml, hown, hts⟩ (mX_badRow l D G ad z (wx G ad) p1) (lw_S q84 q85 q15 q86) rfl (by decide +kernel) ⟨Nat.le_of_ble_eq_true rfl, Nat.le_of_ble_eq_true rfl⟩ hK hP hD hS hA hl.1 rfl (Nat.le_of_ble_eq_true rfl) dX0_there_8 ⟨Nat.zero_le _, Nat.zero_le _⟩ (fun r8 H locs er8 hP hS => ?_)
    subst er8
    refine lv_if_eq (tgt := 16) hx hb dX0_there_11 (by decide) (fun c11 => ?_) (fun c11 => ?_)
    · obtain ⟨a, ga, rfl⟩ := bI_nn c4
      obtain ⟨b, gb, rfl⟩ := bI_nn c11
      refine lv_aload_n hx hb dX0_there_16 rfl (lv_at hl 0 rfl) ?_
      refine lv_iload_n hx hb dX0_there_17 rfl (lv_at hl 1 rfl) ?_
      refine lv_iload_n hx hb dX0_there_18 rfl (lv_at hl 2 rfl) ?_
      refine kcallVr (n := 2) (As := [.int (nI a), .int (nI b)]) (rest := []) ⟨hx, hb, hml, hown, hts⟩ (mX_isThere l D G ad z ga gb) (lw_V q108 q110 qs5 q15 q111) rfl (by decide +kernel) ⟨Nat.le_of_ble_eq_true rfl, Nat.le_of_ble_eq_true rfl⟩ (x_rv hK hP) hK hP hD hS hA hl.1 rfl (Nat.le_of_ble_eq_true rfl) dX0_there_19 ⟨Nat.zero_le _, Nat.zero_le _⟩ (fun r19 H locs er19 hP hS => ?_)
      subst er19
      exact kret hx hb hr hlocks hK hP hD hS (nar_b (xThB z a b)) ⟨rfl, vf_ok (by decide) (by decide) ga gb rfl⟩ dX0_there_22
    · refine lv_iconst (v := 0) hx hb dX0_there_14 (by decide) ?_
      exact kret hx hb hr hlocks hK hP hD hS rfl ⟨rfl, vf_no (fun v => bI_ne c11 v.2) rfl⟩ dX0_there_15
set_option maxHeartbeats 4000000 in
theorem mX_hidden (l : Launch) (D : va_G) (G : ClassId × ClassId) (ad : Nat → Nat) (z : TS) (p0 p1 : Int32) : KI l D G (wx G ad) yX0_hidden (ws_ yX0_hidden cX0_hidden 3 (some .boolean)) 1 [.ref (ad 0), .int p0, .int p1] z (RO z (vf 3 8 p0 p1 (fun a b => bI (¬ xThB z a b)) 1)) := by
  refine KI.of (by decide) (Nat.le_of_ble_eq_true rfl) ?_
  intro p e s m below meth c A ls C hP hD hS hl
  obtain ⟨hx, hb, hr, hml, hown, hts, hlocks, hA, hK⟩ := id C
  have hown : s.vm.findClass RX0 = some m.cls := hown
  have hl : lv_has ls 3 [(0, .ref (ad 0)), (1, .int p0), (2, .int p1)] := hl
  refine lv_iload_n hx hb dX0_hidden_0 rfl (lv_at hl 1 rfl) ?_
  refine kcallSr (n := 1) (As := [.int p0]) (rest := []) ⟨hx, hb, hml, hown, hts⟩ (mX_badReplica l D G ad z (wx G ad) p0) (lw_S q81 q82 q15 q83) rfl (by decide +kernel) ⟨Nat.le_of_ble_eq_true rfl, Nat.le_of_ble_eq_true rfl⟩ hK hP hD hS hA hl.1 rfl (Nat.le_of_ble_eq_true rfl) dX0_hidden_1 ⟨Nat.zero_le _, Nat.zero_le _⟩ (fun r1 H locs er1 hP hS => ?_)
  subst er1
  refine lv_if_ne (tgt := 23) hx hb dX0_hidden_4 (by decide) (fun c4 => ?_) (fun c4 => ?_)
  · refine lv_iconst (v := 1) hx hb dX0_hidden_23 (by decide) ?_
    refine lv_goto (tgt := 28) hx hb dX0_hidden_24 (by decide) ?_
    exact kret hx hb hr hlocks hK hP hD hS rfl ⟨rfl, vf_no (fun v => bI_ne c4 v.1) rfl⟩ dX0_hidden_28
  · refine lv_iload_n hx hb dX0_hidden_7 rfl (lv_at hl 2 rfl) ?_
    refine kcallSr (n := 1) (As := [.int p1]) (rest := []) ⟨hx, hb, hml, hown, hts⟩ (mX_badRow l D G ad z (wx G ad) p1) (lw_S q84 q85 q15 q86) rfl (by decide +kernel) ⟨Nat.le_of_ble_eq_true rfl, Nat.le_of_ble_eq_true rfl⟩ hK hP hD hS hA hl.1 rfl (Nat.le_of_ble_eq_true rfl) dX0_hidden_8 ⟨Nat.zero_le _, Nat.zero_le _⟩ (fun r8 H locs er8 hP hS => ?_)
    subst er8
    refine lv_if_ne (tgt := 23) hx hb dX0_hidden_11 (by decide) (fun c11 => ?_) (fun c11 => ?_)
    · refine lv_iconst (v := 1) hx hb dX0_hidden_23 (by decide) ?_
      refine lv_goto (tgt := 28) hx hb dX0_hidden_24 (by decide) ?_
      exact kret hx hb hr hlocks hK hP hD hS rfl ⟨rfl, vf_no (fun v => bI_ne c11 v.2) rfl⟩ dX0_hidden_28
    · obtain ⟨a, ga, rfl⟩ := bI_nn c4
      obtain ⟨b, gb, rfl⟩ := bI_nn c11
      refine lv_aload_n hx hb dX0_hidden_14 rfl (lv_at hl 0 rfl) ?_
      refine lv_iload_n hx hb dX0_hidden_15 rfl (lv_at hl 1 rfl) ?_
      refine lv_iload_n hx hb dX0_hidden_16 rfl (lv_at hl 2 rfl) ?_
      refine kcallVr (n := 2) (As := [.int (nI a), .int (nI b)]) (rest := []) ⟨hx, hb, hml, hown, hts⟩ (mX_isThere l D G ad z ga gb) (lw_V q108 q110 qs5 q15 q111) rfl (by decide +kernel) ⟨Nat.le_of_ble_eq_true rfl, Nat.le_of_ble_eq_true rfl⟩ (x_rv hK hP) hK hP hD hS hA hl.1 rfl (Nat.le_of_ble_eq_true rfl) dX0_hidden_17 ⟨Nat.zero_le _, Nat.zero_le _⟩ (fun r17 H locs er17 hP hS => ?_)
      subst er17
      refine lv_if_ne (tgt := 27) hx hb dX0_hidden_20 (by decide) (fun c20 => ?_) (fun c20 => ?_)
      · refine lv_iconst (v := 0) hx hb dX0_hidden_27 (by decide) ?_
        exact kret hx hb hr hlocks hK hP hD hS rfl ⟨rfl, vf_ok (by decide) (by decide) ga gb (bI_f (fun n => n (bI_ne c20))).symm⟩ dX0_hidden_28
      · refine lv_iconst (v := 1) hx hb dX0_hidden_23 (by decide) ?_
        refine lv_goto (tgt := 28) hx hb dX0_hidden_24 (by decide) ?_
        exact kret hx hb hr hlocks hK hP hD hS rfl ⟨rfl, vf_ok (by decide) (by decide) ga gb (bI_t (bI_eq c20)).symm⟩ dX0_hidden_28
set_option maxHeartbeats 4000000 in
theorem mX_nameOf (l : Launch) (D : va_G) (G : ClassId × ClassId) (ad : Nat → Nat) (z : TS) (p0 p1 : Int32) (hwf : WFw z) : KI l D G (wx G ad) yX0_nameOf (ws_ yX0_nameOf cX0_nameOf 4 (some .int)) 2 [.ref (ad 0), .int p0, .int p1] z (RO z (vf 3 8 p0 p1 (xName z) 0)) := by
  refine KI.of (by decide) (Nat.le_of_ble_eq_true rfl) ?_
  intro p e s m below meth c A ls C hP hD hS hl
  obtain ⟨hx, hb, hr, hml, hown, hts, hlocks, hA, hK⟩ := id C
  have hown : s.vm.findClass RX0 = some m.cls := hown
  have hl : lv_has ls 4 [(0, .ref (ad 0)), (1, .int p0), (2, .int p1)] := hl
  refine lv_aload_n hx hb dX0_nameOf_0 rfl (lv_at hl 0 rfl) ?_
  refine lv_iload_n hx hb dX0_nameOf_1 rfl (lv_at hl 1 rfl) ?_
  refine lv_iload_n hx hb dX0_nameOf_2 rfl (lv_at hl 2 rfl) ?_
  refine kcallVr (n := 2) (As := [.int p0, .int p1]) (rest := []) ⟨hx, hb, hml, hown, hts⟩ (mX_hidden l D G ad z p0 p1) (lw_V q141 q143 qs6 q15 q144) rfl (by decide +kernel) ⟨Nat.le_of_ble_eq_true rfl, Nat.le_of_ble_eq_true rfl⟩ (x_rv hK hP) hK hP hD hS hA hl.1 rfl (Nat.le_of_ble_eq_true rfl) dX0_nameOf_3 ⟨Nat.zero_le _, Nat.zero_le _⟩ (fun r3 H locs er3 hP hS => ?_)
  refine lv_if_eq (tgt := 11) hx hb dX0_nameOf_6 (by decide) (fun c6 => ?_) (fun c6 => ?_)
  · obtain ⟨a, b, ga, gb, rfl, rfl, th⟩ := hid_yes er3 c6
    refine lv_aload_n hx hb dX0_nameOf_11 rfl (lv_at hl 0 rfl) ?_
    refine x_get 12 hx hb hts hown hK hP (by decide) rfl q37 rfl dX0_nameOf_12 ?_
    refine lv_iload_n hx hb dX0_nameOf_15 rfl (lv_at hl 1 rfl) ?_
    refine lv_bipush (v := 8) hx hb dX0_nameOf_16 (by decide) ?_
    refine lv_imul hx hb dX0_nameOf_18 ?_
    refine lv_iload_n hx hb dX0_nameOf_19 rfl (lv_at hl 2 rfl) ?_
    refine lv_iadd hx hb dX0_nameOf_20 ?_
    refine w_ti (ix8 _ _) ?_
    refine na_iald 12 hx hb hK hP rfl (by decide) (by omega) dX0_nameOf_21 ?_
    refine lv_istore_n (lv' := [(3, .int (z.2.1 12 (a * 8 + b))), (0, .ref (ad 0)), (1, .int (nI a)), (2, .int (nI b))]) hx hb dX0_nameOf_22 rfl hl (by decide) rfl (fun ls hl => ?_)
    refine lv_iload_n hx hb dX0_nameOf_23 rfl (lv_at hl 0 rfl) ?_
    refine lv_if_ge (tgt := 31) hx hb dX0_nameOf_24 (by decide) (fun c24 => ?_) (fun c24 => ?_)
    · obtain ⟨j, gj, ej⟩ := (hwf.2.1 (a * 8 + b) (by omega)).resolve_left (i_nlt c24)
      rw [ej] at hl
      refine lv_aload_n hx hb dX0_nameOf_31 rfl (lv_at hl 1 rfl) ?_
      refine x_get 3 hx hb hts hown hK hP (by decide) rfl q28 rfl dX0_nameOf_32 ?_
      refine lv_iload_n hx hb dX0_nameOf_35 rfl (lv_at hl 0 rfl) ?_
      refine na_iald 3 hx hb hK hP rfl (by decide) (by omega) dX0_nameOf_36 ?_
      exact kret hx hb hr hlocks hK hP hD hS rfl ⟨rfl, vf_ok (by decide) (by decide) ga gb (by unfold xName; rw [cT_t th, cT_f (i_nlt c24), ej, nI_clamp (by omega)])⟩ dX0_nameOf_37
    · refine lv_iconst (v := 0) hx hb dX0_nameOf_27 (by decide) ?_
      refine lv_goto (tgt := 37) hx hb dX0_nameOf_28 (by decide) ?_
      exact kret hx hb hr hlocks hK hP hD hS rfl ⟨rfl, vf_ok (by decide) (by decide) ga gb (by unfold xName; rw [cT_t th, cT_t (i_lt c24)])⟩ dX0_nameOf_37
  · refine lv_iconst (v := 0) hx hb dX0_nameOf_9 (by decide) ?_
    exact kret hx hb hr hlocks hK hP hD hS rfl ⟨rfl, hid_no er3 c6 (fun a b h => cT_f h _ _)⟩ dX0_nameOf_10
set_option maxHeartbeats 4000000 in
theorem mX_countOf (l : Launch) (D : va_G) (G : ClassId × ClassId) (ad : Nat → Nat) (z : TS) (p0 p1 : Int32) : KI l D G (wx G ad) yX0_countOf (ws_ yX0_countOf cX0_countOf 3 (some .int)) 2 [.ref (ad 0), .int p0, .int p1] z (RO z (vf 3 8 p0 p1 (xCount z) 0)) := by
  refine KI.of (by decide) (Nat.le_of_ble_eq_true rfl) ?_
  intro p e s m below meth c A ls C hP hD hS hl
  obtain ⟨hx, hb, hr, hml, hown, hts, hlocks, hA, hK⟩ := id C
  have hown : s.vm.findClass RX0 = some m.cls := hown
  have hl : lv_has ls 3 [(0, .ref (ad 0)), (1, .int p0), (2, .int p1)] := hl
  refine lv_aload_n hx hb dX0_countOf_0 rfl (lv_at hl 0 rfl) ?_
  refine lv_iload_n hx hb dX0_countOf_1 rfl (lv_at hl 1 rfl) ?_
  refine lv_iload_n hx hb dX0_countOf_2 rfl (lv_at hl 2 rfl) ?_
  refine kcallVr (n := 2) (As := [.int p0, .int p1]) (rest := []) ⟨hx, hb, hml, hown, hts⟩ (mX_hidden l D G ad z p0 p1) (lw_V q141 q143 qs6 q15 q144) rfl (by decide +kernel) ⟨Nat.le_of_ble_eq_true rfl, Nat.le_of_ble_eq_true rfl⟩ (x_rv hK hP) hK hP hD hS hA hl.1 rfl (Nat.le_of_ble_eq_true rfl) dX0_countOf_3 ⟨Nat.zero_le _, Nat.zero_le _⟩ (fun r3 H locs er3 hP hS => ?_)
  refine lv_if_eq (tgt := 13) hx hb dX0_countOf_6 (by decide) (fun c6 => ?_) (fun c6 => ?_)
  · obtain ⟨a, b, ga, gb, rfl, rfl, th⟩ := hid_yes er3 c6
    refine lv_aload_n hx hb dX0_countOf_13 rfl (lv_at hl 0 rfl) ?_
    refine x_get 14 hx hb hts hown hK hP (by decide) rfl q39 rfl dX0_countOf_14 ?_
    refine lv_iload_n hx hb dX0_countOf_17 rfl (lv_at hl 1 rfl) ?_
    refine lv_bipush (v := 8) hx hb dX0_countOf_18 (by decide) ?_
    refine lv_imul hx hb dX0_countOf_20 ?_
    refine lv_iload_n hx hb dX0_countOf_21 rfl (lv_at hl 2 rfl) ?_
    refine lv_iadd hx hb dX0_countOf_22 ?_
    refine w_ti (ix8 _ _) ?_
    refine na_iald 14 hx hb hK hP rfl (by decide) (by omega) dX0_countOf_23 ?_
    exact kret hx hb hr hlocks hK hP hD hS rfl ⟨rfl, vf_ok (by decide) (by decide) ga gb (cT_t th _ _).symm⟩ dX0_countOf_24
  · refine lv_iconst (v := 0) hx hb dX0_countOf_9 (by decide) ?_
    refine lv_goto (tgt := 24) hx hb dX0_countOf_10 (by decide) ?_
    exact kret hx hb hr hlocks hK hP hD hS rfl ⟨rfl, hid_no er3 c6 (fun a b h => cT_f h _ _)⟩ dX0_countOf_24
set_option maxHeartbeats 4000000 in
theorem mX_linkOf (l : Launch) (D : va_G) (G : ClassId × ClassId) (ad : Nat → Nat) (z : TS) (p0 p1 : Int32) (hwf : WFw z) (hwl : WFl z) : KI l D G (wx G ad) yX0_linkOf (ws_ yX0_linkOf cX0_linkOf 4 (some .int)) 2 [.ref (ad 0), .int p0, .int p1] z (RO z (vf 3 8 p0 p1 (xLink z) (-1))) := by
  refine KI.of (by decide) (Nat.le_of_ble_eq_true rfl) ?_
  intro p e s m below meth c A ls C hP hD hS hl
  obtain ⟨hx, hb, hr, hml, hown, hts, hlocks, hA, hK⟩ := id C
  have hown : s.vm.findClass RX0 = some m.cls := hown
  have hl : lv_has ls 4 [(0, .ref (ad 0)), (1, .int p0), (2, .int p1)] := hl
  refine lv_aload_n hx hb dX0_linkOf_0 rfl (lv_at hl 0 rfl) ?_
  refine lv_iload_n hx hb dX0_linkOf_1 rfl (lv_at hl 1 rfl) ?_
  refine lv_iload_n hx hb dX0_linkOf_2 rfl (lv_at hl 2 rfl) ?_
  refine kcallVr (n := 2) (As := [.int p0, .int p1]) (rest := []) ⟨hx, hb, hml, hown, hts⟩ (mX_hidden l D G ad z p0 p1) (lw_V q141 q143 qs6 q15 q144) rfl (by decide +kernel) ⟨Nat.le_of_ble_eq_true rfl, Nat.le_of_ble_eq_true rfl⟩ (x_rv hK hP) hK hP hD hS hA hl.1 rfl (Nat.le_of_ble_eq_true rfl) dX0_linkOf_3 ⟨Nat.zero_le _, Nat.zero_le _⟩ (fun r3 H locs er3 hP hS => ?_)
  refine lv_if_eq (tgt := 11) hx hb dX0_linkOf_6 (by decide) (fun c6 => ?_) (fun c6 => ?_)
  · obtain ⟨a, b, ga, gb, rfl, rfl, th⟩ := hid_yes er3 c6
    refine lv_aload_n hx hb dX0_linkOf_11 rfl (lv_at hl 0 rfl) ?_
    refine x_get 13 hx hb hts hown hK hP (by decide) rfl q38 rfl dX0_linkOf_12 ?_
    refine lv_iload_n hx hb dX0_linkOf_15 rfl (lv_at hl 1 rfl) ?_
    refine lv_bipush (v := 8) hx hb dX0_linkOf_16 (by decide) ?_
    refine lv_imul hx hb dX0_linkOf_18 ?_
    refine lv_iload_n hx hb dX0_linkOf_19 rfl (lv_at hl 2 rfl) ?_
    refine lv_iadd hx hb dX0_linkOf_20 ?_
    refine w_ti (ix8 _ _) ?_
    refine na_iald 13 hx hb hK hP rfl (by decide) (by omega) dX0_linkOf_21 ?_
    refine lv_istore_n (lv' := [(3, .int (z.2.1 13 (a * 8 + b))), (0, .ref (ad 0)), (1, .int (nI a)), (2, .int (nI b))]) hx hb dX0_linkOf_22 rfl hl (by decide) rfl (fun ls hl => ?_)
    refine lv_iload_n hx hb dX0_linkOf_23 rfl (lv_at hl 0 rfl) ?_
    refine lv_if_lt (tgt := 36) hx hb dX0_linkOf_24 (by decide) (fun c24 => ?_) (fun c24 => ?_)
    · refine lv_iconst (v := (-1)) hx hb dX0_linkOf_36 (by decide) ?_
      exact kret hx hb hr hlocks hK hP hD hS rfl ⟨rfl, vf_ok (by decide) (by decide) ga gb (by unfold xLink; rw [cT_t th, cT_t (Or.inl c24)])⟩ dX0_linkOf_37
    · obtain ⟨j, gj, ej⟩ := (hwf.2.2 (a * 8 + b) (by omega)).resolve_left c24
      rw [ej] at hl
      have ec : (z.2.1 13 (a * 8 + b)).toNatClampNeg = j := by rw [ej]; exact nI_clamp (by omega)
      refine lv_aload_n hx hb dX0_linkOf_27 rfl (lv_at hl 1 rfl) ?_
      refine x_get 3 hx hb hts hown hK hP (by decide) rfl q28 rfl dX0_linkOf_28 ?_
      refine lv_iload_n hx hb dX0_linkOf_31 rfl (lv_at hl 0 rfl) ?_
      refine na_iald 3 hx hb hK hP rfl (by decide) (by omega) dX0_linkOf_32 ?_
      refine lv_if_ge (tgt := 38) hx hb dX0_linkOf_33 (by decide) (fun c33 => ?_) (fun c33 => ?_)
      · obtain ⟨t, gt, et⟩ := (hwl (a * 8 + b) j (by omega) gj ej).resolve_left (i_nlt c33)
        refine lv_aload_n hx hb dX0_linkOf_38 rfl (lv_at hl 1 rfl) ?_
        refine lv_iload_n hx hb dX0_linkOf_39 rfl (lv_at hl 2 rfl) ?_
        refine lv_aload_n hx hb dX0_linkOf_40 rfl (lv_at hl 1 rfl) ?_
        refine x_get 3 hx hb hts hown hK hP (by decide) rfl q28 rfl dX0_linkOf_41 ?_
        refine lv_iload_n hx hb dX0_linkOf_44 rfl (lv_at hl 0 rfl) ?_
        refine na_iald 3 hx hb hK hP rfl (by decide) (by omega) dX0_linkOf_45 ?_
        refine w_ti (y := nI t) et ?_
        refine kcallVr (n := 2) (As := [.int (nI a), .int (nI t)]) (rest := []) ⟨hx, hb, hml, hown, hts⟩ (mX_isThere l D G ad z ga gt) (lw_V q108 q110 qs5 q15 q111) rfl (by decide +kernel) ⟨Nat.le_of_ble_eq_true rfl, Nat.le_of_ble_eq_true rfl⟩ (x_rv hK hP) hK hP hD hS hA hl.1 rfl (Nat.le_of_ble_eq_true rfl) dX0_linkOf_46 ⟨Nat.zero_le _, Nat.zero_le _⟩ (fun r46 H locs er46 hP hS => ?_)
        subst er46
        refine lv_if_eq (tgt := 61) hx hb dX0_linkOf_49 (by decide) (fun c49 => ?_) (fun c49 => ?_)
        · refine lv_iconst (v := (-1)) hx hb dX0_linkOf_61 (by decide) ?_
          exact kret hx hb hr hlocks hK hP hD hS rfl ⟨rfl, vf_ok (by decide) (by decide) ga gb (by unfold xLink; rw [cT_t th, ec, cT_f (fun x => x.elim c24 (i_nlt c33)), et, nI_clamp (by omega), cT_f (bI_eq c49)])⟩ dX0_linkOf_62
        · refine lv_aload_n hx hb dX0_linkOf_52 rfl (lv_at hl 1 rfl) ?_
          refine x_get 3 hx hb hts hown hK hP (by decide) rfl q28 rfl dX0_linkOf_53 ?_
          refine lv_iload_n hx hb dX0_linkOf_56 rfl (lv_at hl 0 rfl) ?_
          refine na_iald 3 hx hb hK hP rfl (by decide) (by omega) dX0_linkOf_57 ?_
          refine w_ti (y := nI t) et ?_
          refine lv_goto (tgt := 62) hx hb dX0_linkOf_58 (by decide) ?_
          exact kret hx hb hr hlocks hK hP hD hS rfl ⟨rfl, vf_ok (by decide) (by decide) ga gb (by unfold xLink; rw [cT_t th, ec, cT_f (fun x => x.elim c24 (i_nlt c33)), et, nI_clamp (by omega), cT_t (bI_ne c49)])⟩ dX0_linkOf_62
      · refine lv_iconst (v := (-1)) hx hb dX0_linkOf_36 (by decide) ?_
        exact kret hx hb hr hlocks hK hP hD hS rfl ⟨rfl, vf_ok (by decide) (by decide) ga gb (by unfold xLink; rw [cT_t th, ec, cT_t (Or.inr (i_lt c33))])⟩ dX0_linkOf_37
  · refine lv_iconst (v := (-1)) hx hb dX0_linkOf_9 (by decide) ?_
    exact kret hx hb hr hlocks hK hP hD hS rfl ⟨rfl, hid_no er3 c6 (fun a b h => cT_f h _ _)⟩ dX0_linkOf_10
end
section
/-! CrdtTable: loops, sameRow, agree, learnSome, learn -/
set_option maxRecDepth 100000
set_option maxHeartbeats 4000000 in
theorem lX_rows {p : Program} {l : Launch} {e : Env} {s : State} {m : MethodId} {args : Array Value} {below : List Frame} {meth : Method} {c : Code} {A : Nat → Prop} {D : va_G} {G : ClassId × ClassId} {ad : Nat → Nat} {post : Int32 → TS → Prop} (C : Cx p s m args meth c RX0 cX0_rows 5 (some .int) A D G) (z : TS) {a : Nat} (ga : a < 3) (hpost : post (xRows z a 8) z) (hD : va_D A ((wx G ad) z)) : ∀ (k i : Nat), i + k = 8 → ∀ (H : Heap) (locs : List Loc) (ls : Array Slot), va_P D vwCl ((wx G ad) z) H → va_S A s.heap H locs → lv_has ls 5 [(0, .ref (ad 0)), (1, .int (nI a)), (2, .int (xRows z a i)), (3, .int (nI i))] → W p l e (rmD 1) s m args below meth c H locs 0 0 (QI D G (wx G ad) below args s post A) (F0 m 13 ls []) := by
  obtain ⟨hx, hb, hr, hml, hown, hts, hlocks, hA, hK⟩ := id C
  intro k
  induction k with
  | zero =>
    intro i hi H locs ls hP hS hl
    obtain rfl : i = 8 := by omega
    refine lv_iload_n hx hb dX0_rows_13 rfl (lv_at hl 3 rfl) ?_
    refine lv_bipush (v := 8) hx hb dX0_rows_14 (by decide) ?_
    refine lv_icmp_ge (tgt := 41) hx hb dX0_rows_16 (by decide) (fun c16 => ?_) (fun c16 => absurd (by decide : (8 : Int32) ≤ nI 8) c16)
    refine lv_iload_n hx hb dX0_rows_41 rfl (lv_at hl 2 rfl) ?_
    exact kret hx hb hr hlocks hK hP hD hS rfl hpost dX0_rows_42
  | succ k ih =>
    intro i hi H locs ls hP hS hl
    have gi : i < 8 := by omega
    refine lv_iload_n hx hb dX0_rows_13 rfl (lv_at hl 3 rfl) ?_
    refine lv_bipush (v := 8) hx hb dX0_rows_14 (by decide) ?_
    refine lv_icmp_ge (tgt := 41) hx hb dX0_rows_16 (by decide) (fun c16 => absurd c16 (nI_8le gi)) (fun c16 => ?_)
    refine lv_aload_n hx hb dX0_rows_19 rfl (lv_at hl 0 rfl) ?_
    refine lv_iload_n hx hb dX0_rows_20 rfl (lv_at hl 1 rfl) ?_
    refine lv_iload_n hx hb dX0_rows_21 rfl (lv_at hl 3 rfl) ?_
    refine kcallVr (n := 2) (As := [.int (nI a), .int (nI i)]) (rest := []) ⟨hx, hb, hml, hown, hts⟩ (mX_isThere l D G ad z ga gi) (lw_V q108 q110 qs5 q15 q111) rfl (by decide +kernel) ⟨Nat.le_of_ble_eq_true rfl, Nat.le_of_ble_eq_true rfl⟩ (x_rv hK hP) hK hP hD hS hA hl.1 rfl (Nat.le_of_ble_eq_true rfl) dX0_rows_22 ⟨Nat.zero_le _, Nat.zero_le _⟩ (fun r22 H locs er22 hP hS => ?_)
    subst er22
    refine lv_istore (lv' := [(4, .int (xTh z a i)), (0, .ref (ad 0)), (1, .int (nI a)), (2, .int (xRows z a i)), (3, .int (nI i))]) hx hb dX0_rows_25 hl (by decide) rfl (fun ls hl => ?_)
    refine lv_iload hx hb dX0_rows_27 (lv_at hl 0 rfl) ?_
    refine lv_if_eq (tgt := 35) hx hb dX0_rows_29 (by decide) (fun c29 => ?_) (fun c29 => ?_)
    · rw [show xRows z a i = xRows z a (i + 1) from by show _ = xRows z a i + xTh z a i; rw [c29]; exact (Int32.add_zero _).symm] at hl
      refine lv_iinc (v := nI (i + 1)) (lv' := [(3, .int (nI (i + 1))), (4, .int (xTh z a i)), (0, .ref (ad 0)), (1, .int (nI a)), (2, .int (xRows z a (i + 1)))]) hx hb dX0_rows_35 hl (k := 4) rfl (nI_1 _) (by decide) rfl (fun ls hl => ?_)
      refine lv_goto (tgt := 13) hx hb dX0_rows_38 (by decide) ?_
      exact ih (i + 1) (by omega) _ _ _ hP hS (lv_sub hl [2, 3, 4, 0] rfl)
    · refine lv_iinc (v := xRows z a (i + 1)) (lv' := [(2, .int (xRows z a (i + 1))), (4, .int (xTh z a i)), (0, .ref (ad 0)), (1, .int (nI a)), (3, .int (nI i))]) hx hb dX0_rows_32 hl (k := 3) rfl (by show _ = xRows z a i + xTh z a i; rw [show xTh z a i = 1 from bI_t (bI_ne c29)]; rfl) (by decide) rfl (fun ls hl => ?_)
      refine lv_iinc (v := nI (i + 1)) (lv' := [(3, .int (nI (i + 1))), (2, .int (xRows z a (i + 1))), (4, .int (xTh z a i)), (0, .ref (ad 0)), (1, .int (nI a))]) hx hb dX0_rows_35 hl (k := 4) rfl (nI_1 _) (by decide) rfl (fun ls hl => ?_)
      refine lv_goto (tgt := 13) hx hb dX0_rows_38 (by decide) ?_
      exact ih (i + 1) (by omega) _ _ _ hP hS (lv_sub hl [3, 4, 1, 0] rfl)
set_option maxHeartbeats 4000000 in
theorem mX_rows (l : Launch) (D : va_G) (G : ClassId × ClassId) (ad : Nat → Nat) (z : TS) (p0 : Int32) : KI l D G (wx G ad) yX0_rows (ws_ yX0_rows cX0_rows 5 (some .int)) 1 [.ref (ad 0), .int p0] z (RO z (vg 3 p0 (fun a => xRows z a 8) (-1))) := by
  refine KI.of (by decide) (Nat.le_of_ble_eq_true rfl) ?_
  intro p e s m below meth c A ls C hP hD hS hl
  obtain ⟨hx, hb, hr, hml, hown, hts, hlocks, hA, hK⟩ := id C
  have hown : s.vm.findClass RX0 = some m.cls := hown
  have hl : lv_has ls 5 [(0, .ref (ad 0)), (1, .int p0)] := hl
  refine lv_iload_n hx hb dX0_rows_0 rfl (lv_at hl 1 rfl) ?_
  refine kcallSr (n := 1) (As := [.int p0]) (rest := []) ⟨hx, hb, hml, hown, hts⟩ (mX_badReplica l D G ad z (wx G ad) p0) (lw_S q81 q82 q15 q83) rfl (by decide +kernel) ⟨Nat.le_of_ble_eq_true rfl, Nat.le_of_ble_eq_true rfl⟩ hK hP hD hS hA hl.1 rfl (Nat.le_of_ble_eq_true rfl) dX0_rows_1 ⟨Nat.zero_le _, Nat.zero_le _⟩ (fun r1 H locs er1 hP hS => ?_)
  subst er1
  refine lv_if_eq (tgt := 9) hx hb dX0_rows_4 (by decide) (fun c4 => ?_) (fun c4 => ?_)
  · obtain ⟨a, ga, rfl⟩ := bI_nn c4
    refine lv_iconst (v := 0) hx hb dX0_rows_9 (by decide) ?_
    refine lv_istore_n (lv' := [(2, .int 0), (0, .ref (ad 0)), (1, .int (nI a))]) hx hb dX0_rows_10 rfl hl (by decide) rfl (fun ls hl => ?_)
    refine lv_iconst (v := 0) hx hb dX0_rows_11 (by decide) ?_
    refine lv_istore_n (lv' := [(3, .int 0), (2, .int 0), (0, .ref (ad 0)), (1, .int (nI a))]) hx hb dX0_rows_12 rfl hl (by decide) rfl (fun ls hl => ?_)
    exact lX_rows C z ga ⟨rfl, vg_ok (by decide) ga rfl⟩ hD 8 0 rfl _ _ _ hP hS (lv_sub hl [2, 3, 1, 0] rfl)
  · refine lv_iconst (v := (-1)) hx hb dX0_rows_7 (by decide) ?_
    exact kret hx hb hr hlocks hK hP hD hS rfl ⟨rfl, vg_no (bI_ne c4) rfl⟩ dX0_rows_8
set_option maxHeartbeats 4000000 in
theorem lX_sum {p : Program} {l : Launch} {e : Env} {s : State} {m : MethodId} {args : Array Value} {below : List Frame} {meth : Method} {c : Code} {A : Nat → Prop} {D : va_G} {G : ClassId × ClassId} {ad : Nat → Nat} {post : Int32 → TS → Prop} (C : Cx p s m args meth c RX0 cX0_sum 4 (some .int) A D G) (z : TS) {a : Nat} (ga : a < 3) (hpost : post (xSum z a 8) z) (hD : va_D A ((wx G ad) z)) : ∀ (k i : Nat), i + k = 8 → ∀ (H : Heap) (locs : List Loc) (ls : Array Slot), va_P D vwCl ((wx G ad) z) H → va_S A s.heap H locs → lv_has ls 4 [(0, .ref (ad 0)), (1, .int (nI a)), (2, .int (xSum z a i)), (3, .int (nI i))] → W p l e (rmD 3) s m args below meth c H locs 0 0 (QI D G (wx G ad) below args s post A) (F0 m 13 ls []) := by
  obtain ⟨hx, hb, hr, hml, hown, hts, hlocks, hA, hK⟩ := id C
  intro k
  induction k with
  | zero =>
    intro i hi H locs ls hP hS hl
    obtain rfl : i = 8 := by omega
    refine lv_iload_n hx hb dX0_sum_13 rfl (lv_at hl 3 rfl) ?_
    refine lv_bipush (v := 8) hx hb dX0_sum_14 (by decide) ?_
    refine lv_icmp_ge (tgt := 34) hx hb dX0_sum_16 (by decide) (fun c16 => ?_) (fun c16 => absurd (by decide : (8 : Int32) ≤ nI 8) c16)
    refine lv_iload_n hx hb dX0_sum_34 rfl (lv_at hl 2 rfl) ?_
    exact kret hx hb hr hlocks hK hP hD hS rfl hpost dX0_sum_35
  | succ k ih =>
    intro i hi H locs ls hP hS hl
    have gi : i < 8 := by omega
    refine lv_iload_n hx hb dX0_sum_13 rfl (lv_at hl 3 rfl) ?_
    refine lv_bipush (v := 8) hx hb dX0_sum_14 (by decide) ?_
    refine lv_icmp_ge (tgt := 34) hx hb dX0_sum_16 (by decide) (fun c16 => absurd c16 (nI_8le gi)) (fun c16 => ?_)
    refine lv_iload_n hx hb dX0_sum_19 rfl (lv_at hl 2 rfl) ?_
    refine lv_aload_n hx hb dX0_sum_20 rfl (lv_at hl 0 rfl) ?_
    refine lv_iload_n hx hb dX0_sum_21 rfl (lv_at hl 1 rfl) ?_
    refine lv_iload_n hx hb dX0_sum_22 rfl (lv_at hl 3 rfl) ?_
    refine kcallVr (n := 2) (As := [.int (nI a), .int (nI i)]) (rest := [.int (xSum z a i)]) ⟨hx, hb, hml, hown, hts⟩ (mX_countOf l D G ad z (nI a) (nI i)) (lw_V q161 q146 q147 q15 q148) rfl (by decide +kernel) ⟨Nat.le_of_ble_eq_true rfl, Nat.le_of_ble_eq_true rfl⟩ (x_rv hK hP) hK hP hD hS hA hl.1 rfl (Nat.le_of_ble_eq_true rfl) dX0_sum_23 ⟨Nat.zero_le _, Nat.zero_le _⟩ (fun r23 H locs er23 hP hS => ?_)
    obtain rfl := vf_at er23 ga gi
    refine lv_iadd hx hb dX0_sum_26 ?_
    refine w_ti (y := xSum z a (i + 1)) rfl ?_
    refine lv_istore_n (lv' := [(2, .int (xSum z a (i + 1))), (0, .ref (ad 0)), (1, .int (nI a)), (3, .int (nI i))]) hx hb dX0_sum_27 rfl hl (by decide) rfl (fun ls hl => ?_)
    refine lv_iinc (v := nI (i + 1)) (lv' := [(3, .int (nI (i + 1))), (2, .int (xSum z a (i + 1))), (0, .ref (ad 0)), (1, .int (nI a))]) hx hb dX0_sum_28 hl (k := 3) rfl (nI_1 _) (by decide) rfl (fun ls hl => ?_)
    refine lv_goto (tgt := 13) hx hb dX0_sum_31 (by decide) ?_
    exact ih (i + 1) (by omega) _ _ _ hP hS (lv_sub hl [2, 3, 1, 0] rfl)
set_option maxHeartbeats 4000000 in
theorem mX_sum (l : Launch) (D : va_G) (G : ClassId × ClassId) (ad : Nat → Nat) (z : TS) (p0 : Int32) : KI l D G (wx G ad) yX0_sum (ws_ yX0_sum cX0_sum 4 (some .int)) 3 [.ref (ad 0), .int p0] z (RO z (vg 3 p0 (fun a => xSum z a 8) (-1))) := by
  refine KI.of (by decide) (Nat.le_of_ble_eq_true rfl) ?_
  intro p e s m below meth c A ls C hP hD hS hl
  obtain ⟨hx, hb, hr, hml, hown, hts, hlocks, hA, hK⟩ := id C
  have hown : s.vm.findClass RX0 = some m.cls := hown
  have hl : lv_has ls 4 [(0, .ref (ad 0)), (1, .int p0)] := hl
  refine lv_iload_n hx hb dX0_sum_0 rfl (lv_at hl 1 rfl) ?_
  refine kcallSr (n := 1) (As := [.int p0]) (rest := []) ⟨hx, hb, hml, hown, hts⟩ (mX_badReplica l D G ad z (wx G ad) p0) (lw_S q81 q82 q15 q83) rfl (by decide +kernel) ⟨Nat.le_of_ble_eq_true rfl, Nat.le_of_ble_eq_true rfl⟩ hK hP hD hS hA hl.1 rfl (Nat.le_of_ble_eq_true rfl) dX0_sum_1 ⟨Nat.zero_le _, Nat.zero_le _⟩ (fun r1 H locs er1 hP hS => ?_)
  subst er1
  refine lv_if_eq (tgt := 9) hx hb dX0_sum_4 (by decide) (fun c4 => ?_) (fun c4 => ?_)
  · obtain ⟨a, ga, rfl⟩ := bI_nn c4
    refine lv_iconst (v := 0) hx hb dX0_sum_9 (by decide) ?_
    refine lv_istore_n (lv' := [(2, .int 0), (0, .ref (ad 0)), (1, .int (nI a))]) hx hb dX0_sum_10 rfl hl (by decide) rfl (fun ls hl => ?_)
    refine lv_iconst (v := 0) hx hb dX0_sum_11 (by decide) ?_
    refine lv_istore_n (lv' := [(3, .int 0), (2, .int 0), (0, .ref (ad 0)), (1, .int (nI a))]) hx hb dX0_sum_12 rfl hl (by decide) rfl (fun ls hl => ?_)
    exact lX_sum C z ga ⟨rfl, vg_ok (by decide) ga rfl⟩ hD 8 0 rfl _ _ _ hP hS (lv_sub hl [2, 3, 1, 0] rfl)
  · refine lv_iconst (v := (-1)) hx hb dX0_sum_7 (by decide) ?_
    exact kret hx hb hr hlocks hK hP hD hS rfl ⟨rfl, vg_no (bI_ne c4) rfl⟩ dX0_sum_8
set_option maxHeartbeats 4000000 in
theorem lX_known {p : Program} {l : Launch} {e : Env} {s : State} {m : MethodId} {args : Array Value} {below : List Frame} {meth : Method} {c : Code} {A : Nat → Prop} {D : va_G} {G : ClassId × ClassId} {ad : Nat → Nat} {post : Int32 → TS → Prop} (C : Cx p s m args meth c RX0 cX0_known 4 (some .int) A D G) (z : TS) {a : Nat} (ga : a < 3) (gn : z.1 ≤ 60) (hpost : post (xKnown z a z.1) z) (hD : va_D A ((wx G ad) z)) : ∀ (k i : Nat), i + k = z.1 → ∀ (H : Heap) (locs : List Loc) (ls : Array Slot), va_P D vwCl ((wx G ad) z) H → va_S A s.heap H locs → lv_has ls 4 [(0, .ref (ad 0)), (1, .int (nI a)), (2, .int (xKnown z a i)), (3, .int (nI i))] → W p l e (rmD 1) s m args below meth c H locs 0 0 (QI D G (wx G ad) below args s post A) (F0 m 13 ls []) := by
  obtain ⟨hx, hb, hr, hml, hown, hts, hlocks, hA, hK⟩ := id C
  intro k
  induction k with
  | zero =>
    intro i hi H locs ls hP hS hl
    obtain rfl : i = z.1 := by omega
    refine lv_iload_n hx hb dX0_known_13 rfl (lv_at hl 3 rfl) ?_
    refine lv_aload_n hx hb dX0_known_14 rfl (lv_at hl 0 rfl) ?_
    refine x_get 0 hx hb hts hown hK hP (by decide) rfl q25 rfl dX0_known_15 ?_
    refine lv_icmp_ge (tgt := 45) hx hb dX0_known_18 (by decide) (fun c18 => ?_) (fun c18 => absurd (Int32.le_refl _) c18)
    refine lv_iload_n hx hb dX0_known_45 rfl (lv_at hl 2 rfl) ?_
    exact kret hx hb hr hlocks hK hP hD hS rfl hpost dX0_known_46
  | succ k ih =>
    intro i hi H locs ls hP hS hl
    have gi : i < 60 := by omega
    refine lv_iload_n hx hb dX0_known_13 rfl (lv_at hl 3 rfl) ?_
    refine lv_aload_n hx hb dX0_known_14 rfl (lv_at hl 0 rfl) ?_
    refine x_get 0 hx hb hts hown hK hP (by decide) rfl q25 rfl dX0_known_15 ?_
    refine lv_icmp_ge (tgt := 45) hx hb dX0_known_18 (by decide) (fun c18 => absurd c18 (nI_ge (by omega) (by omega))) (fun c18 => ?_)
    refine lv_aload_n hx hb dX0_known_21 rfl (lv_at hl 0 rfl) ?_
    refine x_get 8 hx hb hts hown hK hP (by decide) rfl q33 rfl dX0_known_22 ?_
    refine lv_iload_n hx hb dX0_known_25 rfl (lv_at hl 1 rfl) ?_
    refine na_lald 8 hx hb hK hP rfl (by decide) (by omega) dX0_known_26 ?_
    refine lv_iload_n hx hb dX0_known_27 rfl (lv_at hl 3 rfl) ?_
    refine n_lushr hx hb dX0_known_28 ?_
    refine lv_lconst (v := 1) hx hb dX0_known_29 (by decide) ?_
    refine lv_land hx hb dX0_known_30 ?_
    refine lv_lconst (v := 1) hx hb dX0_known_31 (by decide) ?_
    refine W.lcmp hx hb dX0_known_32 ?_
    refine lv_if_ne (tgt := 39) hx hb dX0_known_33 (by decide) (fun c33 => ?_) (fun c33 => ?_)
    · rw [show xKnown z a i = xKnown z a (i + 1) from by show _ = xKnown z a i + bI (lb (z.2.2 8 a) i); rw [bI_f (fun q => c33 ((lg_cmp_eq _ _).mpr ((shU_lb (by omega) _).mpr q)))]; exact (Int32.add_zero _).symm] at hl
      refine lv_iinc (v := nI (i + 1)) (lv' := [(3, .int (nI (i + 1))), (0, .ref (ad 0)), (1, .int (nI a)), (2, .int (xKnown z a (i + 1)))]) hx hb dX0_known_39 hl (k := 3) rfl (nI_1 _) (by decide) rfl (fun ls hl => ?_)
      refine lv_goto (tgt := 13) hx hb dX0_known_42 (by decide) ?_
      exact ih (i + 1) (by omega) _ _ _ hP hS (lv_sub hl [1, 2, 3, 0] rfl)
    · refine lv_iinc (v := xKnown z a (i + 1)) (lv' := [(2, .int (xKnown z a (i + 1))), (0, .ref (ad 0)), (1, .int (nI a)), (3, .int (nI i))]) hx hb dX0_known_36 hl (k := 2) rfl (by show _ = xKnown z a i + bI (lb (z.2.2 8 a) i); rw [bI_t ((shU_lb (by omega) _).mp ((lg_cmp_eq _ _).mp c33))]; rfl) (by decide) rfl (fun ls hl => ?_)
      refine lv_iinc (v := nI (i + 1)) (lv' := [(3, .int (nI (i + 1))), (2, .int (xKnown z a (i + 1))), (0, .ref (ad 0)), (1, .int (nI a))]) hx hb dX0_known_39 hl (k := 3) rfl (nI_1 _) (by decide) rfl (fun ls hl => ?_)
      refine lv_goto (tgt := 13) hx hb dX0_known_42 (by decide) ?_
      exact ih (i + 1) (by omega) _ _ _ hP hS (lv_sub hl [2, 3, 1, 0] rfl)
set_option maxHeartbeats 4000000 in
theorem mX_known (l : Launch) (D : va_G) (G : ClassId × ClassId) (ad : Nat → Nat) (z : TS) (p0 : Int32) (gn : z.1 ≤ 60) : KI l D G (wx G ad) yX0_known (ws_ yX0_known cX0_known 4 (some .int)) 1 [.ref (ad 0), .int p0] z (RO z (vg 3 p0 (fun a => xKnown z a z.1) (-1))) := by
  refine KI.of (by decide) (Nat.le_of_ble_eq_true rfl) ?_
  intro p e s m below meth c A ls C hP hD hS hl
  obtain ⟨hx, hb, hr, hml, hown, hts, hlocks, hA, hK⟩ := id C
  have hown : s.vm.findClass RX0 = some m.cls := hown
  have hl : lv_has ls 4 [(0, .ref (ad 0)), (1, .int p0)] := hl
  refine lv_iload_n hx hb dX0_known_0 rfl (lv_at hl 1 rfl) ?_
  refine kcallSr (n := 1) (As := [.int p0]) (rest := []) ⟨hx, hb, hml, hown, hts⟩ (mX_badReplica l D G ad z (wx G ad) p0) (lw_S q81 q82 q15 q83) rfl (by decide +kernel) ⟨Nat.le_of_ble_eq_true rfl, Nat.le_of_ble_eq_true rfl⟩ hK hP hD hS hA hl.1 rfl (Nat.le_of_ble_eq_true rfl) dX0_known_1 ⟨Nat.zero_le _, Nat.zero_le _⟩ (fun r1 H locs er1 hP hS => ?_)
  subst er1
  refine lv_if_eq (tgt := 9) hx hb dX0_known_4 (by decide) (fun c4 => ?_) (fun c4 => ?_)
  · obtain ⟨a, ga, rfl⟩ := bI_nn c4
    refine lv_iconst (v := 0) hx hb dX0_known_9 (by decide) ?_
    refine lv_istore_n (lv' := [(2, .int 0), (0, .ref (ad 0)), (1, .int (nI a))]) hx hb dX0_known_10 rfl hl (by decide) rfl (fun ls hl => ?_)
    refine lv_iconst (v := 0) hx hb dX0_known_11 (by decide) ?_
    refine lv_istore_n (lv' := [(3, .int 0), (2, .int 0), (0, .ref (ad 0)), (1, .int (nI a))]) hx hb dX0_known_12 rfl hl (by decide) rfl (fun ls hl => ?_)
    exact lX_known C z ga gn ⟨rfl, vg_ok (by decide) ga rfl⟩ hD z.1 0 (Nat.zero_add _) _ _ _ hP hS (lv_sub hl [2, 3, 1, 0] rfl)
  · refine lv_iconst (v := (-1)) hx hb dX0_known_7 (by decide) ?_
    exact kret hx hb hr hlocks hK hP hD hS rfl ⟨rfl, vg_no (bI_ne c4) rfl⟩ dX0_known_8
set_option maxHeartbeats 4000000 in
theorem mX_sameRow (l : Launch) (D : va_G) (G : ClassId × ClassId) (ad : Nat → Nat) (z : TS) {a b k : Nat} (ga : a < 3) (gb : b < 3) (gk : k < 8) (hwf : WFw z) (hwl : WFl z) : KI l D G (wx G ad) yX0_sameRow (ws_ yX0_sameRow cX0_sameRow 12 (some .boolean)) 3 [.ref (ad 0), .int (nI a), .int (nI b), .int (nI k)] z (RO z (fun r => r = bI (xSame z a b k))) := by
  refine KI.of (by decide) (Nat.le_of_ble_eq_true rfl) ?_
  intro p e s m below meth c A ls C hP hD hS hl
  obtain ⟨hx, hb, hr, hml, hown, hts, hlocks, hA, hK⟩ := id C
  have hown : s.vm.findClass RX0 = some m.cls := hown
  have hl : lv_has ls 12 [(0, .ref (ad 0)), (1, .int (nI a)), (2, .int (nI b)), (3, .int (nI k))] := hl
  refine lv_aload_n hx hb dX0_sameRow_0 rfl (lv_at hl 0 rfl) ?_
  refine lv_iload_n hx hb dX0_sameRow_1 rfl (lv_at hl 1 rfl) ?_
  refine lv_iload_n hx hb dX0_sameRow_2 rfl (lv_at hl 3 rfl) ?_
  refine kcallVr (n := 2) (As := [.int (nI a), .int (nI k)]) (rest := []) ⟨hx, hb, hml, hown, hts⟩ (mX_isThere l D G ad z ga gk) (lw_V q108 q110 qs5 q15 q111) rfl (by decide +kernel) ⟨Nat.le_of_ble_eq_true rfl, Nat.le_of_ble_eq_true rfl⟩ (x_rv hK hP) hK hP hD hS hA hl.1 rfl (Nat.le_of_ble_eq_true rfl) dX0_sameRow_3 ⟨Nat.zero_le _, Nat.zero_le _⟩ (fun r3 H locs er3 hP hS => ?_)
  subst er3
  refine lv_istore (lv' := [(4, .int (xTh z a k)), (0, .ref (ad 0)), (1, .int (nI a)), (2, .int (nI b)), (3, .int (nI k))]) hx hb dX0_sameRow_6 hl (by decide) rfl (fun ls hl => ?_)
  refine lv_aload_n hx hb dX0_sameRow_8 rfl (lv_at hl 1 rfl) ?_
  refine lv_iload_n hx hb dX0_sameRow_9 rfl (lv_at hl 3 rfl) ?_
  refine lv_iload_n hx hb dX0_sameRow_10 rfl (lv_at hl 4 rfl) ?_
  refine kcallVr (n := 2) (As := [.int (nI b), .int (nI k)]) (rest := []) ⟨hx, hb, hml, hown, hts⟩ (mX_isThere l D G ad z gb gk) (lw_V q108 q110 qs5 q15 q111) rfl (by decide +kernel) ⟨Nat.le_of_ble_eq_true rfl, Nat.le_of_ble_eq_true rfl⟩ (x_rv hK hP) hK hP hD hS hA hl.1 rfl (Nat.le_of_ble_eq_true rfl) dX0_sameRow_11 ⟨Nat.zero_le _, Nat.zero_le _⟩ (fun r11 H locs er11 hP hS => ?_)
  subst er11
  refine lv_istore (lv' := [(5, .int (xTh z b k)), (4, .int (xTh z a k)), (0, .ref (ad 0)), (1, .int (nI a)), (2, .int (nI b)), (3, .int (nI k))]) hx hb dX0_sameRow_14 hl (by decide) rfl (fun ls hl => ?_)
  refine lv_iload hx hb dX0_sameRow_16 (lv_at hl 1 rfl) ?_
  refine lv_iload hx hb dX0_sameRow_18 (lv_at hl 0 rfl) ?_
  refine lv_icmp_eq (tgt := 25) hx hb dX0_sameRow_20 (by decide) (fun c20 => ?_) (fun c20 => ?_)
  · refine lv_aload_n hx hb dX0_sameRow_25 rfl (lv_at hl 2 rfl) ?_
    refine lv_iload_n hx hb dX0_sameRow_26 rfl (lv_at hl 3 rfl) ?_
    refine lv_iload_n hx hb dX0_sameRow_27 rfl (lv_at hl 5 rfl) ?_
    refine kcallVr (n := 2) (As := [.int (nI a), .int (nI k)]) (rest := []) ⟨hx, hb, hml, hown, hts⟩ (mX_nameOf l D G ad z (nI a) (nI k) hwf) (lw_V q174 q138 q139 q15 q140) rfl (by decide +kernel) ⟨Nat.le_of_ble_eq_true rfl, Nat.le_of_ble_eq_true rfl⟩ (x_rv hK hP) hK hP hD hS hA hl.1 rfl (Nat.le_of_ble_eq_true rfl) dX0_sameRow_28 ⟨Nat.zero_le _, Nat.zero_le _⟩ (fun r28 H locs er28 hP hS => ?_)
    obtain rfl := vf_at er28 ga gk
    refine lv_istore (lv' := [(6, .int (xName z a k)), (5, .int (xTh z b k)), (4, .int (xTh z a k)), (0, .ref (ad 0)), (1, .int (nI a)), (2, .int (nI b)), (3, .int (nI k))]) hx hb dX0_sameRow_31 hl (by decide) rfl (fun ls hl => ?_)
    refine lv_aload_n hx hb dX0_sameRow_33 rfl (lv_at hl 3 rfl) ?_
    refine lv_iload_n hx hb dX0_sameRow_34 rfl (lv_at hl 5 rfl) ?_
    refine lv_iload_n hx hb dX0_sameRow_35 rfl (lv_at hl 6 rfl) ?_
    refine kcallVr (n := 2) (As := [.int (nI b), .int (nI k)]) (rest := []) ⟨hx, hb, hml, hown, hts⟩ (mX_nameOf l D G ad z (nI b) (nI k) hwf) (lw_V q174 q138 q139 q15 q140) rfl (by decide +kernel) ⟨Nat.le_of_ble_eq_true rfl, Nat.le_of_ble_eq_true rfl⟩ (x_rv hK hP) hK hP hD hS hA hl.1 rfl (Nat.le_of_ble_eq_true rfl) dX0_sameRow_36 ⟨Nat.zero_le _, Nat.zero_le _⟩ (fun r36 H locs er36 hP hS => ?_)
    obtain rfl := vf_at er36 gb gk
    refine lv_istore (lv' := [(7, .int (xName z b k)), (6, .int (xName z a k)), (5, .int (xTh z b k)), (4, .int (xTh z a k)), (0, .ref (ad 0)), (1, .int (nI a)), (2, .int (nI b)), (3, .int (nI k))]) hx hb dX0_sameRow_39 hl (by decide) rfl (fun ls hl => ?_)
    refine lv_aload_n hx hb dX0_sameRow_41 rfl (lv_at hl 4 rfl) ?_
    refine lv_iload_n hx hb dX0_sameRow_42 rfl (lv_at hl 5 rfl) ?_
    refine lv_iload_n hx hb dX0_sameRow_43 rfl (lv_at hl 7 rfl) ?_
    refine kcallVr (n := 2) (As := [.int (nI a), .int (nI k)]) (rest := []) ⟨hx, hb, hml, hown, hts⟩ (mX_countOf l D G ad z (nI a) (nI k)) (lw_V q161 q146 q147 q15 q148) rfl (by decide +kernel) ⟨Nat.le_of_ble_eq_true rfl, Nat.le_of_ble_eq_true rfl⟩ (x_rv hK hP) hK hP hD hS hA hl.1 rfl (Nat.le_of_ble_eq_true rfl) dX0_sameRow_44 ⟨Nat.zero_le _, Nat.zero_le _⟩ (fun r44 H locs er44 hP hS => ?_)
    obtain rfl := vf_at er44 ga gk
    refine lv_istore (lv' := [(8, .int (xCount z a k)), (7, .int (xName z b k)), (6, .int (xName z a k)), (5, .int (xTh z b k)), (4, .int (xTh z a k)), (0, .ref (ad 0)), (1, .int (nI a)), (2, .int (nI b)), (3, .int (nI k))]) hx hb dX0_sameRow_47 hl (by decide) rfl (fun ls hl => ?_)
    refine lv_aload_n hx hb dX0_sameRow_49 rfl (lv_at hl 5 rfl) ?_
    refine lv_iload_n hx hb dX0_sameRow_50 rfl (lv_at hl 7 rfl) ?_
    refine lv_iload_n hx hb dX0_sameRow_51 rfl (lv_at hl 8 rfl) ?_
    refine kcallVr (n := 2) (As := [.int (nI b), .int (nI k)]) (rest := []) ⟨hx, hb, hml, hown, hts⟩ (mX_countOf l D G ad z (nI b) (nI k)) (lw_V q161 q146 q147 q15 q148) rfl (by decide +kernel) ⟨Nat.le_of_ble_eq_true rfl, Nat.le_of_ble_eq_true rfl⟩ (x_rv hK hP) hK hP hD hS hA hl.1 rfl (Nat.le_of_ble_eq_true rfl) dX0_sameRow_52 ⟨Nat.zero_le _, Nat.zero_le _⟩ (fun r52 H locs er52 hP hS => ?_)
    obtain rfl := vf_at er52 gb gk
    refine lv_istore (lv' := [(9, .int (xCount z b k)), (8, .int (xCount z a k)), (7, .int (xName z b k)), (6, .int (xName z a k)), (5, .int (xTh z b k)), (4, .int (xTh z a k)), (0, .ref (ad 0)), (1, .int (nI a)), (2, .int (nI b)), (3, .int (nI k))]) hx hb dX0_sameRow_55 hl (by decide) rfl (fun ls hl => ?_)
    refine lv_aload_n hx hb dX0_sameRow_57 rfl (lv_at hl 6 rfl) ?_
    refine lv_iload_n hx hb dX0_sameRow_58 rfl (lv_at hl 7 rfl) ?_
    refine lv_iload_n hx hb dX0_sameRow_59 rfl (lv_at hl 9 rfl) ?_
    refine kcallVr (n := 2) (As := [.int (nI a), .int (nI k)]) (rest := []) ⟨hx, hb, hml, hown, hts⟩ (mX_linkOf l D G ad z (nI a) (nI k) hwf hwl) (lw_V q175 q150 q151 q15 q152) rfl (by decide +kernel) ⟨Nat.le_of_ble_eq_true rfl, Nat.le_of_ble_eq_true rfl⟩ (x_rv hK hP) hK hP hD hS hA hl.1 rfl (Nat.le_of_ble_eq_true rfl) dX0_sameRow_60 ⟨Nat.zero_le _, Nat.zero_le _⟩ (fun r60 H locs er60 hP hS => ?_)
    obtain rfl := vf_at er60 ga gk
    refine lv_istore (lv' := [(10, .int (xLink z a k)), (9, .int (xCount z b k)), (8, .int (xCount z a k)), (7, .int (xName z b k)), (6, .int (xName z a k)), (5, .int (xTh z b k)), (4, .int (xTh z a k)), (0, .ref (ad 0)), (1, .int (nI a)), (2, .int (nI b)), (3, .int (nI k))]) hx hb dX0_sameRow_63 hl (by decide) rfl (fun ls hl => ?_)
    refine lv_aload_n hx hb dX0_sameRow_65 rfl (lv_at hl 7 rfl) ?_
    refine lv_iload_n hx hb dX0_sameRow_66 rfl (lv_at hl 9 rfl) ?_
    refine lv_iload_n hx hb dX0_sameRow_67 rfl (lv_at hl 10 rfl) ?_
    refine kcallVr (n := 2) (As := [.int (nI b), .int (nI k)]) (rest := []) ⟨hx, hb, hml, hown, hts⟩ (mX_linkOf l D G ad z (nI b) (nI k) hwf hwl) (lw_V q175 q150 q151 q15 q152) rfl (by decide +kernel) ⟨Nat.le_of_ble_eq_true rfl, Nat.le_of_ble_eq_true rfl⟩ (x_rv hK hP) hK hP hD hS hA hl.1 rfl (Nat.le_of_ble_eq_true rfl) dX0_sameRow_68 ⟨Nat.zero_le _, Nat.zero_le _⟩ (fun r68 H locs er68 hP hS => ?_)
    obtain rfl := vf_at er68 gb gk
    refine lv_istore (lv' := [(11, .int (xLink z b k)), (10, .int (xLink z a k)), (9, .int (xCount z b k)), (8, .int (xCount z a k)), (7, .int (xName z b k)), (6, .int (xName z a k)), (5, .int (xTh z b k)), (4, .int (xTh z a k)), (0, .ref (ad 0)), (1, .int (nI a)), (2, .int (nI b)), (3, .int (nI k))]) hx hb dX0_sameRow_71 hl (by decide) rfl (fun ls hl => ?_)
    refine lv_iload hx hb dX0_sameRow_73 (lv_at hl 5 rfl) ?_
    refine lv_iload hx hb dX0_sameRow_75 (lv_at hl 4 rfl) ?_
    refine lv_icmp_ne (tgt := 98) hx hb dX0_sameRow_77 (by decide) (fun c77 => ?_) (fun c77 => ?_)
    · refine lv_iconst (v := 0) hx hb dX0_sameRow_98 (by decide) ?_
      exact kret hx hb hr hlocks hK hP hD hS rfl ⟨rfl, (bI_f (fun h => c77 h.2.1)).symm⟩ dX0_sameRow_99
    · refine lv_iload hx hb dX0_sameRow_80 (lv_at hl 3 rfl) ?_
      refine lv_iload hx hb dX0_sameRow_82 (lv_at hl 2 rfl) ?_
      refine lv_icmp_ne (tgt := 98) hx hb dX0_sameRow_84 (by decide) (fun c84 => ?_) (fun c84 => ?_)
      · refine lv_iconst (v := 0) hx hb dX0_sameRow_98 (by decide) ?_
        exact kret hx hb hr hlocks hK hP hD hS rfl ⟨rfl, (bI_f (fun h => c84 h.2.2.1)).symm⟩ dX0_sameRow_99
      · refine lv_iload hx hb dX0_sameRow_87 (lv_at hl 1 rfl) ?_
        refine lv_iload hx hb dX0_sameRow_89 (lv_at hl 0 rfl) ?_
        refine lv_icmp_ne (tgt := 98) hx hb dX0_sameRow_91 (by decide) (fun c91 => ?_) (fun c91 => ?_)
        · refine lv_iconst (v := 0) hx hb dX0_sameRow_98 (by decide) ?_
          exact kret hx hb hr hlocks hK hP hD hS rfl ⟨rfl, (bI_f (fun h => c91 h.2.2.2)).symm⟩ dX0_sameRow_99
        · refine lv_iconst (v := 1) hx hb dX0_sameRow_94 (by decide) ?_
          refine lv_goto (tgt := 99) hx hb dX0_sameRow_95 (by decide) ?_
          exact kret hx hb hr hlocks hK hP hD hS rfl ⟨rfl, (bI_t ⟨bI_bI c20, c77, c84, c91⟩).symm⟩ dX0_sameRow_99
  · refine lv_iconst (v := 0) hx hb dX0_sameRow_23 (by decide) ?_
    exact kret hx hb hr hlocks hK hP hD hS rfl ⟨rfl, (bI_f (fun h => c20 (bI_c h.1))).symm⟩ dX0_sameRow_24
set_option maxHeartbeats 4000000 in
theorem lX_agree {p : Program} {l : Launch} {e : Env} {s : State} {m : MethodId} {args : Array Value} {below : List Frame} {meth : Method} {c : Code} {A : Nat → Prop} {D : va_G} {G : ClassId × ClassId} {ad : Nat → Nat} {post : Int32 → TS → Prop} (C : Cx p s m args meth c RX0 cX0_agree 5 (some .boolean) A D G) (z : TS) {a b : Nat} (ga : a < 3) (gb : b < 3) (hwf : WFw z) (hwl : WFl z) (hpost : post (xAgree z a b) z) (hD : va_D A ((wx G ad) z)) : ∀ (k i : Nat), i + k = 8 → (∀ j, j < i → xSame z a b j) → ∀ (H : Heap) (locs : List Loc) (ls : Array Slot), va_P D vwCl ((wx G ad) z) H → va_S A s.heap H locs → lv_has ls 5 [(0, .ref (ad 0)), (1, .int (nI a)), (2, .int (nI b)), (3, .int (nI i))] → W p l e (rmD 4) s m args below meth c H locs 0 0 (QI D G (wx G ad) below args s post A) (F0 m 18 ls []) := by
  obtain ⟨hx, hb, hr, hml, hown, hts, hlocks, hA, hK⟩ := id C
  intro k
  induction k with
  | zero =>
    intro i hi hs H locs ls hP hS hl
    obtain rfl : i = 8 := by omega
    refine lv_iload_n hx hb dX0_agree_18 rfl (lv_at hl 3 rfl) ?_
    refine lv_bipush (v := 8) hx hb dX0_agree_19 (by decide) ?_
    refine lv_icmp_ge (tgt := 46) hx hb dX0_agree_21 (by decide) (fun c21 => ?_) (fun c21 => absurd (by decide : (8 : Int32) ≤ nI 8) c21)
    refine lv_iconst (v := 1) hx hb dX0_agree_46 (by decide) ?_
    exact kret hx hb hr hlocks hK hP hD hS rfl (by rw [show xAgree z a b = 1 from bI_t hs] at hpost; exact hpost) dX0_agree_47
  | succ k ih =>
    intro i hi hs H locs ls hP hS hl
    have gi : i < 8 := by omega
    refine lv_iload_n hx hb dX0_agree_18 rfl (lv_at hl 3 rfl) ?_
    refine lv_bipush (v := 8) hx hb dX0_agree_19 (by decide) ?_
    refine lv_icmp_ge (tgt := 46) hx hb dX0_agree_21 (by decide) (fun c21 => absurd c21 (nI_8le gi)) (fun c21 => ?_)
    refine lv_aload_n hx hb dX0_agree_24 rfl (lv_at hl 0 rfl) ?_
    refine lv_iload_n hx hb dX0_agree_25 rfl (lv_at hl 1 rfl) ?_
    refine lv_iload_n hx hb dX0_agree_26 rfl (lv_at hl 2 rfl) ?_
    refine lv_iload_n hx hb dX0_agree_27 rfl (lv_at hl 3 rfl) ?_
    refine kcallVr (n := 3) (As := [.int (nI a), .int (nI b), .int (nI i)]) (rest := []) ⟨hx, hb, hml, hown, hts⟩ (mX_sameRow l D G ad z ga gb gi hwf hwl) (lw_V q170 q172 qs7 q15 q173) rfl (by decide +kernel) ⟨Nat.le_of_ble_eq_true rfl, Nat.le_of_ble_eq_true rfl⟩ (x_rv hK hP) hK hP hD hS hA hl.1 rfl (Nat.le_of_ble_eq_true rfl) dX0_agree_28 ⟨Nat.zero_le _, Nat.zero_le _⟩ (fun r28 H locs er28 hP hS => ?_)
    subst er28
    refine lv_istore (lv' := [(4, .int (bI (xSame z a b i))), (0, .ref (ad 0)), (1, .int (nI a)), (2, .int (nI b)), (3, .int (nI i))]) hx hb dX0_agree_31 hl (by decide) rfl (fun ls hl => ?_)
    refine lv_iload hx hb dX0_agree_33 (lv_at hl 0 rfl) ?_
    refine lv_if_ne (tgt := 40) hx hb dX0_agree_35 (by decide) (fun c35 => ?_) (fun c35 => ?_)
    · refine lv_iinc (v := nI (i + 1)) (lv' := [(3, .int (nI (i + 1))), (4, .int (bI (xSame z a b i))), (0, .ref (ad 0)), (1, .int (nI a)), (2, .int (nI b))]) hx hb dX0_agree_40 hl (k := 4) rfl (nI_1 _) (by decide) rfl (fun ls hl => ?_)
      refine lv_goto (tgt := 18) hx hb dX0_agree_43 (by decide) ?_
      exact ih (i + 1) (by omega) (lt_s hs (bI_ne c35)) _ _ _ hP hS (lv_sub hl [2, 3, 4, 0] rfl)
    · refine lv_iconst (v := 0) hx hb dX0_agree_38 (by decide) ?_
      exact kret hx hb hr hlocks hK hP hD hS rfl (by rw [show xAgree z a b = 0 from bI_f (fun h => bI_eq c35 (h i gi))] at hpost; exact hpost) dX0_agree_39
set_option maxHeartbeats 4000000 in
theorem mX_agree (l : Launch) (D : va_G) (G : ClassId × ClassId) (ad : Nat → Nat) (z : TS) (p0 p1 : Int32) (hwf : WFw z) (hwl : WFl z) : KI l D G (wx G ad) yX0_agree (ws_ yX0_agree cX0_agree 5 (some .boolean)) 4 [.ref (ad 0), .int p0, .int p1] z (RO z (vf 3 3 p0 p1 (xAgree z) 0)) := by
  refine KI.of (by decide) (Nat.le_of_ble_eq_true rfl) ?_
  intro p e s m below meth c A ls C hP hD hS hl
  obtain ⟨hx, hb, hr, hml, hown, hts, hlocks, hA, hK⟩ := id C
  have hown : s.vm.findClass RX0 = some m.cls := hown
  have hl : lv_has ls 5 [(0, .ref (ad 0)), (1, .int p0), (2, .int p1)] := hl
  refine lv_iload_n hx hb dX0_agree_0 rfl (lv_at hl 1 rfl) ?_
  refine kcallSr (n := 1) (As := [.int p0]) (rest := []) ⟨hx, hb, hml, hown, hts⟩ (mX_badReplica l D G ad z (wx G ad) p0) (lw_S q81 q82 q15 q83) rfl (by decide +kernel) ⟨Nat.le_of_ble_eq_true rfl, Nat.le_of_ble_eq_true rfl⟩ hK hP hD hS hA hl.1 rfl (Nat.le_of_ble_eq_true rfl) dX0_agree_1 ⟨Nat.zero_le _, Nat.zero_le _⟩ (fun r1 H locs er1 hP hS => ?_)
  subst er1
  refine lv_if_ne (tgt := 14) hx hb dX0_agree_4 (by decide) (fun c4 => ?_) (fun c4 => ?_)
  · refine lv_iconst (v := 0) hx hb dX0_agree_14 (by decide) ?_
    exact kret hx hb hr hlocks hK hP hD hS rfl ⟨rfl, vf_no (fun v => bI_ne c4 v.1) rfl⟩ dX0_agree_15
  · refine lv_iload_n hx hb dX0_agree_7 rfl (lv_at hl 2 rfl) ?_
    refine kcallSr (n := 1) (As := [.int p1]) (rest := []) ⟨hx, hb, hml, hown, hts⟩ (mX_badReplica l D G ad z (wx G ad) p1) (lw_S q81 q82 q15 q83) rfl (by decide +kernel) ⟨Nat.le_of_ble_eq_true rfl, Nat.le_of_ble_eq_true rfl⟩ hK hP hD hS hA hl.1 rfl (Nat.le_of_ble_eq_true rfl) dX0_agree_8 ⟨Nat.zero_le _, Nat.zero_le _⟩ (fun r8 H locs er8 hP hS => ?_)
    subst er8
    refine lv_if_eq (tgt := 16) hx hb dX0_agree_11 (by decide) (fun c11 => ?_) (fun c11 => ?_)
    · obtain ⟨a, ga, rfl⟩ := bI_nn c4
      obtain ⟨b, gb, rfl⟩ := bI_nn c11
      refine lv_iconst (v := 0) hx hb dX0_agree_16 (by decide) ?_
      refine lv_istore_n (lv' := [(3, .int 0), (0, .ref (ad 0)), (1, .int (nI a)), (2, .int (nI b))]) hx hb dX0_agree_17 rfl hl (by decide) rfl (fun ls hl => ?_)
      exact lX_agree C z ga gb hwf hwl ⟨rfl, vf_ok (by decide) (by decide) ga gb rfl⟩ hD 8 0 rfl (fun j h => absurd h (Nat.not_lt_zero _)) _ _ _ hP hS (lv_sub hl [1, 2, 3, 0] rfl)
    · refine lv_iconst (v := 0) hx hb dX0_agree_14 (by decide) ?_
      exact kret hx hb hr hlocks hK hP hD hS rfl ⟨rfl, vf_no (fun v => bI_ne c11 v.2) rfl⟩ dX0_agree_15
set_option maxHeartbeats 4000000 in
theorem lX_learn {p : Program} {l : Launch} {e : Env} {s : State} {m : MethodId} {args : Array Value} {below : List Frame} {meth : Method} {c : Code} {A : Nat → Prop} {D : va_G} {G : ClassId × ClassId} {ad : Nat → Nat} {post : Int32 → TS → Prop} (C : Cx p s m args meth c RX0 cX0_learnSome 8 (some .int) A D G) {a n : Nat} {lim : Int32} {fresh : Int64} (ga : a < 3) (gn : n ≤ 60) : ∀ (k i d : Nat) (z : TS), i + k = n → z.1 = n → WFw z → post (nI (xLr a fresh lim k i d z).2) (xLr a fresh lim k i d z).1 → ∀ (H : Heap) (locs : List Loc) (ls : Array Slot), va_P D vwCl ((wx G ad) z) H → va_D A ((wx G ad) z) → va_S A s.heap H locs → lv_has ls 8 [(0, .ref (ad 0)), (1, .int (nI a)), (3, .int lim), (4, .long fresh), (6, .int (nI d)), (7, .int (nI i))] → W p l e (rmD 2) s m args below meth c H locs 0 0 (QI D G (wx G ad) below args s post A) (F0 m 49 ls []) := by
  obtain ⟨hx, hb, hr, hml, hown, hts, hlocks, hA, hK⟩ := id C
  intro k
  induction k with
  | zero =>
    intro i d z hi en hwf hpost H locs ls hP hD hS hl
    obtain rfl : i = z.1 := by omega
    refine lv_iload hx hb dX0_learnSome_49 (lv_at hl 5 rfl) ?_
    refine lv_aload_n hx hb dX0_learnSome_51 rfl (lv_at hl 0 rfl) ?_
    refine x_get 0 hx hb hts hown hK hP (by decide) rfl q25 rfl dX0_learnSome_52 ?_
    refine lv_icmp_ge (tgt := 92) hx hb dX0_learnSome_55 (by decide) (fun c55 => ?_) (fun c55 => absurd (Int32.le_refl _) c55)
    refine lv_iload hx hb dX0_learnSome_92 (lv_at hl 4 rfl) ?_
    exact kret hx hb hr hlocks hK hP hD hS rfl hpost dX0_learnSome_94
  | succ k ih =>
    intro i d z hi en hwf hpost H locs ls hP hD hS hl
    have gi : i < 60 := by omega
    have hrec : xLr a fresh lim (k + 1) i d z = cT (lim ≤ nI d) (z, d) (cT (lb fresh i) (xLr a fresh lim k (i + 1) (d + 1) (xTake z a i)) (xLr a fresh lim k (i + 1) d z)) := rfl
    rw [hrec] at hpost
    refine lv_iload hx hb dX0_learnSome_49 (lv_at hl 5 rfl) ?_
    refine lv_aload_n hx hb dX0_learnSome_51 rfl (lv_at hl 0 rfl) ?_
    refine x_get 0 hx hb hts hown hK hP (by decide) rfl q25 rfl dX0_learnSome_52 ?_
    refine lv_icmp_ge (tgt := 92) hx hb dX0_learnSome_55 (by decide) (fun c55 => absurd c55 (nI_ge (by omega) (by omega))) (fun c55 => ?_)
    refine lv_iload hx hb dX0_learnSome_58 (lv_at hl 4 rfl) ?_
    refine lv_iload_n hx hb dX0_learnSome_60 rfl (lv_at hl 2 rfl) ?_
    refine lv_icmp_ge (tgt := 92) hx hb dX0_learnSome_61 (by decide) (fun c61 => ?_) (fun c61 => ?_)
    · rw [cT_t c61] at hpost
      refine lv_iload hx hb dX0_learnSome_92 (lv_at hl 4 rfl) ?_
      exact kret hx hb hr hlocks hK hP hD hS rfl hpost dX0_learnSome_94
    · rw [cT_f c61] at hpost
      refine lv_lload hx hb dX0_learnSome_64 (lv_at hl 3 rfl) ?_
      refine lv_iload hx hb dX0_learnSome_66 (lv_at hl 5 rfl) ?_
      refine n_lushr hx hb dX0_learnSome_68 ?_
      refine lv_lconst (v := 1) hx hb dX0_learnSome_69 (by decide) ?_
      refine lv_land hx hb dX0_learnSome_70 ?_
      refine lv_lconst (v := 1) hx hb dX0_learnSome_71 (by decide) ?_
      refine W.lcmp hx hb dX0_learnSome_72 ?_
      refine lv_if_ne (tgt := 86) hx hb dX0_learnSome_73 (by decide) (fun c73 => ?_) (fun c73 => ?_)
      · rw [cT_f (fun q => c73 ((lg_cmp_eq _ _).mpr ((shU_lb (by omega) _).mpr q)))] at hpost
        refine lv_iinc (v := nI (i + 1)) (lv' := [(7, .int (nI (i + 1))), (0, .ref (ad 0)), (1, .int (nI a)), (3, .int lim), (4, .long fresh), (6, .int (nI d))]) hx hb dX0_learnSome_86 hl (k := 5) rfl (nI_1 _) (by decide) rfl (fun ls hl => ?_)
        refine lv_goto (tgt := 49) hx hb dX0_learnSome_89 (by decide) ?_
        exact ih (i + 1) d z (by omega) en hwf hpost _ _ _ hP hD hS (lv_sub hl [1, 2, 3, 4, 5, 0] rfl)
      · rw [cT_t ((shU_lb (by omega) _).mp ((lg_cmp_eq _ _).mp c73))] at hpost
        refine lv_aload_n hx hb dX0_learnSome_76 rfl (lv_at hl 0 rfl) ?_
        refine lv_iload_n hx hb dX0_learnSome_77 rfl (lv_at hl 1 rfl) ?_
        refine lv_iload hx hb dX0_learnSome_78 (lv_at hl 5 rfl) ?_
        refine kcallW (n := 2) (As := [.int (nI a), .int (nI i)]) (rest := []) ⟨hx, hb, hml, hown, hts⟩ (mX_takeIn l D G ad z ga gi hwf) (lw_V q91 q93 qs2 q15 q94) rfl (by decide +kernel) ⟨Nat.le_of_ble_eq_true rfl, Nat.le_of_ble_eq_true rfl⟩ (x_rv hK hP) hK hP hD hS hA hl.1 rfl (Nat.le_of_ble_eq_true rfl) dX0_learnSome_80 ⟨Nat.zero_le _, Nat.zero_le _⟩ (fun u H locs hw hP hD hS => ?_)
        subst hw
        refine lv_iinc (v := nI (d + 1)) (lv' := [(6, .int (nI (d + 1))), (0, .ref (ad 0)), (1, .int (nI a)), (3, .int lim), (4, .long fresh), (7, .int (nI i))]) hx hb dX0_learnSome_83 hl (k := 4) rfl (nI_1 _) (by decide) rfl (fun ls hl => ?_)
        refine lv_iinc (v := nI (i + 1)) (lv' := [(7, .int (nI (i + 1))), (6, .int (nI (d + 1))), (0, .ref (ad 0)), (1, .int (nI a)), (3, .int lim), (4, .long fresh)]) hx hb dX0_learnSome_86 hl (k := 5) rfl (nI_1 _) (by decide) rfl (fun ls hl => ?_)
        refine lv_goto (tgt := 49) hx hb dX0_learnSome_89 (by decide) ?_
        exact ih (i + 1) (d + 1) (xTake z a i) (by omega) ((xTake_n z a i).trans en) (hwf.take gi) hpost _ _ _ hP hD hS (lv_sub hl [2, 3, 4, 5, 1, 0] rfl)
set_option maxHeartbeats 4000000 in
theorem mX_learnSome (l : Launch) (D : va_G) (G : ClassId × ClassId) (ad : Nat → Nat) (z : TS) (p0 p1 p2 : Int32) (gn : z.1 ≤ 60) (hwf : WFw z) : KI l D G (wx G ad) yX0_learnSome (ws_ yX0_learnSome cX0_learnSome 8 (some .int)) 2 [.ref (ad 0), .int p0, .int p1, .int p2] z (lrnR p0 p1 z (fun a b => xLr a (z.2.2 8 b &&& (z.2.2 8 a ^^^ (-1))) p2 z.1 0 0 z)) := by
  refine KI.of (by decide) (Nat.le_of_ble_eq_true rfl) ?_
  intro p e s m below meth c A ls C hP hD hS hl
  obtain ⟨hx, hb, hr, hml, hown, hts, hlocks, hA, hK⟩ := id C
  have hown : s.vm.findClass RX0 = some m.cls := hown
  have hl : lv_has ls 8 [(0, .ref (ad 0)), (1, .int p0), (2, .int p1), (3, .int p2)] := hl
  refine lv_iload_n hx hb dX0_learnSome_0 rfl (lv_at hl 1 rfl) ?_
  refine kcallSr (n := 1) (As := [.int p0]) (rest := []) ⟨hx, hb, hml, hown, hts⟩ (mX_badReplica l D G ad z (wx G ad) p0) (lw_S q81 q82 q15 q83) rfl (by decide +kernel) ⟨Nat.le_of_ble_eq_true rfl, Nat.le_of_ble_eq_true rfl⟩ hK hP hD hS hA hl.1 rfl (Nat.le_of_ble_eq_true rfl) dX0_learnSome_1 ⟨Nat.zero_le _, Nat.zero_le _⟩ (fun r1 H locs er1 hP hS => ?_)
  subst er1
  refine lv_if_ne (tgt := 14) hx hb dX0_learnSome_4 (by decide) (fun c4 => ?_) (fun c4 => ?_)
  · refine lv_iconst (v := (-1)) hx hb dX0_learnSome_14 (by decide) ?_
    exact kret hx hb hr hlocks hK hP hD hS rfl (lrnR_no (fun v => bI_ne c4 v.1)) dX0_learnSome_15
  · refine lv_iload_n hx hb dX0_learnSome_7 rfl (lv_at hl 2 rfl) ?_
    refine kcallSr (n := 1) (As := [.int p1]) (rest := []) ⟨hx, hb, hml, hown, hts⟩ (mX_badReplica l D G ad z (wx G ad) p1) (lw_S q81 q82 q15 q83) rfl (by decide +kernel) ⟨Nat.le_of_ble_eq_true rfl, Nat.le_of_ble_eq_true rfl⟩ hK hP hD hS hA hl.1 rfl (Nat.le_of_ble_eq_true rfl) dX0_learnSome_8 ⟨Nat.zero_le _, Nat.zero_le _⟩ (fun r8 H locs er8 hP hS => ?_)
    subst er8
    refine lv_if_eq (tgt := 16) hx hb dX0_learnSome_11 (by decide) (fun c11 => ?_) (fun c11 => ?_)
    · obtain ⟨a, ga, rfl⟩ := bI_nn c4
      obtain ⟨b, gb, rfl⟩ := bI_nn c11
      refine lv_iload_n hx hb dX0_learnSome_16 rfl (lv_at hl 1 rfl) ?_
      refine lv_iload_n hx hb dX0_learnSome_17 rfl (lv_at hl 2 rfl) ?_
      refine lv_icmp_ne (tgt := 24) hx hb dX0_learnSome_18 (by decide) (fun c18 => ?_) (fun c18 => ?_)
      · refine lv_aload_n hx hb dX0_learnSome_24 rfl (lv_at hl 0 rfl) ?_
        refine x_get 8 hx hb hts hown hK hP (by decide) rfl q33 rfl dX0_learnSome_25 ?_
        refine lv_iload_n hx hb dX0_learnSome_28 rfl (lv_at hl 2 rfl) ?_
        refine na_lald 8 hx hb hK hP rfl (by decide) (by omega) dX0_learnSome_29 ?_
        refine lv_aload_n hx hb dX0_learnSome_30 rfl (lv_at hl 0 rfl) ?_
        refine x_get 8 hx hb hts hown hK hP (by decide) rfl q33 rfl dX0_learnSome_31 ?_
        refine lv_iload_n hx hb dX0_learnSome_34 rfl (lv_at hl 1 rfl) ?_
        refine na_lald 8 hx hb hK hP rfl (by decide) (by omega) dX0_learnSome_35 ?_
        refine lv_ldc2 (v := -1) hx hb hown (hts _ q95) dX0_learnSome_36 ?_
        refine lv_lxor hx hb dX0_learnSome_39 ?_
        refine lv_land hx hb dX0_learnSome_40 ?_
        refine lv_lstore (lv' := [(4, .long ((z.2.2 8 b) &&& ((z.2.2 8 a) ^^^ (-1)))), (0, .ref (ad 0)), (1, .int (nI a)), (2, .int (nI b)), (3, .int p2)]) hx hb dX0_learnSome_41 hl (by decide) rfl (fun ls hl => ?_)
        refine lv_iconst (v := 0) hx hb dX0_learnSome_43 (by decide) ?_
        refine lv_istore (lv' := [(6, .int 0), (4, .long ((z.2.2 8 b) &&& ((z.2.2 8 a) ^^^ (-1)))), (0, .ref (ad 0)), (1, .int (nI a)), (2, .int (nI b)), (3, .int p2)]) hx hb dX0_learnSome_44 hl (by decide) rfl (fun ls hl => ?_)
        refine lv_iconst (v := 0) hx hb dX0_learnSome_46 (by decide) ?_
        refine lv_istore (lv' := [(7, .int 0), (6, .int 0), (4, .long ((z.2.2 8 b) &&& ((z.2.2 8 a) ^^^ (-1)))), (0, .ref (ad 0)), (1, .int (nI a)), (2, .int (nI b)), (3, .int p2)]) hx hb dX0_learnSome_47 hl (by decide) rfl (fun ls hl => ?_)
        exact lX_learn C ga gn z.1 0 0 z (Nat.zero_add _) rfl hwf (lrnR_go ga gb (fun x => c18 (by rw [x])) ⟨rfl, rfl⟩) _ _ _ hP hD hS (lv_sub hl [3, 4, 6, 2, 1, 0] rfl)
      · refine lv_bipush (v := (-5)) hx hb dX0_learnSome_21 (by decide) ?_
        exact kret hx hb hr hlocks hK hP hD hS rfl (lrnR_eq ga gb (nI_in_lt (by decide) ga gb c18)) dX0_learnSome_23
    · refine lv_iconst (v := (-1)) hx hb dX0_learnSome_14 (by decide) ?_
      exact kret hx hb hr hlocks hK hP hD hS rfl (lrnR_no (fun v => bI_ne c11 v.2)) dX0_learnSome_15
set_option maxHeartbeats 4000000 in
theorem mX_learn (l : Launch) (D : va_G) (G : ClassId × ClassId) (ad : Nat → Nat) (z : TS) (p0 p1 : Int32) (gn : z.1 ≤ 60) (hwf : WFw z) : KI l D G (wx G ad) yX0_learn (ws_ yX0_learn cX0_learn 3 (some .int)) 3 [.ref (ad 0), .int p0, .int p1] z (lrnR p0 p1 z (fun a b => xLr a (z.2.2 8 b &&& (z.2.2 8 a ^^^ (-1))) 60 z.1 0 0 z)) := by
  refine KI.of (by decide) (Nat.le_of_ble_eq_true rfl) ?_
  intro p e s m below meth c A ls C hP hD hS hl
  obtain ⟨hx, hb, hr, hml, hown, hts, hlocks, hA, hK⟩ := id C
  have hown : s.vm.findClass RX0 = some m.cls := hown
  have hl : lv_has ls 3 [(0, .ref (ad 0)), (1, .int p0), (2, .int p1)] := hl
  refine lv_aload_n hx hb dX0_learn_0 rfl (lv_at hl 0 rfl) ?_
  refine lv_iload_n hx hb dX0_learn_1 rfl (lv_at hl 1 rfl) ?_
  refine lv_iload_n hx hb dX0_learn_2 rfl (lv_at hl 2 rfl) ?_
  refine lv_bipush (v := 60) hx hb dX0_learn_3 (by decide) ?_
  refine kcallV (n := 3) (As := [.int p0, .int p1, .int 60]) (rest := []) ⟨hx, hb, hml, hown, hts⟩ (mX_learnSome l D G ad z p0 p1 60 gn hwf) (lw_V q128 q129 q130 q15 q131) rfl (by decide +kernel) ⟨Nat.le_of_ble_eq_true rfl, Nat.le_of_ble_eq_true rfl⟩ (x_rv hK hP) hK hP hD hS hA hl.1 rfl (Nat.le_of_ble_eq_true rfl) dX0_learn_5 ⟨Nat.zero_le _, Nat.zero_le _⟩ (fun r5 u H locs hw hP hD hS => ?_)
  exact kret hx hb hr hlocks hK hP hD hS rfl hw dX0_learn_8
end
section
/-! small rows of the model's walks -/
theorem mth_yes {z : TS} {p q r : Int32} (h : vf 3 8 p q (mTh z) 0 r) (hr : ¬ r = 0) : ∃ a b, a < 3 ∧ b < 8 ∧ p = nI a ∧ q = nI b ∧ mThB z a (nI b) := by
  obtain ⟨⟨a, ha, rfl⟩, ⟨b, hb, rfl⟩⟩ := vf_valid h hr
  have h1 := vf_at h ha hb
  rw [h1] at hr
  exact ⟨a, b, ha, hb, rfl, rfl, bI_ne hr⟩
theorem mth_no {z : TS} {p q r d : Int32} {F : Nat → Nat → Int32} (h : vf 3 8 p q (mTh z) 0 r) (hr : r = 0) (hF : ∀ a b, ¬ mThB z a (nI b) → F a b = d) : vf 3 8 p q F d d := by
  by_cases hv : rr 3 p ∧ rr 8 q
  · obtain ⟨⟨a, ha, rfl⟩, ⟨b, hb, rfl⟩⟩ := hv
    have h1 := vf_at h ha hb
    rw [h1] at hr
    exact vf_ok (by decide) (by decide) ha hb (hF a b (bI_eq hr)).symm
  · exact vf_no hv rfl
theorem mth_v {z : TS} {a : Nat} {w r : Int32} (h : vf 3 8 (nI a) w (mTh z) 0 r) (ga : a < 3) : r = bI (rr 8 w ∧ mThB z a w) := by
  by_cases hv : rr 8 w
  · obtain ⟨b, hb, rfl⟩ := hv
    rw [vf_at h ga hb]
    exact bI_c ⟨fun x => ⟨rr_mk hb, x⟩, fun x => x.2⟩
  · rw [h.2 (fun x => hv x.2)]
    exact (bI_f (fun x => hv x.1)).symm
theorem mLast_b (z : TS) (r : Nat) (w k : Int32) : ∀ i, mLast z r w k i = -1 ∨ ∃ b, b < i ∧ mLast z r w k i = nI b
  | 0 => Or.inl rfl
  | i + 1 => by
    by_cases h : mHit z r w k i ∧ mBet z i (mLast z r w k i)
    · exact Or.inr ⟨i, Nat.lt_succ_self i, cT_t h _ _⟩
    · have e : mLast z r w k (i + 1) = mLast z r w k i := cT_f h _ _
      rw [e]
      rcases mLast_b z r w k i with q | ⟨b, hb, q⟩
      · exact Or.inl q
      · exact Or.inr ⟨b, Nat.lt_succ_of_lt hb, q⟩
theorem mLast_n {z : TS} {r : Nat} {w k : Int32} {i : Nat} (h : ¬ mLast z r w k i < 0) : ∃ b, b < i ∧ mLast z r w k i = nI b := by
  rcases mLast_b z r w k i with q | q
  · rw [q] at h
    exact absurd (by decide) h
  · exact q
theorem mTake_n (z : TS) (r a : Nat) : (mTake z r a).1 = z.1 := by
  unfold mTake mSt
  by_cases h : (sL z 7 r (z.2.2 7 r ||| bitL a)).2.1 8 r < (sL z 7 r (z.2.2 7 r ||| bitL a)).2.1 4 a
  · rw [cT_t h]; rfl
  · rw [cT_f h]; rfl
def mCb (z : TS) (r a b : Nat) : Prop := lb (z.2.2 7 r) b ∧ z.2.1 1 b = 1 ∧ z.2.1 2 b = z.2.1 2 a ∧ lb (z.2.2 6 b) a
def mTb (z : TS) (r : Nat) (w : Int32) (a : Nat) : Prop := lb (z.2.2 7 r) a ∧ z.2.1 1 a = 0 ∧ z.2.1 2 a = w ∧ ¬ mCanc z r a
theorem nI_n4 {k : Nat} (gk : k < 5) (h : ¬ nI k = 4) : ¬ k = 4 := fun x => h (by rw [x]; rfl)
theorem nI_k0 {k : Nat} (gk : k < 5) (h : nI k = 0) : k = 0 := (nI_eq (a := k) (b := 0) (by omega) (by decide)).mp h
theorem nI_nk0 {k : Nat} (h : ¬ nI k = 0) : ¬ k = 0 := fun x => h (by rw [x]; rfl)
theorem n60e {n : Nat} (gn : n ≤ 60) (h : ¬ nI n = 60) : n < 60 := by
  rcases Nat.lt_or_ge n 60 with q | q
  · exact q
  · exact absurd (by rw [show n = 60 by omega]; rfl) h
theorem n60f {n : Nat} (gn : n ≤ 60) (h : nI n = 60) : n = 60 := (nI_eq (a := n) (b := 60) (by omega) (by decide)).mp h
end
section
/-! CrdtTableModel: the leaves, by contract -/
set_option maxRecDepth 100000
set_option maxHeartbeats 4000000 in
theorem mM_badReplica (l : Launch) (D : va_G) (G : ClassId × ClassId) (ad : Nat → Nat) (z : TS) (p0 : Int32) : KI l D G (wm G ad) yX1_badReplica (ws_ yX1_badReplica cX1_badReplica 2 (some .boolean)) 0 [.ref (ad 0), .int p0] z (RO z (fun r => r = bI (¬ rr 3 p0))) := by
  refine KI.of (by decide) (Nat.le_of_ble_eq_true rfl) ?_
  intro p e s m below meth c A ls C hP hD hS hl
  obtain ⟨hx, hb, hr, hml, hown, hts, hlocks, hA, hK⟩ := id C
  have hown : s.vm.findClass RX1 = some m.cls := hown
  have hl : lv_has ls 2 [(0, .ref (ad 0)), (1, .int p0)] := hl
  refine lv_iload_n hx hb dX1_badReplica_0 rfl (lv_at hl 1 rfl) ?_
  refine lv_if_lt (tgt := 9) hx hb dX1_badReplica_1 (by decide) (fun c1 => ?_) (fun c1 => ?_)
  · refine lv_iconst (v := 1) hx hb dX1_badReplica_9 (by decide) ?_
    refine lv_goto (tgt := 14) hx hb dX1_badReplica_10 (by decide) ?_
    exact kret hx hb hr hlocks hK hP hD hS rfl ⟨rfl, (bI_t (rr_neg (by decide) c1)).symm⟩ dX1_badReplica_14
  · refine lv_iload_n hx hb dX1_badReplica_4 rfl (lv_at hl 1 rfl) ?_
    refine lv_iconst (v := 2) hx hb dX1_badReplica_5 (by decide) ?_
    refine lv_icmp_le (tgt := 13) hx hb dX1_badReplica_6 (by decide) (fun c6 => ?_) (fun c6 => ?_)
    · refine lv_iconst (v := 0) hx hb dX1_badReplica_13 (by decide) ?_
      exact kret hx hb hr hlocks hK hP hD hS rfl ⟨rfl, (bI_f (fun z => z (rr_le (N := 2) rfl (by decide) c1 c6))).symm⟩ dX1_badReplica_14
    · refine lv_iconst (v := 1) hx hb dX1_badReplica_9 (by decide) ?_
      refine lv_goto (tgt := 14) hx hb dX1_badReplica_10 (by decide) ?_
      exact kret hx hb hr hlocks hK hP hD hS rfl ⟨rfl, (bI_t (rr_nle (N := 2) rfl (by decide) c6)).symm⟩ dX1_badReplica_14
set_option maxHeartbeats 4000000 in
theorem mM_badRow (l : Launch) (D : va_G) (G : ClassId × ClassId) (ad : Nat → Nat) (z : TS) (p0 : Int32) : KI l D G (wm G ad) yX1_badRow (ws_ yX1_badRow cX1_badRow 2 (some .boolean)) 0 [.ref (ad 0), .int p0] z (RO z (fun r => r = bI (¬ rr 8 p0))) := by
  refine KI.of (by decide) (Nat.le_of_ble_eq_true rfl) ?_
  intro p e s m below meth c A ls C hP hD hS hl
  obtain ⟨hx, hb, hr, hml, hown, hts, hlocks, hA, hK⟩ := id C
  have hown : s.vm.findClass RX1 = some m.cls := hown
  have hl : lv_has ls 2 [(0, .ref (ad 0)), (1, .int p0)] := hl
  refine lv_iload_n hx hb dX1_badRow_0 rfl (lv_at hl 1 rfl) ?_
  refine lv_if_lt (tgt := 10) hx hb dX1_badRow_1 (by decide) (fun c1 => ?_) (fun c1 => ?_)
  · refine lv_iconst (v := 1) hx hb dX1_badRow_10 (by decide) ?_
    refine lv_goto (tgt := 15) hx hb dX1_badRow_11 (by decide) ?_
    exact kret hx hb hr hlocks hK hP hD hS rfl ⟨rfl, (bI_t (rr_neg (by decide) c1)).symm⟩ dX1_badRow_15
  · refine lv_iload_n hx hb dX1_badRow_4 rfl (lv_at hl 1 rfl) ?_
    refine lv_bipush (v := 7) hx hb dX1_badRow_5 (by decide) ?_
    refine lv_icmp_le (tgt := 14) hx hb dX1_badRow_7 (by decide) (fun c7 => ?_) (fun c7 => ?_)
    · refine lv_iconst (v := 0) hx hb dX1_badRow_14 (by decide) ?_
      exact kret hx hb hr hlocks hK hP hD hS rfl ⟨rfl, (bI_f (fun z => z (rr_le (N := 7) rfl (by decide) c1 c7))).symm⟩ dX1_badRow_15
    · refine lv_iconst (v := 1) hx hb dX1_badRow_10 (by decide) ?_
      refine lv_goto (tgt := 15) hx hb dX1_badRow_11 (by decide) ?_
      exact kret hx hb hr hlocks hK hP hD hS rfl ⟨rfl, (bI_t (rr_nle (N := 7) rfl (by decide) c7)).symm⟩ dX1_badRow_15
set_option maxHeartbeats 4000000 in
theorem mM_in (l : Launch) (D : va_G) (G : ClassId × ClassId) (ad : Nat → Nat) (z : TS) (w : Int64) {a : Nat} (ga : a < 64) : KI l D G (wm G ad) yX1_in (ws_ yX1_in cX1_in 4 (some .boolean)) 0 [.ref (ad 0), .long w, .int (nI a)] z (RO z (fun r => r = bI (lb w a))) := by
  refine KI.of (by decide) (Nat.le_of_ble_eq_true rfl) ?_
  intro p e s m below meth c A ls C hP hD hS hl
  obtain ⟨hx, hb, hr, hml, hown, hts, hlocks, hA, hK⟩ := id C
  have hown : s.vm.findClass RX1 = some m.cls := hown
  have hl : lv_has ls 4 [(0, .ref (ad 0)), (1, .long w), (3, .int (nI a))] := hl
  refine lv_lload_n hx hb dX1_in_0 rfl (lv_at hl 1 rfl) ?_
  refine lv_iload_n hx hb dX1_in_1 rfl (lv_at hl 2 rfl) ?_
  refine n_lshr hx hb dX1_in_2 ?_
  refine lv_lconst (v := 1) hx hb dX1_in_3 (by decide) ?_
  refine lv_land hx hb dX1_in_4 ?_
  refine lv_lconst (v := 1) hx hb dX1_in_5 (by decide) ?_
  refine W.lcmp hx hb dX1_in_6 ?_
  refine lv_if_ne (tgt := 14) hx hb dX1_in_7 (by decide) (fun c7 => ?_) (fun c7 => ?_)
  · refine lv_iconst (v := 0) hx hb dX1_in_14 (by decide) ?_
    exact kret hx hb hr hlocks hK hP hD hS rfl ⟨rfl, (bI_f (fun q => c7 ((lg_cmp_eq _ _).mpr ((shS_lb ga _).mpr q)))).symm⟩ dX1_in_15
  · refine lv_iconst (v := 1) hx hb dX1_in_10 (by decide) ?_
    refine lv_goto (tgt := 15) hx hb dX1_in_11 (by decide) ?_
    exact kret hx hb hr hlocks hK hP hD hS rfl ⟨rfl, (bI_t ((shS_lb ga _).mp ((lg_cmp_eq _ _).mp c7))).symm⟩ dX1_in_15
set_option maxHeartbeats 4000000 in
theorem lM_cancelled {p : Program} {l : Launch} {e : Env} {s : State} {m : MethodId} {args : Array Value} {below : List Frame} {meth : Method} {c : Code} {A : Nat → Prop} {D : va_G} {G : ClassId × ClassId} {ad : Nat → Nat} {post : Int32 → TS → Prop} (C : Cx p s m args meth c RX1 cX1_cancelled 4 (some .boolean) A D G) (z : TS) {r a : Nat} (gr : r < 3) (ga : a < 60) (gn : z.1 ≤ 60) (hpost : post (bI (mCanc z r a)) z) (hD : va_D A ((wm G ad) z)) : ∀ (k i : Nat), i + k = z.1 → (∀ j, j < i → ¬ mCb z r a j) → ∀ (H : Heap) (locs : List Loc) (ls : Array Slot), va_P D vwCl ((wm G ad) z) H → va_S A s.heap H locs → lv_has ls 4 [(0, .ref (ad 0)), (1, .int (nI r)), (2, .int (nI a)), (3, .int (nI i))] → W p l e (rmD 1) s m args below meth c H locs 0 0 (QI D G (wm G ad) below args s post A) (F0 m 2 ls []) := by
  obtain ⟨hx, hb, hr, hml, hown, hts, hlocks, hA, hK⟩ := id C
  intro k
  induction k with
  | zero =>
    intro i hi hs H locs ls hP hS hl
    obtain rfl : i = z.1 := by omega
    refine lv_iload_n hx hb dX1_cancelled_2 rfl (lv_at hl 3 rfl) ?_
    refine lv_aload_n hx hb dX1_cancelled_3 rfl (lv_at hl 0 rfl) ?_
    refine m_get 0 hx hb hts hown hK hP (by decide) rfl q182 rfl dX1_cancelled_4 ?_
    refine lv_icmp_ge (tgt := 71) hx hb dX1_cancelled_7 (by decide) (fun c7 => ?_) (fun c7 => absurd (Int32.le_refl _) c7)
    refine lv_iconst (v := 0) hx hb dX1_cancelled_71 (by decide) ?_
    exact kret hx hb hr hlocks hK hP hD hS rfl (by rw [bI_f (fun q : mCanc z r a => q.elim (fun b x => hs b x.1 x.2))] at hpost; exact hpost) dX1_cancelled_72
  | succ k ih =>
    intro i hi hs H locs ls hP hS hl
    have gi : i < 60 := by omega
    refine lv_iload_n hx hb dX1_cancelled_2 rfl (lv_at hl 3 rfl) ?_
    refine lv_aload_n hx hb dX1_cancelled_3 rfl (lv_at hl 0 rfl) ?_
    refine m_get 0 hx hb hts hown hK hP (by decide) rfl q182 rfl dX1_cancelled_4 ?_
    refine lv_icmp_ge (tgt := 71) hx hb dX1_cancelled_7 (by decide) (fun c7 => absurd c7 (nI_ge (by omega) (by omega))) (fun c7 => ?_)
    refine lv_aload_n hx hb dX1_cancelled_10 rfl (lv_at hl 0 rfl) ?_
    refine lv_aload_n hx hb dX1_cancelled_11 rfl (lv_at hl 0 rfl) ?_
    refine m_get 7 hx hb hts hown hK hP (by decide) rfl q189 rfl dX1_cancelled_12 ?_
    refine lv_iload_n hx hb dX1_cancelled_15 rfl (lv_at hl 1 rfl) ?_
    refine na_lald 7 hx hb hK hP rfl (by decide) (by omega) dX1_cancelled_16 ?_
    refine lv_iload_n hx hb dX1_cancelled_17 rfl (lv_at hl 3 rfl) ?_
    refine kcallVr (n := 2) (As := [.long (z.2.2 7 r), .int (nI i)]) (rest := []) ⟨hx, hb, hml, hown, hts⟩ (mM_in l D G ad z (z.2.2 7 r) (by omega)) (lw_V q230 q232 qs11 q16 q233) rfl (by decide +kernel) ⟨Nat.le_of_ble_eq_true rfl, Nat.le_of_ble_eq_true rfl⟩ (m_rv hK hP) hK hP hD hS hA hl.1 rfl (Nat.le_of_ble_eq_true rfl) dX1_cancelled_18 ⟨Nat.zero_le _, Nat.zero_le _⟩ (fun r18 H locs er18 hP hS => ?_)
    subst er18
    refine lv_if_eq (tgt := 65) hx hb dX1_cancelled_21 (by decide) (fun c21 => ?_) (fun c21 => ?_)
    · refine lv_iinc (v := nI (i + 1)) (lv' := [(3, .int (nI (i + 1))), (0, .ref (ad 0)), (1, .int (nI r)), (2, .int (nI a))]) hx hb dX1_cancelled_65 hl (k := 3) rfl (nI_1 _) (by decide) rfl (fun ls hl => ?_)
      refine lv_goto (tgt := 2) hx hb dX1_cancelled_68 (by decide) ?_
      exact ih (i + 1) (by omega) (lt_s hs (fun q => bI_eq c21 q.1)) _ _ _ hP hS (lv_sub hl [1, 2, 3, 0] rfl)
    · refine lv_aload_n hx hb dX1_cancelled_24 rfl (lv_at hl 0 rfl) ?_
      refine m_get 1 hx hb hts hown hK hP (by decide) rfl q183 rfl dX1_cancelled_25 ?_
      refine lv_iload_n hx hb dX1_cancelled_28 rfl (lv_at hl 3 rfl) ?_
      refine na_iald 1 hx hb hK hP rfl (by decide) (by omega) dX1_cancelled_29 ?_
      refine lv_iconst (v := 1) hx hb dX1_cancelled_30 (by decide) ?_
      refine lv_icmp_ne (tgt := 65) hx hb dX1_cancelled_31 (by decide) (fun c31 => ?_) (fun c31 => ?_)
      · refine lv_iinc (v := nI (i + 1)) (lv' := [(3, .int (nI (i + 1))), (0, .ref (ad 0)), (1, .int (nI r)), (2, .int (nI a))]) hx hb dX1_cancelled_65 hl (k := 3) rfl (nI_1 _) (by decide) rfl (fun ls hl => ?_)
        refine lv_goto (tgt := 2) hx hb dX1_cancelled_68 (by decide) ?_
        exact ih (i + 1) (by omega) (lt_s hs (fun q => c31 q.2.1)) _ _ _ hP hS (lv_sub hl [1, 2, 3, 0] rfl)
      · refine lv_aload_n hx hb dX1_cancelled_34 rfl (lv_at hl 0 rfl) ?_
        refine m_get 2 hx hb hts hown hK hP (by decide) rfl q184 rfl dX1_cancelled_35 ?_
        refine lv_iload_n hx hb dX1_cancelled_38 rfl (lv_at hl 3 rfl) ?_
        refine na_iald 2 hx hb hK hP rfl (by decide) (by omega) dX1_cancelled_39 ?_
        refine lv_aload_n hx hb dX1_cancelled_40 rfl (lv_at hl 0 rfl) ?_
        refine m_get 2 hx hb hts hown hK hP (by decide) rfl q184 rfl dX1_cancelled_41 ?_
        refine lv_iload_n hx hb dX1_cancelled_44 rfl (lv_at hl 2 rfl) ?_
        refine na_iald 2 hx hb hK hP rfl (by decide) (by omega) dX1_cancelled_45 ?_
        refine lv_icmp_ne (tgt := 65) hx hb dX1_cancelled_46 (by decide) (fun c46 => ?_) (fun c46 => ?_)
        · refine lv_iinc (v := nI (i + 1)) (lv' := [(3, .int (nI (i + 1))), (0, .ref (ad 0)), (1, .int (nI r)), (2, .int (nI a))]) hx hb dX1_cancelled_65 hl (k := 3) rfl (nI_1 _) (by decide) rfl (fun ls hl => ?_)
          refine lv_goto (tgt := 2) hx hb dX1_cancelled_68 (by decide) ?_
          exact ih (i + 1) (by omega) (lt_s hs (fun q => c46 q.2.2.1)) _ _ _ hP hS (lv_sub hl [1, 2, 3, 0] rfl)
        · refine lv_aload_n hx hb dX1_cancelled_49 rfl (lv_at hl 0 rfl) ?_
          refine lv_aload_n hx hb dX1_cancelled_50 rfl (lv_at hl 0 rfl) ?_
          refine m_get 6 hx hb hts hown hK hP (by decide) rfl q188 rfl dX1_cancelled_51 ?_
          refine lv_iload_n hx hb dX1_cancelled_54 rfl (lv_at hl 3 rfl) ?_
          refine na_lald 6 hx hb hK hP rfl (by decide) (by omega) dX1_cancelled_55 ?_
          refine lv_iload_n hx hb dX1_cancelled_56 rfl (lv_at hl 2 rfl) ?_
          refine kcallVr (n := 2) (As := [.long (z.2.2 6 i), .int (nI a)]) (rest := []) ⟨hx, hb, hml, hown, hts⟩ (mM_in l D G ad z (z.2.2 6 i) (by omega)) (lw_V q230 q232 qs11 q16 q233) rfl (by decide +kernel) ⟨Nat.le_of_ble_eq_true rfl, Nat.le_of_ble_eq_true rfl⟩ (m_rv hK hP) hK hP hD hS hA hl.1 rfl (Nat.le_of_ble_eq_true rfl) dX1_cancelled_57 ⟨Nat.zero_le _, Nat.zero_le _⟩ (fun r57 H locs er57 hP hS => ?_)
          subst er57
          refine lv_if_eq (tgt := 65) hx hb dX1_cancelled_60 (by decide) (fun c60 => ?_) (fun c60 => ?_)
          · refine lv_iinc (v := nI (i + 1)) (lv' := [(3, .int (nI (i + 1))), (0, .ref (ad 0)), (1, .int (nI r)), (2, .int (nI a))]) hx hb dX1_cancelled_65 hl (k := 3) rfl (nI_1 _) (by decide) rfl (fun ls hl => ?_)
            refine lv_goto (tgt := 2) hx hb dX1_cancelled_68 (by decide) ?_
            exact ih (i + 1) (by omega) (lt_s hs (fun q => bI_eq c60 q.2.2.2)) _ _ _ hP hS (lv_sub hl [1, 2, 3, 0] rfl)
          · refine lv_iconst (v := 1) hx hb dX1_cancelled_63 (by decide) ?_
            exact kret hx hb hr hlocks hK hP hD hS rfl (by rw [bI_t (p := mCanc z r a) ⟨i, by omega, bI_ne c21, c31, c46, bI_ne c60⟩] at hpost; exact hpost) dX1_cancelled_64
set_option maxHeartbeats 4000000 in
theorem mM_cancelled (l : Launch) (D : va_G) (G : ClassId × ClassId) (ad : Nat → Nat) (z : TS) {r a : Nat} (gr : r < 3) (ga : a < 60) (gn : z.1 ≤ 60) : KI l D G (wm G ad) yX1_cancelled (ws_ yX1_cancelled cX1_cancelled 4 (some .boolean)) 1 [.ref (ad 0), .int (nI r), .int (nI a)] z (RO z (fun q => q = bI (mCanc z r a))) := by
  refine KI.of (by decide) (Nat.le_of_ble_eq_true rfl) ?_
  intro p e s m below meth c A ls C hP hD hS hl
  obtain ⟨hx, hb, hr, hml, hown, hts, hlocks, hA, hK⟩ := id C
  have hown : s.vm.findClass RX1 = some m.cls := hown
  have hl : lv_has ls 4 [(0, .ref (ad 0)), (1, .int (nI r)), (2, .int (nI a))] := hl
  refine lv_iconst (v := 0) hx hb dX1_cancelled_0 (by decide) ?_
  refine lv_istore_n (lv' := [(3, .int 0), (0, .ref (ad 0)), (1, .int (nI r)), (2, .int (nI a))]) hx hb dX1_cancelled_1 rfl hl (by decide) rfl (fun ls hl => ?_)
  exact lM_cancelled C z gr ga gn ⟨rfl, rfl⟩ hD z.1 0 (Nat.zero_add _) (fun j h => absurd h (Nat.not_lt_zero _)) _ _ _ hP hS (lv_sub hl [1, 2, 3, 0] rfl)
set_option maxHeartbeats 4000000 in
theorem lM_there {p : Program} {l : Launch} {e : Env} {s : State} {m : MethodId} {args : Array Value} {below : List Frame} {meth : Method} {c : Code} {A : Nat → Prop} {D : va_G} {G : ClassId × ClassId} {ad : Nat → Nat} {post : Int32 → TS → Prop} (C : Cx p s m args meth c RX1 cX1_there 4 (some .boolean) A D G) (z : TS) {a : Nat} {wv : Int32} (ga : a < 3) (gn : z.1 ≤ 60) (hpost : post (bI (mThB z a wv)) z) (hD : va_D A ((wm G ad) z)) : ∀ (k i : Nat), i + k = z.1 → (∀ j, j < i → ¬ mTb z a wv j) → ∀ (H : Heap) (locs : List Loc) (ls : Array Slot), va_P D vwCl ((wm G ad) z) H → va_S A s.heap H locs → lv_has ls 4 [(0, .ref (ad 0)), (1, .int (nI a)), (2, .int wv), (3, .int (nI i))] → W p l e (rmD 2) s m args below meth c H locs 0 0 (QI D G (wm G ad) below args s post A) (F0 m 20 ls []) := by
  obtain ⟨hx, hb, hr, hml, hown, hts, hlocks, hA, hK⟩ := id C
  intro k
  induction k with
  | zero =>
    intro i hi hs H locs ls hP hS hl
    obtain rfl : i = z.1 := by omega
    refine lv_iload_n hx hb dX1_there_20 rfl (lv_at hl 3 rfl) ?_
    refine lv_aload_n hx hb dX1_there_21 rfl (lv_at hl 0 rfl) ?_
    refine m_get 0 hx hb hts hown hK hP (by decide) rfl q182 rfl dX1_there_22 ?_
    refine lv_icmp_ge (tgt := 78) hx hb dX1_there_25 (by decide) (fun c25 => ?_) (fun c25 => absurd (Int32.le_refl _) c25)
    refine lv_iconst (v := 0) hx hb dX1_there_78 (by decide) ?_
    exact kret hx hb hr hlocks hK hP hD hS rfl (by rw [bI_f (fun q : mThB z a wv => q.elim (fun b x => hs b x.1 x.2))] at hpost; exact hpost) dX1_there_79
  | succ k ih =>
    intro i hi hs H locs ls hP hS hl
    have gi : i < 60 := by omega
    refine lv_iload_n hx hb dX1_there_20 rfl (lv_at hl 3 rfl) ?_
    refine lv_aload_n hx hb dX1_there_21 rfl (lv_at hl 0 rfl) ?_
    refine m_get 0 hx hb hts hown hK hP (by decide) rfl q182 rfl dX1_there_22 ?_
    refine lv_icmp_ge (tgt := 78) hx hb dX1_there_25 (by decide) (fun c25 => absurd c25 (nI_ge (by omega) (by omega))) (fun c25 => ?_)
    refine lv_aload_n hx hb dX1_there_28 rfl (lv_at hl 0 rfl) ?_
    refine lv_aload_n hx hb dX1_there_29 rfl (lv_at hl 0 rfl) ?_
    refine m_get 7 hx hb hts hown hK hP (by decide) rfl q189 rfl dX1_there_30 ?_
    refine lv_iload_n hx hb dX1_there_33 rfl (lv_at hl 1 rfl) ?_
    refine na_lald 7 hx hb hK hP rfl (by decide) (by omega) dX1_there_34 ?_
    refine lv_iload_n hx hb dX1_there_35 rfl (lv_at hl 3 rfl) ?_
    refine kcallVr (n := 2) (As := [.long (z.2.2 7 a), .int (nI i)]) (rest := []) ⟨hx, hb, hml, hown, hts⟩ (mM_in l D G ad z (z.2.2 7 a) (by omega)) (lw_V q230 q232 qs11 q16 q233) rfl (by decide +kernel) ⟨Nat.le_of_ble_eq_true rfl, Nat.le_of_ble_eq_true rfl⟩ (m_rv hK hP) hK hP hD hS hA hl.1 rfl (Nat.le_of_ble_eq_true rfl) dX1_there_36 ⟨Nat.zero_le _, Nat.zero_le _⟩ (fun r36 H locs er36 hP hS => ?_)
    subst er36
    refine lv_if_eq (tgt := 72) hx hb dX1_there_39 (by decide) (fun c39 => ?_) (fun c39 => ?_)
    · refine lv_iinc (v := nI (i + 1)) (lv' := [(3, .int (nI (i + 1))), (0, .ref (ad 0)), (1, .int (nI a)), (2, .int wv)]) hx hb dX1_there_72 hl (k := 3) rfl (nI_1 _) (by decide) rfl (fun ls hl => ?_)
      refine lv_goto (tgt := 20) hx hb dX1_there_75 (by decide) ?_
      exact ih (i + 1) (by omega) (lt_s hs (fun q => bI_eq c39 q.1)) _ _ _ hP hS (lv_sub hl [1, 2, 3, 0] rfl)
    · refine lv_aload_n hx hb dX1_there_42 rfl (lv_at hl 0 rfl) ?_
      refine m_get 1 hx hb hts hown hK hP (by decide) rfl q183 rfl dX1_there_43 ?_
      refine lv_iload_n hx hb dX1_there_46 rfl (lv_at hl 3 rfl) ?_
      refine na_iald 1 hx hb hK hP rfl (by decide) (by omega) dX1_there_47 ?_
      refine lv_if_ne (tgt := 72) hx hb dX1_there_48 (by decide) (fun c48 => ?_) (fun c48 => ?_)
      · refine lv_iinc (v := nI (i + 1)) (lv' := [(3, .int (nI (i + 1))), (0, .ref (ad 0)), (1, .int (nI a)), (2, .int wv)]) hx hb dX1_there_72 hl (k := 3) rfl (nI_1 _) (by decide) rfl (fun ls hl => ?_)
        refine lv_goto (tgt := 20) hx hb dX1_there_75 (by decide) ?_
        exact ih (i + 1) (by omega) (lt_s hs (fun q => c48 q.2.1)) _ _ _ hP hS (lv_sub hl [1, 2, 3, 0] rfl)
      · refine lv_aload_n hx hb dX1_there_51 rfl (lv_at hl 0 rfl) ?_
        refine m_get 2 hx hb hts hown hK hP (by decide) rfl q184 rfl dX1_there_52 ?_
        refine lv_iload_n hx hb dX1_there_55 rfl (lv_at hl 3 rfl) ?_
        refine na_iald 2 hx hb hK hP rfl (by decide) (by omega) dX1_there_56 ?_
        refine lv_iload_n hx hb dX1_there_57 rfl (lv_at hl 2 rfl) ?_
        refine lv_icmp_ne (tgt := 72) hx hb dX1_there_58 (by decide) (fun c58 => ?_) (fun c58 => ?_)
        · refine lv_iinc (v := nI (i + 1)) (lv' := [(3, .int (nI (i + 1))), (0, .ref (ad 0)), (1, .int (nI a)), (2, .int wv)]) hx hb dX1_there_72 hl (k := 3) rfl (nI_1 _) (by decide) rfl (fun ls hl => ?_)
          refine lv_goto (tgt := 20) hx hb dX1_there_75 (by decide) ?_
          exact ih (i + 1) (by omega) (lt_s hs (fun q => c58 q.2.2.1)) _ _ _ hP hS (lv_sub hl [1, 2, 3, 0] rfl)
        · refine lv_aload_n hx hb dX1_there_61 rfl (lv_at hl 0 rfl) ?_
          refine lv_iload_n hx hb dX1_there_62 rfl (lv_at hl 1 rfl) ?_
          refine lv_iload_n hx hb dX1_there_63 rfl (lv_at hl 3 rfl) ?_
          refine kcallVr (n := 2) (As := [.int (nI a), .int (nI i)]) (rest := []) ⟨hx, hb, hml, hown, hts⟩ (mM_cancelled l D G ad z ga gi gn) (lw_V q234 q236 qs12 q16 q237) rfl (by decide +kernel) ⟨Nat.le_of_ble_eq_true rfl, Nat.le_of_ble_eq_true rfl⟩ (m_rv hK hP) hK hP hD hS hA hl.1 rfl (Nat.le_of_ble_eq_true rfl) dX1_there_64 ⟨Nat.zero_le _, Nat.zero_le _⟩ (fun r64 H locs er64 hP hS => ?_)
          subst er64
          refine lv_if_ne (tgt := 72) hx hb dX1_there_67 (by decide) (fun c67 => ?_) (fun c67 => ?_)
          · refine lv_iinc (v := nI (i + 1)) (lv' := [(3, .int (nI (i + 1))), (0, .ref (ad 0)), (1, .int (nI a)), (2, .int wv)]) hx hb dX1_there_72 hl (k := 3) rfl (nI_1 _) (by decide) rfl (fun ls hl => ?_)
            refine lv_goto (tgt := 20) hx hb dX1_there_75 (by decide) ?_
            exact ih (i + 1) (by omega) (lt_s hs (fun q => q.2.2.2 (bI_ne c67))) _ _ _ hP hS (lv_sub hl [1, 2, 3, 0] rfl)
          · refine lv_iconst (v := 1) hx hb dX1_there_70 (by decide) ?_
            exact kret hx hb hr hlocks hK hP hD hS rfl (by rw [bI_t (p := mThB z a wv) ⟨i, by omega, bI_ne c39, c48, c58, bI_eq c67⟩] at hpost; exact hpost) dX1_there_71
set_option maxHeartbeats 4000000 in
theorem mM_there (l : Launch) (D : va_G) (G : ClassId × ClassId) (ad : Nat → Nat) (z : TS) (p0 p1 : Int32) (gn : z.1 ≤ 60) : KI l D G (wm G ad) yX1_there (ws_ yX1_there cX1_there 4 (some .boolean)) 2 [.ref (ad 0), .int p0, .int p1] z (RO z (vf 3 8 p0 p1 (mTh z) 0)) := by
  refine KI.of (by decide) (Nat.le_of_ble_eq_true rfl) ?_
  intro p e s m below meth c A ls C hP hD hS hl
  obtain ⟨hx, hb, hr, hml, hown, hts, hlocks, hA, hK⟩ := id C
  have hown : s.vm.findClass RX1 = some m.cls := hown
  have hl : lv_has ls 4 [(0, .ref (ad 0)), (1, .int p0), (2, .int p1)] := hl
  refine lv_aload_n hx hb dX1_there_0 rfl (lv_at hl 0 rfl) ?_
  refine lv_iload_n hx hb dX1_there_1 rfl (lv_at hl 1 rfl) ?_
  refine kcallVr (n := 1) (As := [.int p0]) (rest := []) ⟨hx, hb, hml, hown, hts⟩ (mM_badReplica l D G ad z p0) (lw_V q218 q220 qs9 q16 q221) rfl (by decide +kernel) ⟨Nat.le_of_ble_eq_true rfl, Nat.le_of_ble_eq_true rfl⟩ (m_rv hK hP) hK hP hD hS hA hl.1 rfl (Nat.le_of_ble_eq_true rfl) dX1_there_2 ⟨Nat.zero_le _, Nat.zero_le _⟩ (fun r2 H locs er2 hP hS => ?_)
  subst er2
  refine lv_if_ne (tgt := 16) hx hb dX1_there_5 (by decide) (fun c5 => ?_) (fun c5 => ?_)
  · refine lv_iconst (v := 0) hx hb dX1_there_16 (by decide) ?_
    exact kret hx hb hr hlocks hK hP hD hS rfl ⟨rfl, vf_no (fun v => bI_ne c5 v.1) rfl⟩ dX1_there_17
  · refine lv_aload_n hx hb dX1_there_8 rfl (lv_at hl 0 rfl) ?_
    refine lv_iload_n hx hb dX1_there_9 rfl (lv_at hl 2 rfl) ?_
    refine kcallVr (n := 1) (As := [.int p1]) (rest := []) ⟨hx, hb, hml, hown, hts⟩ (mM_badRow l D G ad z p1) (lw_V q222 q224 qs10 q16 q225) rfl (by decide +kernel) ⟨Nat.le_of_ble_eq_true rfl, Nat.le_of_ble_eq_true rfl⟩ (m_rv hK hP) hK hP hD hS hA hl.1 rfl (Nat.le_of_ble_eq_true rfl) dX1_there_10 ⟨Nat.zero_le _, Nat.zero_le _⟩ (fun r10 H locs er10 hP hS => ?_)
    subst er10
    refine lv_if_eq (tgt := 18) hx hb dX1_there_13 (by decide) (fun c13 => ?_) (fun c13 => ?_)
    · obtain ⟨a, ga, rfl⟩ := bI_nn c5
      obtain ⟨b, gb, rfl⟩ := bI_nn c13
      refine lv_iconst (v := 0) hx hb dX1_there_18 (by decide) ?_
      refine lv_istore_n (lv' := [(3, .int 0), (0, .ref (ad 0)), (1, .int (nI a)), (2, .int (nI b))]) hx hb dX1_there_19 rfl hl (by decide) rfl (fun ls hl => ?_)
      exact lM_there C z ga gn ⟨rfl, vf_ok (by decide) (by decide) ga gb rfl⟩ hD z.1 0 (Nat.zero_add _) (fun j h => absurd h (Nat.not_lt_zero _)) _ _ _ hP hS (lv_sub hl [1, 2, 3, 0] rfl)
    · refine lv_iconst (v := 0) hx hb dX1_there_16 (by decide) ?_
      exact kret hx hb hr hlocks hK hP hD hS rfl ⟨rfl, vf_no (fun v => bI_ne c13 v.2) rfl⟩ dX1_there_17
set_option maxHeartbeats 4000000 in
theorem lM_last {p : Program} {l : Launch} {e : Env} {s : State} {m : MethodId} {args : Array Value} {below : List Frame} {meth : Method} {c : Code} {A : Nat → Prop} {D : va_G} {G : ClassId × ClassId} {ad : Nat → Nat} {post : Int32 → TS → Prop} (C : Cx p s m args meth c RX1 cX1_last 6 (some .int) A D G) (z : TS) {r : Nat} {wv kv : Int32} (gr : r < 3) (gn : z.1 ≤ 60) (hpost : post (mLast z r wv kv z.1) z) (hD : va_D A ((wm G ad) z)) : ∀ (k i : Nat), i + k = z.1 → ∀ (H : Heap) (locs : List Loc) (ls : Array Slot), va_P D vwCl ((wm G ad) z) H → va_S A s.heap H locs → lv_has ls 6 [(0, .ref (ad 0)), (1, .int (nI r)), (2, .int wv), (3, .int kv), (4, .int (mLast z r wv kv i)), (5, .int (nI i))] → W p l e (rmD 1) s m args below meth c H locs 0 0 (QI D G (wm G ad) below args s post A) (F0 m 6 ls []) := by
  obtain ⟨hx, hb, hr, hml, hown, hts, hlocks, hA, hK⟩ := id C
  intro k
  induction k with
  | zero =>
    intro i hi H locs ls hP hS hl
    obtain rfl : i = z.1 := by omega
    refine lv_iload hx hb dX1_last_6 (lv_at hl 5 rfl) ?_
    refine lv_aload_n hx hb dX1_last_8 rfl (lv_at hl 0 rfl) ?_
    refine m_get 0 hx hb hts hown hK hP (by decide) rfl q182 rfl dX1_last_9 ?_
    refine lv_icmp_ge (tgt := 118) hx hb dX1_last_12 (by decide) (fun c12 => ?_) (fun c12 => absurd (Int32.le_refl _) c12)
    refine lv_iload hx hb dX1_last_118 (lv_at hl 4 rfl) ?_
    exact kret hx hb hr hlocks hK hP hD hS rfl hpost dX1_last_120
  | succ k ih =>
    intro i hi H locs ls hP hS hl
    have gi : i < 60 := by omega
    refine lv_iload hx hb dX1_last_6 (lv_at hl 5 rfl) ?_
    refine lv_aload_n hx hb dX1_last_8 rfl (lv_at hl 0 rfl) ?_
    refine m_get 0 hx hb hts hown hK hP (by decide) rfl q182 rfl dX1_last_9 ?_
    refine lv_icmp_ge (tgt := 118) hx hb dX1_last_12 (by decide) (fun c12 => absurd c12 (nI_ge (by omega) (by omega))) (fun c12 => ?_)
    refine lv_aload_n hx hb dX1_last_15 rfl (lv_at hl 0 rfl) ?_
    refine lv_aload_n hx hb dX1_last_16 rfl (lv_at hl 0 rfl) ?_
    refine m_get 7 hx hb hts hown hK hP (by decide) rfl q189 rfl dX1_last_17 ?_
    refine lv_iload_n hx hb dX1_last_20 rfl (lv_at hl 1 rfl) ?_
    refine na_lald 7 hx hb hK hP rfl (by decide) (by omega) dX1_last_21 ?_
    refine lv_iload hx hb dX1_last_22 (lv_at hl 5 rfl) ?_
    refine kcallVr (n := 2) (As := [.long (z.2.2 7 r), .int (nI i)]) (rest := []) ⟨hx, hb, hml, hown, hts⟩ (mM_in l D G ad z (z.2.2 7 r) (by omega)) (lw_V q230 q232 qs11 q16 q233) rfl (by decide +kernel) ⟨Nat.le_of_ble_eq_true rfl, Nat.le_of_ble_eq_true rfl⟩ (m_rv hK hP) hK hP hD hS hA hl.1 rfl (Nat.le_of_ble_eq_true rfl) dX1_last_24 ⟨Nat.zero_le _, Nat.zero_le _⟩ (fun r24 H locs er24 hP hS => ?_)
    subst er24
    refine lv_if_eq (tgt := 112) hx hb dX1_last_27 (by decide) (fun c27 => ?_) (fun c27 => ?_)
    · refine lv_iinc (v := nI (i + 1)) (lv' := [(5, .int (nI (i + 1))), (0, .ref (ad 0)), (1, .int (nI r)), (2, .int wv), (3, .int kv), (4, .int (mLast z r wv kv i))]) hx hb dX1_last_112 hl (k := 5) rfl (nI_1 _) (by decide) rfl (fun ls hl => ?_)
      refine lv_goto (tgt := 6) hx hb dX1_last_115 (by decide) ?_
      have em : mLast z r wv kv i = mLast z r wv kv (i + 1) := (cT_f (p := mHit z r wv kv i ∧ mBet z i (mLast z r wv kv i)) (fun q => bI_eq c27 q.1.1) _ _).symm
      rw [em] at hl
      exact ih (i + 1) (by omega) _ _ _ hP hS (lv_sub hl [1, 2, 3, 4, 5, 0] rfl)
    · refine lv_aload_n hx hb dX1_last_30 rfl (lv_at hl 0 rfl) ?_
      refine m_get 1 hx hb hts hown hK hP (by decide) rfl q183 rfl dX1_last_31 ?_
      refine lv_iload hx hb dX1_last_34 (lv_at hl 5 rfl) ?_
      refine na_iald 1 hx hb hK hP rfl (by decide) (by omega) dX1_last_36 ?_
      refine lv_iload_n hx hb dX1_last_37 rfl (lv_at hl 3 rfl) ?_
      refine lv_icmp_ne (tgt := 112) hx hb dX1_last_38 (by decide) (fun c38 => ?_) (fun c38 => ?_)
      · refine lv_iinc (v := nI (i + 1)) (lv' := [(5, .int (nI (i + 1))), (0, .ref (ad 0)), (1, .int (nI r)), (2, .int wv), (3, .int kv), (4, .int (mLast z r wv kv i))]) hx hb dX1_last_112 hl (k := 5) rfl (nI_1 _) (by decide) rfl (fun ls hl => ?_)
        refine lv_goto (tgt := 6) hx hb dX1_last_115 (by decide) ?_
        have em : mLast z r wv kv i = mLast z r wv kv (i + 1) := (cT_f (p := mHit z r wv kv i ∧ mBet z i (mLast z r wv kv i)) (fun q => c38 q.1.2.1) _ _).symm
        rw [em] at hl
        exact ih (i + 1) (by omega) _ _ _ hP hS (lv_sub hl [1, 2, 3, 4, 5, 0] rfl)
      · refine lv_aload_n hx hb dX1_last_41 rfl (lv_at hl 0 rfl) ?_
        refine m_get 2 hx hb hts hown hK hP (by decide) rfl q184 rfl dX1_last_42 ?_
        refine lv_iload hx hb dX1_last_45 (lv_at hl 5 rfl) ?_
        refine na_iald 2 hx hb hK hP rfl (by decide) (by omega) dX1_last_47 ?_
        refine lv_iload_n hx hb dX1_last_48 rfl (lv_at hl 2 rfl) ?_
        refine lv_icmp_ne (tgt := 112) hx hb dX1_last_49 (by decide) (fun c49 => ?_) (fun c49 => ?_)
        · refine lv_iinc (v := nI (i + 1)) (lv' := [(5, .int (nI (i + 1))), (0, .ref (ad 0)), (1, .int (nI r)), (2, .int wv), (3, .int kv), (4, .int (mLast z r wv kv i))]) hx hb dX1_last_112 hl (k := 5) rfl (nI_1 _) (by decide) rfl (fun ls hl => ?_)
          refine lv_goto (tgt := 6) hx hb dX1_last_115 (by decide) ?_
          have em : mLast z r wv kv i = mLast z r wv kv (i + 1) := (cT_f (p := mHit z r wv kv i ∧ mBet z i (mLast z r wv kv i)) (fun q => c49 q.1.2.2) _ _).symm
          rw [em] at hl
          exact ih (i + 1) (by omega) _ _ _ hP hS (lv_sub hl [1, 2, 3, 4, 5, 0] rfl)
        · refine lv_iload hx hb dX1_last_52 (lv_at hl 4 rfl) ?_
          refine lv_if_lt (tgt := 108) hx hb dX1_last_54 (by decide) (fun c54 => ?_) (fun c54 => ?_)
          · refine lv_iload hx hb dX1_last_108 (lv_at hl 5 rfl) ?_
            refine lv_istore (lv' := [(4, .int (nI i)), (0, .ref (ad 0)), (1, .int (nI r)), (2, .int wv), (3, .int kv), (5, .int (nI i))]) hx hb dX1_last_110 hl (by decide) rfl (fun ls hl => ?_)
            refine lv_iinc (v := nI (i + 1)) (lv' := [(5, .int (nI (i + 1))), (4, .int (nI i)), (0, .ref (ad 0)), (1, .int (nI r)), (2, .int wv), (3, .int kv)]) hx hb dX1_last_112 hl (k := 5) rfl (nI_1 _) (by decide) rfl (fun ls hl => ?_)
            refine lv_goto (tgt := 6) hx hb dX1_last_115 (by decide) ?_
            have em : nI i = mLast z r wv kv (i + 1) := (cT_t (p := mHit z r wv kv i ∧ mBet z i (mLast z r wv kv i)) ⟨⟨bI_ne c27, c38, c49⟩, Or.inl c54⟩ _ _).symm
            rw [em] at hl
            exact ih (i + 1) (by omega) _ _ _ hP hS (lv_sub hl [2, 3, 4, 5, 1, 0] rfl)
          · obtain ⟨b, gb, eb⟩ := mLast_n c54
            have ec : (mLast z r wv kv i).toNatClampNeg = b := by rw [eb]; exact nI_clamp (by omega)
            rw [eb] at hl
            refine lv_aload_n hx hb dX1_last_57 rfl (lv_at hl 0 rfl) ?_
            refine m_get 4 hx hb hts hown hK hP (by decide) rfl q186 rfl dX1_last_58 ?_
            refine lv_iload hx hb dX1_last_61 (lv_at hl 5 rfl) ?_
            refine na_iald 4 hx hb hK hP rfl (by decide) (by omega) dX1_last_63 ?_
            refine lv_aload_n hx hb dX1_last_64 rfl (lv_at hl 0 rfl) ?_
            refine m_get 4 hx hb hts hown hK hP (by decide) rfl q186 rfl dX1_last_65 ?_
            refine lv_iload hx hb dX1_last_68 (lv_at hl 4 rfl) ?_
            refine na_iald 4 hx hb hK hP rfl (by decide) (by omega) dX1_last_70 ?_
            refine lv_icmp_gt (tgt := 108) hx hb dX1_last_71 (by decide) (fun c71 => ?_) (fun c71 => ?_)
            · refine lv_iload hx hb dX1_last_108 (lv_at hl 5 rfl) ?_
              refine lv_istore (lv' := [(4, .int (nI i)), (0, .ref (ad 0)), (1, .int (nI r)), (2, .int wv), (3, .int kv), (5, .int (nI i))]) hx hb dX1_last_110 hl (by decide) rfl (fun ls hl => ?_)
              refine lv_iinc (v := nI (i + 1)) (lv' := [(5, .int (nI (i + 1))), (4, .int (nI i)), (0, .ref (ad 0)), (1, .int (nI r)), (2, .int wv), (3, .int kv)]) hx hb dX1_last_112 hl (k := 5) rfl (nI_1 _) (by decide) rfl (fun ls hl => ?_)
              refine lv_goto (tgt := 6) hx hb dX1_last_115 (by decide) ?_
              have em : nI i = mLast z r wv kv (i + 1) := (cT_t (p := mHit z r wv kv i ∧ mBet z i (mLast z r wv kv i)) ⟨⟨bI_ne c27, c38, c49⟩, Or.inr (Or.inl (by rw [ec]; exact c71))⟩ _ _).symm
              rw [em] at hl
              exact ih (i + 1) (by omega) _ _ _ hP hS (lv_sub hl [2, 3, 4, 5, 1, 0] rfl)
            · refine lv_aload_n hx hb dX1_last_74 rfl (lv_at hl 0 rfl) ?_
              refine m_get 4 hx hb hts hown hK hP (by decide) rfl q186 rfl dX1_last_75 ?_
              refine lv_iload hx hb dX1_last_78 (lv_at hl 5 rfl) ?_
              refine na_iald 4 hx hb hK hP rfl (by decide) (by omega) dX1_last_80 ?_
              refine lv_aload_n hx hb dX1_last_81 rfl (lv_at hl 0 rfl) ?_
              refine m_get 4 hx hb hts hown hK hP (by decide) rfl q186 rfl dX1_last_82 ?_
              refine lv_iload hx hb dX1_last_85 (lv_at hl 4 rfl) ?_
              refine na_iald 4 hx hb hK hP rfl (by decide) (by omega) dX1_last_87 ?_
              refine lv_icmp_ne (tgt := 112) hx hb dX1_last_88 (by decide) (fun c88 => ?_) (fun c88 => ?_)
              · refine lv_iinc (v := nI (i + 1)) (lv' := [(5, .int (nI (i + 1))), (0, .ref (ad 0)), (1, .int (nI r)), (2, .int wv), (3, .int kv), (4, .int (nI b))]) hx hb dX1_last_112 hl (k := 5) rfl (nI_1 _) (by decide) rfl (fun ls hl => ?_)
                refine lv_goto (tgt := 6) hx hb dX1_last_115 (by decide) ?_
                have em : nI b = mLast z r wv kv (i + 1) := eb.symm.trans (cT_f (p := mHit z r wv kv i ∧ mBet z i (mLast z r wv kv i)) (fun q => (q.2.elim c54 (fun x => x.elim (fun y => c71 (by rw [ec] at y; exact y)) (fun y => c88 (by rw [ec] at y; exact y.1))))) _ _).symm
                rw [em] at hl
                exact ih (i + 1) (by omega) _ _ _ hP hS (lv_sub hl [1, 2, 3, 4, 5, 0] rfl)
              · refine lv_aload_n hx hb dX1_last_91 rfl (lv_at hl 0 rfl) ?_
                refine m_get 5 hx hb hts hown hK hP (by decide) rfl q187 rfl dX1_last_92 ?_
                refine lv_iload hx hb dX1_last_95 (lv_at hl 5 rfl) ?_
                refine na_iald 5 hx hb hK hP rfl (by decide) (by omega) dX1_last_97 ?_
                refine lv_aload_n hx hb dX1_last_98 rfl (lv_at hl 0 rfl) ?_
                refine m_get 5 hx hb hts hown hK hP (by decide) rfl q187 rfl dX1_last_99 ?_
                refine lv_iload hx hb dX1_last_102 (lv_at hl 4 rfl) ?_
                refine na_iald 5 hx hb hK hP rfl (by decide) (by omega) dX1_last_104 ?_
                refine lv_icmp_le (tgt := 112) hx hb dX1_last_105 (by decide) (fun c105 => ?_) (fun c105 => ?_)
                · refine lv_iinc (v := nI (i + 1)) (lv' := [(5, .int (nI (i + 1))), (0, .ref (ad 0)), (1, .int (nI r)), (2, .int wv), (3, .int kv), (4, .int (nI b))]) hx hb dX1_last_112 hl (k := 5) rfl (nI_1 _) (by decide) rfl (fun ls hl => ?_)
                  refine lv_goto (tgt := 6) hx hb dX1_last_115 (by decide) ?_
                  have em : nI b = mLast z r wv kv (i + 1) := eb.symm.trans (cT_f (p := mHit z r wv kv i ∧ mBet z i (mLast z r wv kv i)) (fun q => (q.2.elim c54 (fun x => x.elim (fun y => c71 (by rw [ec] at y; exact y)) (fun y => i_nlt c105 (by rw [ec] at y; exact y.2))))) _ _).symm
                  rw [em] at hl
                  exact ih (i + 1) (by omega) _ _ _ hP hS (lv_sub hl [1, 2, 3, 4, 5, 0] rfl)
                · refine lv_iload hx hb dX1_last_108 (lv_at hl 5 rfl) ?_
                  refine lv_istore (lv' := [(4, .int (nI i)), (0, .ref (ad 0)), (1, .int (nI r)), (2, .int wv), (3, .int kv), (5, .int (nI i))]) hx hb dX1_last_110 hl (by decide) rfl (fun ls hl => ?_)
                  refine lv_iinc (v := nI (i + 1)) (lv' := [(5, .int (nI (i + 1))), (4, .int (nI i)), (0, .ref (ad 0)), (1, .int (nI r)), (2, .int wv), (3, .int kv)]) hx hb dX1_last_112 hl (k := 5) rfl (nI_1 _) (by decide) rfl (fun ls hl => ?_)
                  refine lv_goto (tgt := 6) hx hb dX1_last_115 (by decide) ?_
                  have em : nI i = mLast z r wv kv (i + 1) := (cT_t (p := mHit z r wv kv i ∧ mBet z i (mLast z r wv kv i)) ⟨⟨bI_ne c27, c38, c49⟩, Or.inr (Or.inr ⟨by rw [ec]; exact c88, by rw [ec]; exact i_lt c105⟩)⟩ _ _).symm
                  rw [em] at hl
                  exact ih (i + 1) (by omega) _ _ _ hP hS (lv_sub hl [2, 3, 4, 5, 1, 0] rfl)
set_option maxHeartbeats 4000000 in
theorem mM_last (l : Launch) (D : va_G) (G : ClassId × ClassId) (ad : Nat → Nat) (z : TS) {r : Nat} (wv kv : Int32) (gr : r < 3) (gn : z.1 ≤ 60) : KI l D G (wm G ad) yX1_last (ws_ yX1_last cX1_last 6 (some .int)) 1 [.ref (ad 0), .int (nI r), .int wv, .int kv] z (RO z (fun q => q = mLast z r wv kv z.1)) := by
  refine KI.of (by decide) (Nat.le_of_ble_eq_true rfl) ?_
  intro p e s m below meth c A ls C hP hD hS hl
  obtain ⟨hx, hb, hr, hml, hown, hts, hlocks, hA, hK⟩ := id C
  have hown : s.vm.findClass RX1 = some m.cls := hown
  have hl : lv_has ls 6 [(0, .ref (ad 0)), (1, .int (nI r)), (2, .int wv), (3, .int kv)] := hl
  refine lv_iconst (v := (-1)) hx hb dX1_last_0 (by decide) ?_
  refine lv_istore (lv' := [(4, .int (-1)), (0, .ref (ad 0)), (1, .int (nI r)), (2, .int wv), (3, .int kv)]) hx hb dX1_last_1 hl (by decide) rfl (fun ls hl => ?_)
  refine lv_iconst (v := 0) hx hb dX1_last_3 (by decide) ?_
  refine lv_istore (lv' := [(5, .int 0), (4, .int (-1)), (0, .ref (ad 0)), (1, .int (nI r)), (2, .int wv), (3, .int kv)]) hx hb dX1_last_4 hl (by decide) rfl (fun ls hl => ?_)
  exact lM_last C z gr gn ⟨rfl, rfl⟩ hD z.1 0 (Nat.zero_add _) _ _ _ hP hS (lv_sub hl [2, 3, 4, 5, 1, 0] rfl)
end
section
/-! CrdtTableModel: questions -/
set_option maxRecDepth 100000
set_option maxHeartbeats 4000000 in
theorem mM_nameOf (l : Launch) (D : va_G) (G : ClassId × ClassId) (ad : Nat → Nat) (z : TS) (p0 p1 : Int32) (gn : z.1 ≤ 60) : KI l D G (wm G ad) yX1_nameOf (ws_ yX1_nameOf cX1_nameOf 4 (some .int)) 3 [.ref (ad 0), .int p0, .int p1] z (RO z (vf 3 8 p0 p1 (mName z) 0)) := by
  refine KI.of (by decide) (Nat.le_of_ble_eq_true rfl) ?_
  intro p e s m below meth c A ls C hP hD hS hl
  obtain ⟨hx, hb, hr, hml, hown, hts, hlocks, hA, hK⟩ := id C
  have hown : s.vm.findClass RX1 = some m.cls := hown
  have hl : lv_has ls 4 [(0, .ref (ad 0)), (1, .int p0), (2, .int p1)] := hl
  refine lv_aload_n hx hb dX1_nameOf_0 rfl (lv_at hl 0 rfl) ?_
  refine lv_iload_n hx hb dX1_nameOf_1 rfl (lv_at hl 1 rfl) ?_
  refine lv_iload_n hx hb dX1_nameOf_2 rfl (lv_at hl 2 rfl) ?_
  refine kcallVr (n := 2) (As := [.int p0, .int p1]) (rest := []) ⟨hx, hb, hml, hown, hts⟩ (mM_there l D G ad z p0 p1 gn) (lw_V q226 q227 q228 q16 q229) rfl (by decide +kernel) ⟨Nat.le_of_ble_eq_true rfl, Nat.le_of_ble_eq_true rfl⟩ (m_rv hK hP) hK hP hD hS hA hl.1 rfl (Nat.le_of_ble_eq_true rfl) dX1_nameOf_3 ⟨Nat.zero_le _, Nat.zero_le _⟩ (fun r3 H locs er3 hP hS => ?_)
  refine lv_if_ne (tgt := 11) hx hb dX1_nameOf_6 (by decide) (fun c6 => ?_) (fun c6 => ?_)
  · obtain ⟨a, b, ga, gb, rfl, rfl, th⟩ := mth_yes er3 c6
    refine lv_aload_n hx hb dX1_nameOf_11 rfl (lv_at hl 0 rfl) ?_
    refine lv_iload_n hx hb dX1_nameOf_12 rfl (lv_at hl 1 rfl) ?_
    refine lv_iload_n hx hb dX1_nameOf_13 rfl (lv_at hl 2 rfl) ?_
    refine lv_iconst (v := 2) hx hb dX1_nameOf_14 (by decide) ?_
    refine kcallVr (n := 3) (As := [.int (nI a), .int (nI b), .int 2]) (rest := []) ⟨hx, hb, hml, hown, hts⟩ (mM_last l D G ad z (nI b) 2 ga gn) (lw_V q268 q270 qs13 q16 q271) rfl (by decide +kernel) ⟨Nat.le_of_ble_eq_true rfl, Nat.le_of_ble_eq_true rfl⟩ (m_rv hK hP) hK hP hD hS hA hl.1 rfl (Nat.le_of_ble_eq_true rfl) dX1_nameOf_15 ⟨Nat.zero_le _, Nat.zero_le _⟩ (fun r15 H locs er15 hP hS => ?_)
    subst er15
    refine lv_istore_n (lv' := [(3, .int (mLast z a (nI b) 2 z.1)), (0, .ref (ad 0)), (1, .int (nI a)), (2, .int (nI b))]) hx hb dX1_nameOf_18 rfl hl (by decide) rfl (fun ls hl => ?_)
    refine lv_iload_n hx hb dX1_nameOf_19 rfl (lv_at hl 0 rfl) ?_
    refine lv_if_ge (tgt := 27) hx hb dX1_nameOf_20 (by decide) (fun c20 => ?_) (fun c20 => ?_)
    · obtain ⟨j, gj, ej⟩ := mLast_n (i_nlt c20)
      have ec : (mLast z a (nI b) 2 z.1).toNatClampNeg = j := by rw [ej]; exact nI_clamp (by omega)
      rw [ej] at hl
      refine lv_aload_n hx hb dX1_nameOf_27 rfl (lv_at hl 1 rfl) ?_
      refine m_get 3 hx hb hts hown hK hP (by decide) rfl q185 rfl dX1_nameOf_28 ?_
      refine lv_iload_n hx hb dX1_nameOf_31 rfl (lv_at hl 0 rfl) ?_
      refine na_iald 3 hx hb hK hP rfl (by decide) (by omega) dX1_nameOf_32 ?_
      exact kret hx hb hr hlocks hK hP hD hS rfl ⟨rfl, vf_ok (by decide) (by decide) ga gb (by unfold mName; rw [cT_t th, cT_f (i_nlt c20), ec])⟩ dX1_nameOf_33
    · refine lv_iconst (v := 0) hx hb dX1_nameOf_23 (by decide) ?_
      refine lv_goto (tgt := 33) hx hb dX1_nameOf_24 (by decide) ?_
      exact kret hx hb hr hlocks hK hP hD hS rfl ⟨rfl, vf_ok (by decide) (by decide) ga gb (by unfold mName; rw [cT_t th, cT_t (i_lt c20)])⟩ dX1_nameOf_33
  · refine lv_iconst (v := 0) hx hb dX1_nameOf_9 (by decide) ?_
    exact kret hx hb hr hlocks hK hP hD hS rfl ⟨rfl, mth_no er3 c6 (fun a b h => cT_f h _ _)⟩ dX1_nameOf_10
set_option maxHeartbeats 4000000 in
theorem lM_count {p : Program} {l : Launch} {e : Env} {s : State} {m : MethodId} {args : Array Value} {below : List Frame} {meth : Method} {c : Code} {A : Nat → Prop} {D : va_G} {G : ClassId × ClassId} {ad : Nat → Nat} {post : Int32 → TS → Prop} (C : Cx p s m args meth c RX1 cX1_countOf 5 (some .int) A D G) (z : TS) {a : Nat} {wv : Int32} (ga : a < 3) (gn : z.1 ≤ 60) (hpost : post (mSumR z a wv z.1) z) (hD : va_D A ((wm G ad) z)) : ∀ (k i : Nat), i + k = z.1 → ∀ (H : Heap) (locs : List Loc) (ls : Array Slot), va_P D vwCl ((wm G ad) z) H → va_S A s.heap H locs → lv_has ls 5 [(0, .ref (ad 0)), (1, .int (nI a)), (2, .int wv), (3, .int (mSumR z a wv i)), (4, .int (nI i))] → W p l e (rmD 3) s m args below meth c H locs 0 0 (QI D G (wm G ad) below args s post A) (F0 m 16 ls []) := by
  obtain ⟨hx, hb, hr, hml, hown, hts, hlocks, hA, hK⟩ := id C
  intro k
  induction k with
  | zero =>
    intro i hi H locs ls hP hS hl
    obtain rfl : i = z.1 := by omega
    refine lv_iload hx hb dX1_countOf_16 (lv_at hl 4 rfl) ?_
    refine lv_aload_n hx hb dX1_countOf_18 rfl (lv_at hl 0 rfl) ?_
    refine m_get 0 hx hb hts hown hK hP (by decide) rfl q182 rfl dX1_countOf_19 ?_
    refine lv_icmp_ge (tgt := 78) hx hb dX1_countOf_22 (by decide) (fun c22 => ?_) (fun c22 => absurd (Int32.le_refl _) c22)
    refine lv_iload_n hx hb dX1_countOf_78 rfl (lv_at hl 3 rfl) ?_
    exact kret hx hb hr hlocks hK hP hD hS rfl hpost dX1_countOf_79
  | succ k ih =>
    intro i hi H locs ls hP hS hl
    have gi : i < 60 := by omega
    refine lv_iload hx hb dX1_countOf_16 (lv_at hl 4 rfl) ?_
    refine lv_aload_n hx hb dX1_countOf_18 rfl (lv_at hl 0 rfl) ?_
    refine m_get 0 hx hb hts hown hK hP (by decide) rfl q182 rfl dX1_countOf_19 ?_
    refine lv_icmp_ge (tgt := 78) hx hb dX1_countOf_22 (by decide) (fun c22 => absurd c22 (nI_ge (by omega) (by omega))) (fun c22 => ?_)
    refine lv_aload_n hx hb dX1_countOf_25 rfl (lv_at hl 0 rfl) ?_
    refine lv_aload_n hx hb dX1_countOf_26 rfl (lv_at hl 0 rfl) ?_
    refine m_get 7 hx hb hts hown hK hP (by decide) rfl q189 rfl dX1_countOf_27 ?_
    refine lv_iload_n hx hb dX1_countOf_30 rfl (lv_at hl 1 rfl) ?_
    refine na_lald 7 hx hb hK hP rfl (by decide) (by omega) dX1_countOf_31 ?_
    refine lv_iload hx hb dX1_countOf_32 (lv_at hl 4 rfl) ?_
    refine kcallVr (n := 2) (As := [.long (z.2.2 7 a), .int (nI i)]) (rest := []) ⟨hx, hb, hml, hown, hts⟩ (mM_in l D G ad z (z.2.2 7 a) (by omega)) (lw_V q230 q232 qs11 q16 q233) rfl (by decide +kernel) ⟨Nat.le_of_ble_eq_true rfl, Nat.le_of_ble_eq_true rfl⟩ (m_rv hK hP) hK hP hD hS hA hl.1 rfl (Nat.le_of_ble_eq_true rfl) dX1_countOf_34 ⟨Nat.zero_le _, Nat.zero_le _⟩ (fun r34 H locs er34 hP hS => ?_)
    subst er34
    refine lv_if_eq (tgt := 72) hx hb dX1_countOf_37 (by decide) (fun c37 => ?_) (fun c37 => ?_)
    · refine lv_iinc (v := nI (i + 1)) (lv' := [(4, .int (nI (i + 1))), (0, .ref (ad 0)), (1, .int (nI a)), (2, .int wv), (3, .int (mSumR z a wv i))]) hx hb dX1_countOf_72 hl (k := 4) rfl (nI_1 _) (by decide) rfl (fun ls hl => ?_)
      refine lv_goto (tgt := 16) hx hb dX1_countOf_75 (by decide) ?_
      have em : mSumR z a wv i = mSumR z a wv (i + 1) := (cT_f (p := mHit z a wv 3 i) (fun q => bI_eq c37 q.1) _ _).symm
      rw [em] at hl
      exact ih (i + 1) (by omega) _ _ _ hP hS (lv_sub hl [1, 2, 3, 4, 0] rfl)
    · refine lv_aload_n hx hb dX1_countOf_40 rfl (lv_at hl 0 rfl) ?_
      refine m_get 1 hx hb hts hown hK hP (by decide) rfl q183 rfl dX1_countOf_41 ?_
      refine lv_iload hx hb dX1_countOf_44 (lv_at hl 4 rfl) ?_
      refine na_iald 1 hx hb hK hP rfl (by decide) (by omega) dX1_countOf_46 ?_
      refine lv_iconst (v := 3) hx hb dX1_countOf_47 (by decide) ?_
      refine lv_icmp_ne (tgt := 72) hx hb dX1_countOf_48 (by decide) (fun c48 => ?_) (fun c48 => ?_)
      · refine lv_iinc (v := nI (i + 1)) (lv' := [(4, .int (nI (i + 1))), (0, .ref (ad 0)), (1, .int (nI a)), (2, .int wv), (3, .int (mSumR z a wv i))]) hx hb dX1_countOf_72 hl (k := 4) rfl (nI_1 _) (by decide) rfl (fun ls hl => ?_)
        refine lv_goto (tgt := 16) hx hb dX1_countOf_75 (by decide) ?_
        have em : mSumR z a wv i = mSumR z a wv (i + 1) := (cT_f (p := mHit z a wv 3 i) (fun q => c48 q.2.1) _ _).symm
        rw [em] at hl
        exact ih (i + 1) (by omega) _ _ _ hP hS (lv_sub hl [1, 2, 3, 4, 0] rfl)
      · refine lv_aload_n hx hb dX1_countOf_51 rfl (lv_at hl 0 rfl) ?_
        refine m_get 2 hx hb hts hown hK hP (by decide) rfl q184 rfl dX1_countOf_52 ?_
        refine lv_iload hx hb dX1_countOf_55 (lv_at hl 4 rfl) ?_
        refine na_iald 2 hx hb hK hP rfl (by decide) (by omega) dX1_countOf_57 ?_
        refine lv_iload_n hx hb dX1_countOf_58 rfl (lv_at hl 2 rfl) ?_
        refine lv_icmp_ne (tgt := 72) hx hb dX1_countOf_59 (by decide) (fun c59 => ?_) (fun c59 => ?_)
        · refine lv_iinc (v := nI (i + 1)) (lv' := [(4, .int (nI (i + 1))), (0, .ref (ad 0)), (1, .int (nI a)), (2, .int wv), (3, .int (mSumR z a wv i))]) hx hb dX1_countOf_72 hl (k := 4) rfl (nI_1 _) (by decide) rfl (fun ls hl => ?_)
          refine lv_goto (tgt := 16) hx hb dX1_countOf_75 (by decide) ?_
          have em : mSumR z a wv i = mSumR z a wv (i + 1) := (cT_f (p := mHit z a wv 3 i) (fun q => c59 q.2.2) _ _).symm
          rw [em] at hl
          exact ih (i + 1) (by omega) _ _ _ hP hS (lv_sub hl [1, 2, 3, 4, 0] rfl)
        · refine lv_iload_n hx hb dX1_countOf_62 rfl (lv_at hl 3 rfl) ?_
          refine lv_aload_n hx hb dX1_countOf_63 rfl (lv_at hl 0 rfl) ?_
          refine m_get 3 hx hb hts hown hK hP (by decide) rfl q185 rfl dX1_countOf_64 ?_
          refine lv_iload hx hb dX1_countOf_67 (lv_at hl 4 rfl) ?_
          refine na_iald 3 hx hb hK hP rfl (by decide) (by omega) dX1_countOf_69 ?_
          refine lv_iadd hx hb dX1_countOf_70 ?_
          refine w_ti (y := mSumR z a wv (i + 1)) (cT_t (p := mHit z a wv 3 i) ⟨bI_ne c37, c48, c59⟩ _ _).symm ?_
          refine lv_istore_n (lv' := [(3, .int (mSumR z a wv (i + 1))), (0, .ref (ad 0)), (1, .int (nI a)), (2, .int wv), (4, .int (nI i))]) hx hb dX1_countOf_71 rfl hl (by decide) rfl (fun ls hl => ?_)
          refine lv_iinc (v := nI (i + 1)) (lv' := [(4, .int (nI (i + 1))), (3, .int (mSumR z a wv (i + 1))), (0, .ref (ad 0)), (1, .int (nI a)), (2, .int wv)]) hx hb dX1_countOf_72 hl (k := 4) rfl (nI_1 _) (by decide) rfl (fun ls hl => ?_)
          refine lv_goto (tgt := 16) hx hb dX1_countOf_75 (by decide) ?_
          exact ih (i + 1) (by omega) _ _ _ hP hS (lv_sub hl [2, 3, 4, 1, 0] rfl)
set_option maxHeartbeats 4000000 in
theorem mM_countOf (l : Launch) (D : va_G) (G : ClassId × ClassId) (ad : Nat → Nat) (z : TS) (p0 p1 : Int32) (gn : z.1 ≤ 60) : KI l D G (wm G ad) yX1_countOf (ws_ yX1_countOf cX1_countOf 5 (some .int)) 3 [.ref (ad 0), .int p0, .int p1] z (RO z (vf 3 8 p0 p1 (mCount z) 0)) := by
  refine KI.of (by decide) (Nat.le_of_ble_eq_true rfl) ?_
  intro p e s m below meth c A ls C hP hD hS hl
  obtain ⟨hx, hb, hr, hml, hown, hts, hlocks, hA, hK⟩ := id C
  have hown : s.vm.findClass RX1 = some m.cls := hown
  have hl : lv_has ls 5 [(0, .ref (ad 0)), (1, .int p0), (2, .int p1)] := hl
  refine lv_aload_n hx hb dX1_countOf_0 rfl (lv_at hl 0 rfl) ?_
  refine lv_iload_n hx hb dX1_countOf_1 rfl (lv_at hl 1 rfl) ?_
  refine lv_iload_n hx hb dX1_countOf_2 rfl (lv_at hl 2 rfl) ?_
  refine kcallVr (n := 2) (As := [.int p0, .int p1]) (rest := []) ⟨hx, hb, hml, hown, hts⟩ (mM_there l D G ad z p0 p1 gn) (lw_V q226 q227 q228 q16 q229) rfl (by decide +kernel) ⟨Nat.le_of_ble_eq_true rfl, Nat.le_of_ble_eq_true rfl⟩ (m_rv hK hP) hK hP hD hS hA hl.1 rfl (Nat.le_of_ble_eq_true rfl) dX1_countOf_3 ⟨Nat.zero_le _, Nat.zero_le _⟩ (fun r3 H locs er3 hP hS => ?_)
  refine lv_if_ne (tgt := 11) hx hb dX1_countOf_6 (by decide) (fun c6 => ?_) (fun c6 => ?_)
  · obtain ⟨a, b, ga, gb, rfl, rfl, th⟩ := mth_yes er3 c6
    refine lv_iconst (v := 0) hx hb dX1_countOf_11 (by decide) ?_
    refine lv_istore_n (lv' := [(3, .int 0), (0, .ref (ad 0)), (1, .int (nI a)), (2, .int (nI b))]) hx hb dX1_countOf_12 rfl hl (by decide) rfl (fun ls hl => ?_)
    refine lv_iconst (v := 0) hx hb dX1_countOf_13 (by decide) ?_
    refine lv_istore (lv' := [(4, .int 0), (3, .int 0), (0, .ref (ad 0)), (1, .int (nI a)), (2, .int (nI b))]) hx hb dX1_countOf_14 hl (by decide) rfl (fun ls hl => ?_)
    exact lM_count C z ga gn ⟨rfl, vf_ok (by decide) (by decide) ga gb (cT_t th _ _).symm⟩ hD z.1 0 (Nat.zero_add _) _ _ _ hP hS (lv_sub hl [2, 3, 4, 1, 0] rfl)
  · refine lv_iconst (v := 0) hx hb dX1_countOf_9 (by decide) ?_
    exact kret hx hb hr hlocks hK hP hD hS rfl ⟨rfl, mth_no er3 c6 (fun a b h => cT_f h _ _)⟩ dX1_countOf_10
set_option maxHeartbeats 4000000 in
theorem mM_linkOf (l : Launch) (D : va_G) (G : ClassId × ClassId) (ad : Nat → Nat) (z : TS) (p0 p1 : Int32) (gn : z.1 ≤ 60) : KI l D G (wm G ad) yX1_linkOf (ws_ yX1_linkOf cX1_linkOf 4 (some .int)) 3 [.ref (ad 0), .int p0, .int p1] z (RO z (vf 3 8 p0 p1 (mLink z) (-1))) := by
  refine KI.of (by decide) (Nat.le_of_ble_eq_true rfl) ?_
  intro p e s m below meth c A ls C hP hD hS hl
  obtain ⟨hx, hb, hr, hml, hown, hts, hlocks, hA, hK⟩ := id C
  have hown : s.vm.findClass RX1 = some m.cls := hown
  have hl : lv_has ls 4 [(0, .ref (ad 0)), (1, .int p0), (2, .int p1)] := hl
  refine lv_aload_n hx hb dX1_linkOf_0 rfl (lv_at hl 0 rfl) ?_
  refine lv_iload_n hx hb dX1_linkOf_1 rfl (lv_at hl 1 rfl) ?_
  refine lv_iload_n hx hb dX1_linkOf_2 rfl (lv_at hl 2 rfl) ?_
  refine kcallVr (n := 2) (As := [.int p0, .int p1]) (rest := []) ⟨hx, hb, hml, hown, hts⟩ (mM_there l D G ad z p0 p1 gn) (lw_V q226 q227 q228 q16 q229) rfl (by decide +kernel) ⟨Nat.le_of_ble_eq_true rfl, Nat.le_of_ble_eq_true rfl⟩ (m_rv hK hP) hK hP hD hS hA hl.1 rfl (Nat.le_of_ble_eq_true rfl) dX1_linkOf_3 ⟨Nat.zero_le _, Nat.zero_le _⟩ (fun r3 H locs er3 hP hS => ?_)
  refine lv_if_ne (tgt := 11) hx hb dX1_linkOf_6 (by decide) (fun c6 => ?_) (fun c6 => ?_)
  · obtain ⟨a, b, ga, gb, rfl, rfl, th⟩ := mth_yes er3 c6
    refine lv_aload_n hx hb dX1_linkOf_11 rfl (lv_at hl 0 rfl) ?_
    refine lv_iload_n hx hb dX1_linkOf_12 rfl (lv_at hl 1 rfl) ?_
    refine lv_iload_n hx hb dX1_linkOf_13 rfl (lv_at hl 2 rfl) ?_
    refine lv_iconst (v := 4) hx hb dX1_linkOf_14 (by decide) ?_
    refine kcallVr (n := 3) (As := [.int (nI a), .int (nI b), .int 4]) (rest := []) ⟨hx, hb, hml, hown, hts⟩ (mM_last l D G ad z (nI b) 4 ga gn) (lw_V q268 q270 qs13 q16 q271) rfl (by decide +kernel) ⟨Nat.le_of_ble_eq_true rfl, Nat.le_of_ble_eq_true rfl⟩ (m_rv hK hP) hK hP hD hS hA hl.1 rfl (Nat.le_of_ble_eq_true rfl) dX1_linkOf_15 ⟨Nat.zero_le _, Nat.zero_le _⟩ (fun r15 H locs er15 hP hS => ?_)
    subst er15
    refine lv_istore_n (lv' := [(3, .int (mLast z a (nI b) 4 z.1)), (0, .ref (ad 0)), (1, .int (nI a)), (2, .int (nI b))]) hx hb dX1_linkOf_18 rfl hl (by decide) rfl (fun ls hl => ?_)
    refine lv_iload_n hx hb dX1_linkOf_19 rfl (lv_at hl 0 rfl) ?_
    refine lv_if_lt (tgt := 46) hx hb dX1_linkOf_20 (by decide) (fun c20 => ?_) (fun c20 => ?_)
    · refine lv_iconst (v := (-1)) hx hb dX1_linkOf_46 (by decide) ?_
      exact kret hx hb hr hlocks hK hP hD hS rfl ⟨rfl, vf_ok (by decide) (by decide) ga gb (by unfold mLink; rw [cT_t th, cT_f (fun q => q.1 c20)])⟩ dX1_linkOf_47
    · obtain ⟨j, gj, ej⟩ := mLast_n c20
      have ec : (mLast z a (nI b) 4 z.1).toNatClampNeg = j := by rw [ej]; exact nI_clamp (by omega)
      rw [ej] at hl
      refine lv_aload_n hx hb dX1_linkOf_23 rfl (lv_at hl 1 rfl) ?_
      refine lv_iload_n hx hb dX1_linkOf_24 rfl (lv_at hl 2 rfl) ?_
      refine lv_aload_n hx hb dX1_linkOf_25 rfl (lv_at hl 1 rfl) ?_
      refine m_get 3 hx hb hts hown hK hP (by decide) rfl q185 rfl dX1_linkOf_26 ?_
      refine lv_iload_n hx hb dX1_linkOf_29 rfl (lv_at hl 0 rfl) ?_
      refine na_iald 3 hx hb hK hP rfl (by decide) (by omega) dX1_linkOf_30 ?_
      refine kcallVr (n := 2) (As := [.int (nI a), .int (z.2.1 3 j)]) (rest := []) ⟨hx, hb, hml, hown, hts⟩ (mM_there l D G ad z (nI a) (z.2.1 3 j) gn) (lw_V q226 q227 q228 q16 q229) rfl (by decide +kernel) ⟨Nat.le_of_ble_eq_true rfl, Nat.le_of_ble_eq_true rfl⟩ (m_rv hK hP) hK hP hD hS hA hl.1 rfl (Nat.le_of_ble_eq_true rfl) dX1_linkOf_31 ⟨Nat.zero_le _, Nat.zero_le _⟩ (fun r31 H locs er31 hP hS => ?_)
      obtain rfl := mth_v er31 ga
      refine lv_if_eq (tgt := 46) hx hb dX1_linkOf_34 (by decide) (fun c34 => ?_) (fun c34 => ?_)
      · refine lv_iconst (v := (-1)) hx hb dX1_linkOf_46 (by decide) ?_
        exact kret hx hb hr hlocks hK hP hD hS rfl ⟨rfl, vf_ok (by decide) (by decide) ga gb (by unfold mLink; rw [cT_t th, ec, cT_f (fun q => bI_eq c34 q.2)])⟩ dX1_linkOf_47
      · refine lv_aload_n hx hb dX1_linkOf_37 rfl (lv_at hl 1 rfl) ?_
        refine m_get 3 hx hb hts hown hK hP (by decide) rfl q185 rfl dX1_linkOf_38 ?_
        refine lv_iload_n hx hb dX1_linkOf_41 rfl (lv_at hl 0 rfl) ?_
        refine na_iald 3 hx hb hK hP rfl (by decide) (by omega) dX1_linkOf_42 ?_
        refine lv_goto (tgt := 47) hx hb dX1_linkOf_43 (by decide) ?_
        exact kret hx hb hr hlocks hK hP hD hS rfl ⟨rfl, vf_ok (by decide) (by decide) ga gb (by unfold mLink; rw [cT_t th, ec, cT_t ⟨c20, bI_ne c34⟩])⟩ dX1_linkOf_47
  · refine lv_iconst (v := (-1)) hx hb dX1_linkOf_9 (by decide) ?_
    exact kret hx hb hr hlocks hK hP hD hS rfl ⟨rfl, mth_no er3 c6 (fun a b h => cT_f h _ _)⟩ dX1_linkOf_10
set_option maxHeartbeats 4000000 in
theorem lM_rows {p : Program} {l : Launch} {e : Env} {s : State} {m : MethodId} {args : Array Value} {below : List Frame} {meth : Method} {c : Code} {A : Nat → Prop} {D : va_G} {G : ClassId × ClassId} {ad : Nat → Nat} {post : Int32 → TS → Prop} (C : Cx p s m args meth c RX1 cX1_rows 4 (some .int) A D G) (z : TS) {a : Nat} (ga : a < 3) (gn : z.1 ≤ 60) (hpost : post (mRows z a 8) z) (hD : va_D A ((wm G ad) z)) : ∀ (k i : Nat), i + k = 8 → ∀ (H : Heap) (locs : List Loc) (ls : Array Slot), va_P D vwCl ((wm G ad) z) H → va_S A s.heap H locs → lv_has ls 4 [(0, .ref (ad 0)), (1, .int (nI a)), (2, .int (mRows z a i)), (3, .int (nI i))] → W p l e (rmD 3) s m args below meth c H locs 0 0 (QI D G (wm G ad) below args s post A) (F0 m 14 ls []) := by
  obtain ⟨hx, hb, hr, hml, hown, hts, hlocks, hA, hK⟩ := id C
  intro k
  induction k with
  | zero =>
    intro i hi H locs ls hP hS hl
    obtain rfl : i = 8 := by omega
    refine lv_iload_n hx hb dX1_rows_14 rfl (lv_at hl 3 rfl) ?_
    refine lv_bipush (v := 8) hx hb dX1_rows_15 (by decide) ?_
    refine lv_icmp_ge (tgt := 38) hx hb dX1_rows_17 (by decide) (fun c17 => ?_) (fun c17 => absurd (by decide : (8 : Int32) ≤ nI 8) c17)
    refine lv_iload_n hx hb dX1_rows_38 rfl (lv_at hl 2 rfl) ?_
    exact kret hx hb hr hlocks hK hP hD hS rfl hpost dX1_rows_39
  | succ k ih =>
    intro i hi H locs ls hP hS hl
    have gi : i < 8 := by omega
    refine lv_iload_n hx hb dX1_rows_14 rfl (lv_at hl 3 rfl) ?_
    refine lv_bipush (v := 8) hx hb dX1_rows_15 (by decide) ?_
    refine lv_icmp_ge (tgt := 38) hx hb dX1_rows_17 (by decide) (fun c17 => absurd c17 (nI_8le gi)) (fun c17 => ?_)
    refine lv_aload_n hx hb dX1_rows_20 rfl (lv_at hl 0 rfl) ?_
    refine lv_iload_n hx hb dX1_rows_21 rfl (lv_at hl 1 rfl) ?_
    refine lv_iload_n hx hb dX1_rows_22 rfl (lv_at hl 3 rfl) ?_
    refine kcallVr (n := 2) (As := [.int (nI a), .int (nI i)]) (rest := []) ⟨hx, hb, hml, hown, hts⟩ (mM_there l D G ad z (nI a) (nI i) gn) (lw_V q226 q227 q228 q16 q229) rfl (by decide +kernel) ⟨Nat.le_of_ble_eq_true rfl, Nat.le_of_ble_eq_true rfl⟩ (m_rv hK hP) hK hP hD hS hA hl.1 rfl (Nat.le_of_ble_eq_true rfl) dX1_rows_23 ⟨Nat.zero_le _, Nat.zero_le _⟩ (fun r23 H locs er23 hP hS => ?_)
    obtain rfl := vf_at er23 ga gi
    refine lv_if_eq (tgt := 32) hx hb dX1_rows_26 (by decide) (fun c26 => ?_) (fun c26 => ?_)
    · rw [show mRows z a i = mRows z a (i + 1) from by show _ = mRows z a i + mTh z a i; rw [c26]; exact (Int32.add_zero _).symm] at hl
      refine lv_iinc (v := nI (i + 1)) (lv' := [(3, .int (nI (i + 1))), (0, .ref (ad 0)), (1, .int (nI a)), (2, .int (mRows z a (i + 1)))]) hx hb dX1_rows_32 hl (k := 3) rfl (nI_1 _) (by decide) rfl (fun ls hl => ?_)
      refine lv_goto (tgt := 14) hx hb dX1_rows_35 (by decide) ?_
      exact ih (i + 1) (by omega) _ _ _ hP hS (lv_sub hl [1, 2, 3, 0] rfl)
    · refine lv_iinc (v := mRows z a (i + 1)) (lv' := [(2, .int (mRows z a (i + 1))), (0, .ref (ad 0)), (1, .int (nI a)), (3, .int (nI i))]) hx hb dX1_rows_29 hl (k := 2) rfl (by show _ = mRows z a i + mTh z a i; rw [show mTh z a i = 1 from bI_t (bI_ne c26)]; rfl) (by decide) rfl (fun ls hl => ?_)
      refine lv_iinc (v := nI (i + 1)) (lv' := [(3, .int (nI (i + 1))), (2, .int (mRows z a (i + 1))), (0, .ref (ad 0)), (1, .int (nI a))]) hx hb dX1_rows_32 hl (k := 3) rfl (nI_1 _) (by decide) rfl (fun ls hl => ?_)
      refine lv_goto (tgt := 14) hx hb dX1_rows_35 (by decide) ?_
      exact ih (i + 1) (by omega) _ _ _ hP hS (lv_sub hl [2, 3, 1, 0] rfl)
set_option maxHeartbeats 4000000 in
theorem mM_rows (l : Launch) (D : va_G) (G : ClassId × ClassId) (ad : Nat → Nat) (z : TS) (p0 : Int32) (gn : z.1 ≤ 60) : KI l D G (wm G ad) yX1_rows (ws_ yX1_rows cX1_rows 4 (some .int)) 3 [.ref (ad 0), .int p0] z (RO z (vg 3 p0 (fun a => mRows z a 8) (-1))) := by
  refine KI.of (by decide) (Nat.le_of_ble_eq_true rfl) ?_
  intro p e s m below meth c A ls C hP hD hS hl
  obtain ⟨hx, hb, hr, hml, hown, hts, hlocks, hA, hK⟩ := id C
  have hown : s.vm.findClass RX1 = some m.cls := hown
  have hl : lv_has ls 4 [(0, .ref (ad 0)), (1, .int p0)] := hl
  refine lv_aload_n hx hb dX1_rows_0 rfl (lv_at hl 0 rfl) ?_
  refine lv_iload_n hx hb dX1_rows_1 rfl (lv_at hl 1 rfl) ?_
  refine kcallVr (n := 1) (As := [.int p0]) (rest := []) ⟨hx, hb, hml, hown, hts⟩ (mM_badReplica l D G ad z p0) (lw_V q218 q220 qs9 q16 q221) rfl (by decide +kernel) ⟨Nat.le_of_ble_eq_true rfl, Nat.le_of_ble_eq_true rfl⟩ (m_rv hK hP) hK hP hD hS hA hl.1 rfl (Nat.le_of_ble_eq_true rfl) dX1_rows_2 ⟨Nat.zero_le _, Nat.zero_le _⟩ (fun r2 H locs er2 hP hS => ?_)
  subst er2
  refine lv_if_eq (tgt := 10) hx hb dX1_rows_5 (by decide) (fun c5 => ?_) (fun c5 => ?_)
  · obtain ⟨a, ga, rfl⟩ := bI_nn c5
    refine lv_iconst (v := 0) hx hb dX1_rows_10 (by decide) ?_
    refine lv_istore_n (lv' := [(2, .int 0), (0, .ref (ad 0)), (1, .int (nI a))]) hx hb dX1_rows_11 rfl hl (by decide) rfl (fun ls hl => ?_)
    refine lv_iconst (v := 0) hx hb dX1_rows_12 (by decide) ?_
    refine lv_istore_n (lv' := [(3, .int 0), (2, .int 0), (0, .ref (ad 0)), (1, .int (nI a))]) hx hb dX1_rows_13 rfl hl (by decide) rfl (fun ls hl => ?_)
    exact lM_rows C z ga gn ⟨rfl, vg_ok (by decide) ga rfl⟩ hD 8 0 rfl _ _ _ hP hS (lv_sub hl [2, 3, 1, 0] rfl)
  · refine lv_iconst (v := (-1)) hx hb dX1_rows_8 (by decide) ?_
    exact kret hx hb hr hlocks hK hP hD hS rfl ⟨rfl, vg_no (bI_ne c5) rfl⟩ dX1_rows_9
set_option maxHeartbeats 4000000 in
theorem lM_sum {p : Program} {l : Launch} {e : Env} {s : State} {m : MethodId} {args : Array Value} {below : List Frame} {meth : Method} {c : Code} {A : Nat → Prop} {D : va_G} {G : ClassId × ClassId} {ad : Nat → Nat} {post : Int32 → TS → Prop} (C : Cx p s m args meth c RX1 cX1_sum 5 (some .int) A D G) (z : TS) {a : Nat} (ga : a < 3) (gn : z.1 ≤ 60) (hpost : post (mSum z a 8) z) (hD : va_D A ((wm G ad) z)) : ∀ (k i : Nat), i + k = 8 → ∀ (H : Heap) (locs : List Loc) (ls : Array Slot), va_P D vwCl ((wm G ad) z) H → va_S A s.heap H locs → lv_has ls 5 [(0, .ref (ad 0)), (1, .int (nI a)), (2, .int (mSum z a i)), (3, .int (nI i))] → W p l e (rmD 4) s m args below meth c H locs 0 0 (QI D G (wm G ad) below args s post A) (F0 m 14 ls []) := by
  obtain ⟨hx, hb, hr, hml, hown, hts, hlocks, hA, hK⟩ := id C
  intro k
  induction k with
  | zero =>
    intro i hi H locs ls hP hS hl
    obtain rfl : i = 8 := by omega
    refine lv_iload_n hx hb dX1_sum_14 rfl (lv_at hl 3 rfl) ?_
    refine lv_bipush (v := 8) hx hb dX1_sum_15 (by decide) ?_
    refine lv_icmp_ge (tgt := 39) hx hb dX1_sum_17 (by decide) (fun c17 => ?_) (fun c17 => absurd (by decide : (8 : Int32) ≤ nI 8) c17)
    refine lv_iload_n hx hb dX1_sum_39 rfl (lv_at hl 2 rfl) ?_
    exact kret hx hb hr hlocks hK hP hD hS rfl hpost dX1_sum_40
  | succ k ih =>
    intro i hi H locs ls hP hS hl
    have gi : i < 8 := by omega
    refine lv_iload_n hx hb dX1_sum_14 rfl (lv_at hl 3 rfl) ?_
    refine lv_bipush (v := 8) hx hb dX1_sum_15 (by decide) ?_
    refine lv_icmp_ge (tgt := 39) hx hb dX1_sum_17 (by decide) (fun c17 => absurd c17 (nI_8le gi)) (fun c17 => ?_)
    refine lv_aload_n hx hb dX1_sum_20 rfl (lv_at hl 0 rfl) ?_
    refine lv_iload_n hx hb dX1_sum_21 rfl (lv_at hl 1 rfl) ?_
    refine lv_iload_n hx hb dX1_sum_22 rfl (lv_at hl 3 rfl) ?_
    refine kcallVr (n := 2) (As := [.int (nI a), .int (nI i)]) (rest := []) ⟨hx, hb, hml, hown, hts⟩ (mM_countOf l D G ad z (nI a) (nI i) gn) (lw_V q288 q273 q274 q16 q275) rfl (by decide +kernel) ⟨Nat.le_of_ble_eq_true rfl, Nat.le_of_ble_eq_true rfl⟩ (m_rv hK hP) hK hP hD hS hA hl.1 rfl (Nat.le_of_ble_eq_true rfl) dX1_sum_23 ⟨Nat.zero_le _, Nat.zero_le _⟩ (fun r23 H locs er23 hP hS => ?_)
    obtain rfl := vf_at er23 ga gi
    refine lv_istore (lv' := [(4, .int (mCount z a i)), (0, .ref (ad 0)), (1, .int (nI a)), (2, .int (mSum z a i)), (3, .int (nI i))]) hx hb dX1_sum_26 hl (by decide) rfl (fun ls hl => ?_)
    refine lv_iload_n hx hb dX1_sum_28 rfl (lv_at hl 3 rfl) ?_
    refine lv_iload hx hb dX1_sum_29 (lv_at hl 0 rfl) ?_
    refine lv_iadd hx hb dX1_sum_31 ?_
    refine w_ti (y := mSum z a (i + 1)) rfl ?_
    refine lv_istore_n (lv' := [(2, .int (mSum z a (i + 1))), (4, .int (mCount z a i)), (0, .ref (ad 0)), (1, .int (nI a)), (3, .int (nI i))]) hx hb dX1_sum_32 rfl hl (by decide) rfl (fun ls hl => ?_)
    refine lv_iinc (v := nI (i + 1)) (lv' := [(3, .int (nI (i + 1))), (2, .int (mSum z a (i + 1))), (4, .int (mCount z a i)), (0, .ref (ad 0)), (1, .int (nI a))]) hx hb dX1_sum_33 hl (k := 4) rfl (nI_1 _) (by decide) rfl (fun ls hl => ?_)
    refine lv_goto (tgt := 14) hx hb dX1_sum_36 (by decide) ?_
    exact ih (i + 1) (by omega) _ _ _ hP hS (lv_sub hl [3, 4, 1, 0] rfl)
set_option maxHeartbeats 4000000 in
theorem mM_sum (l : Launch) (D : va_G) (G : ClassId × ClassId) (ad : Nat → Nat) (z : TS) (p0 : Int32) (gn : z.1 ≤ 60) : KI l D G (wm G ad) yX1_sum (ws_ yX1_sum cX1_sum 5 (some .int)) 4 [.ref (ad 0), .int p0] z (RO z (vg 3 p0 (fun a => mSum z a 8) (-1))) := by
  refine KI.of (by decide) (Nat.le_of_ble_eq_true rfl) ?_
  intro p e s m below meth c A ls C hP hD hS hl
  obtain ⟨hx, hb, hr, hml, hown, hts, hlocks, hA, hK⟩ := id C
  have hown : s.vm.findClass RX1 = some m.cls := hown
  have hl : lv_has ls 5 [(0, .ref (ad 0)), (1, .int p0)] := hl
  refine lv_aload_n hx hb dX1_sum_0 rfl (lv_at hl 0 rfl) ?_
  refine lv_iload_n hx hb dX1_sum_1 rfl (lv_at hl 1 rfl) ?_
  refine kcallVr (n := 1) (As := [.int p0]) (rest := []) ⟨hx, hb, hml, hown, hts⟩ (mM_badReplica l D G ad z p0) (lw_V q218 q220 qs9 q16 q221) rfl (by decide +kernel) ⟨Nat.le_of_ble_eq_true rfl, Nat.le_of_ble_eq_true rfl⟩ (m_rv hK hP) hK hP hD hS hA hl.1 rfl (Nat.le_of_ble_eq_true rfl) dX1_sum_2 ⟨Nat.zero_le _, Nat.zero_le _⟩ (fun r2 H locs er2 hP hS => ?_)
  subst er2
  refine lv_if_eq (tgt := 10) hx hb dX1_sum_5 (by decide) (fun c5 => ?_) (fun c5 => ?_)
  · obtain ⟨a, ga, rfl⟩ := bI_nn c5
    refine lv_iconst (v := 0) hx hb dX1_sum_10 (by decide) ?_
    refine lv_istore_n (lv' := [(2, .int 0), (0, .ref (ad 0)), (1, .int (nI a))]) hx hb dX1_sum_11 rfl hl (by decide) rfl (fun ls hl => ?_)
    refine lv_iconst (v := 0) hx hb dX1_sum_12 (by decide) ?_
    refine lv_istore_n (lv' := [(3, .int 0), (2, .int 0), (0, .ref (ad 0)), (1, .int (nI a))]) hx hb dX1_sum_13 rfl hl (by decide) rfl (fun ls hl => ?_)
    exact lM_sum C z ga gn ⟨rfl, vg_ok (by decide) ga rfl⟩ hD 8 0 rfl _ _ _ hP hS (lv_sub hl [2, 3, 1, 0] rfl)
  · refine lv_iconst (v := (-1)) hx hb dX1_sum_8 (by decide) ?_
    exact kret hx hb hr hlocks hK hP hD hS rfl ⟨rfl, vg_no (bI_ne c5) rfl⟩ dX1_sum_9
set_option maxHeartbeats 4000000 in
theorem lM_known {p : Program} {l : Launch} {e : Env} {s : State} {m : MethodId} {args : Array Value} {below : List Frame} {meth : Method} {c : Code} {A : Nat → Prop} {D : va_G} {G : ClassId × ClassId} {ad : Nat → Nat} {post : Int32 → TS → Prop} (C : Cx p s m args meth c RX1 cX1_known 4 (some .int) A D G) (z : TS) {a : Nat} (ga : a < 3) (gn : z.1 ≤ 60) (hpost : post (mKnown z a z.1) z) (hD : va_D A ((wm G ad) z)) : ∀ (k i : Nat), i + k = z.1 → ∀ (H : Heap) (locs : List Loc) (ls : Array Slot), va_P D vwCl ((wm G ad) z) H → va_S A s.heap H locs → lv_has ls 4 [(0, .ref (ad 0)), (1, .int (nI a)), (2, .int (mKnown z a i)), (3, .int (nI i))] → W p l e (rmD 1) s m args below meth c H locs 0 0 (QI D G (wm G ad) below args s post A) (F0 m 14 ls []) := by
  obtain ⟨hx, hb, hr, hml, hown, hts, hlocks, hA, hK⟩ := id C
  intro k
  induction k with
  | zero =>
    intro i hi H locs ls hP hS hl
    obtain rfl : i = z.1 := by omega
    refine lv_iload_n hx hb dX1_known_14 rfl (lv_at hl 3 rfl) ?_
    refine lv_aload_n hx hb dX1_known_15 rfl (lv_at hl 0 rfl) ?_
    refine m_get 0 hx hb hts hown hK hP (by decide) rfl q182 rfl dX1_known_16 ?_
    refine lv_icmp_ge (tgt := 45) hx hb dX1_known_19 (by decide) (fun c19 => ?_) (fun c19 => absurd (Int32.le_refl _) c19)
    refine lv_iload_n hx hb dX1_known_45 rfl (lv_at hl 2 rfl) ?_
    exact kret hx hb hr hlocks hK hP hD hS rfl hpost dX1_known_46
  | succ k ih =>
    intro i hi H locs ls hP hS hl
    have gi : i < 60 := by omega
    refine lv_iload_n hx hb dX1_known_14 rfl (lv_at hl 3 rfl) ?_
    refine lv_aload_n hx hb dX1_known_15 rfl (lv_at hl 0 rfl) ?_
    refine m_get 0 hx hb hts hown hK hP (by decide) rfl q182 rfl dX1_known_16 ?_
    refine lv_icmp_ge (tgt := 45) hx hb dX1_known_19 (by decide) (fun c19 => absurd c19 (nI_ge (by omega) (by omega))) (fun c19 => ?_)
    refine lv_aload_n hx hb dX1_known_22 rfl (lv_at hl 0 rfl) ?_
    refine lv_aload_n hx hb dX1_known_23 rfl (lv_at hl 0 rfl) ?_
    refine m_get 7 hx hb hts hown hK hP (by decide) rfl q189 rfl dX1_known_24 ?_
    refine lv_iload_n hx hb dX1_known_27 rfl (lv_at hl 1 rfl) ?_
    refine na_lald 7 hx hb hK hP rfl (by decide) (by omega) dX1_known_28 ?_
    refine lv_iload_n hx hb dX1_known_29 rfl (lv_at hl 3 rfl) ?_
    refine kcallVr (n := 2) (As := [.long (z.2.2 7 a), .int (nI i)]) (rest := []) ⟨hx, hb, hml, hown, hts⟩ (mM_in l D G ad z (z.2.2 7 a) (by omega)) (lw_V q230 q232 qs11 q16 q233) rfl (by decide +kernel) ⟨Nat.le_of_ble_eq_true rfl, Nat.le_of_ble_eq_true rfl⟩ (m_rv hK hP) hK hP hD hS hA hl.1 rfl (Nat.le_of_ble_eq_true rfl) dX1_known_30 ⟨Nat.zero_le _, Nat.zero_le _⟩ (fun r30 H locs er30 hP hS => ?_)
    subst er30
    refine lv_if_eq (tgt := 39) hx hb dX1_known_33 (by decide) (fun c33 => ?_) (fun c33 => ?_)
    · rw [show mKnown z a i = mKnown z a (i + 1) from by show _ = mKnown z a i + bI (lb (z.2.2 7 a) i); rw [c33]; exact (Int32.add_zero _).symm] at hl
      refine lv_iinc (v := nI (i + 1)) (lv' := [(3, .int (nI (i + 1))), (0, .ref (ad 0)), (1, .int (nI a)), (2, .int (mKnown z a (i + 1)))]) hx hb dX1_known_39 hl (k := 3) rfl (nI_1 _) (by decide) rfl (fun ls hl => ?_)
      refine lv_goto (tgt := 14) hx hb dX1_known_42 (by decide) ?_
      exact ih (i + 1) (by omega) _ _ _ hP hS (lv_sub hl [1, 2, 3, 0] rfl)
    · refine lv_iinc (v := mKnown z a (i + 1)) (lv' := [(2, .int (mKnown z a (i + 1))), (0, .ref (ad 0)), (1, .int (nI a)), (3, .int (nI i))]) hx hb dX1_known_36 hl (k := 2) rfl (by show _ = mKnown z a i + bI (lb (z.2.2 7 a) i); rw [bI_t (bI_ne c33)]; rfl) (by decide) rfl (fun ls hl => ?_)
      refine lv_iinc (v := nI (i + 1)) (lv' := [(3, .int (nI (i + 1))), (2, .int (mKnown z a (i + 1))), (0, .ref (ad 0)), (1, .int (nI a))]) hx hb dX1_known_39 hl (k := 3) rfl (nI_1 _) (by decide) rfl (fun ls hl => ?_)
      refine lv_goto (tgt := 14) hx hb dX1_known_42 (by decide) ?_
      exact ih (i + 1) (by omega) _ _ _ hP hS (lv_sub hl [2, 3, 1, 0] rfl)
set_option maxHeartbeats 4000000 in
theorem mM_known (l : Launch) (D : va_G) (G : ClassId × ClassId) (ad : Nat → Nat) (z : TS) (p0 : Int32) (gn : z.1 ≤ 60) : KI l D G (wm G ad) yX1_known (ws_ yX1_known cX1_known 4 (some .int)) 1 [.ref (ad 0), .int p0] z (RO z (vg 3 p0 (fun a => mKnown z a z.1) (-1))) := by
  refine KI.of (by decide) (Nat.le_of_ble_eq_true rfl) ?_
  intro p e s m below meth c A ls C hP hD hS hl
  obtain ⟨hx, hb, hr, hml, hown, hts, hlocks, hA, hK⟩ := id C
  have hown : s.vm.findClass RX1 = some m.cls := hown
  have hl : lv_has ls 4 [(0, .ref (ad 0)), (1, .int p0)] := hl
  refine lv_aload_n hx hb dX1_known_0 rfl (lv_at hl 0 rfl) ?_
  refine lv_iload_n hx hb dX1_known_1 rfl (lv_at hl 1 rfl) ?_
  refine kcallVr (n := 1) (As := [.int p0]) (rest := []) ⟨hx, hb, hml, hown, hts⟩ (mM_badReplica l D G ad z p0) (lw_V q218 q220 qs9 q16 q221) rfl (by decide +kernel) ⟨Nat.le_of_ble_eq_true rfl, Nat.le_of_ble_eq_true rfl⟩ (m_rv hK hP) hK hP hD hS hA hl.1 rfl (Nat.le_of_ble_eq_true rfl) dX1_known_2 ⟨Nat.zero_le _, Nat.zero_le _⟩ (fun r2 H locs er2 hP hS => ?_)
  subst er2
  refine lv_if_eq (tgt := 10) hx hb dX1_known_5 (by decide) (fun c5 => ?_) (fun c5 => ?_)
  · obtain ⟨a, ga, rfl⟩ := bI_nn c5
    refine lv_iconst (v := 0) hx hb dX1_known_10 (by decide) ?_
    refine lv_istore_n (lv' := [(2, .int 0), (0, .ref (ad 0)), (1, .int (nI a))]) hx hb dX1_known_11 rfl hl (by decide) rfl (fun ls hl => ?_)
    refine lv_iconst (v := 0) hx hb dX1_known_12 (by decide) ?_
    refine lv_istore_n (lv' := [(3, .int 0), (2, .int 0), (0, .ref (ad 0)), (1, .int (nI a))]) hx hb dX1_known_13 rfl hl (by decide) rfl (fun ls hl => ?_)
    exact lM_known C z ga gn ⟨rfl, vg_ok (by decide) ga rfl⟩ hD z.1 0 (Nat.zero_add _) _ _ _ hP hS (lv_sub hl [2, 3, 1, 0] rfl)
  · refine lv_iconst (v := (-1)) hx hb dX1_known_8 (by decide) ?_
    exact kret hx hb hr hlocks hK hP hD hS rfl ⟨rfl, vg_no (bI_ne c5) rfl⟩ dX1_known_9
set_option maxHeartbeats 4000000 in
theorem lM_agree {p : Program} {l : Launch} {e : Env} {s : State} {m : MethodId} {args : Array Value} {below : List Frame} {meth : Method} {c : Code} {A : Nat → Prop} {D : va_G} {G : ClassId × ClassId} {ad : Nat → Nat} {post : Int32 → TS → Prop} (C : Cx p s m args meth c RX1 cX1_agree 4 (some .boolean) A D G) (z : TS) {a b : Nat} (ga : a < 3) (gb : b < 3) (gn : z.1 ≤ 60) (hpost : post (mAgree z a b) z) (hD : va_D A ((wm G ad) z)) : ∀ (k i : Nat), i + k = 8 → (∀ j, j < i → mSame z a b j) → ∀ (H : Heap) (locs : List Loc) (ls : Array Slot), va_P D vwCl ((wm G ad) z) H → va_S A s.heap H locs → lv_has ls 4 [(0, .ref (ad 0)), (1, .int (nI a)), (2, .int (nI b)), (3, .int (nI i))] → W p l e (rmD 4) s m args below meth c H locs 0 0 (QI D G (wm G ad) below args s post A) (F0 m 20 ls []) := by
  obtain ⟨hx, hb, hr, hml, hown, hts, hlocks, hA, hK⟩ := id C
  intro k
  induction k with
  | zero =>
    intro i hi hs H locs ls hP hS hl
    obtain rfl : i = 8 := by omega
    refine lv_iload_n hx hb dX1_agree_20 rfl (lv_at hl 3 rfl) ?_
    refine lv_bipush (v := 8) hx hb dX1_agree_21 (by decide) ?_
    refine lv_icmp_ge (tgt := 96) hx hb dX1_agree_23 (by decide) (fun c23 => ?_) (fun c23 => absurd (by decide : (8 : Int32) ≤ nI 8) c23)
    refine lv_iconst (v := 1) hx hb dX1_agree_96 (by decide) ?_
    exact kret hx hb hr hlocks hK hP hD hS rfl (by rw [show mAgree z a b = 1 from bI_t hs] at hpost; exact hpost) dX1_agree_97
  | succ k ih =>
    intro i hi hs H locs ls hP hS hl
    have gi : i < 8 := by omega
    refine lv_iload_n hx hb dX1_agree_20 rfl (lv_at hl 3 rfl) ?_
    refine lv_bipush (v := 8) hx hb dX1_agree_21 (by decide) ?_
    refine lv_icmp_ge (tgt := 96) hx hb dX1_agree_23 (by decide) (fun c23 => absurd c23 (nI_8le gi)) (fun c23 => ?_)
    refine lv_aload_n hx hb dX1_agree_26 rfl (lv_at hl 0 rfl) ?_
    refine lv_iload_n hx hb dX1_agree_27 rfl (lv_at hl 1 rfl) ?_
    refine lv_iload_n hx hb dX1_agree_28 rfl (lv_at hl 3 rfl) ?_
    refine kcallVr (n := 2) (As := [.int (nI a), .int (nI i)]) (rest := []) ⟨hx, hb, hml, hown, hts⟩ (mM_there l D G ad z (nI a) (nI i) gn) (lw_V q226 q227 q228 q16 q229) rfl (by decide +kernel) ⟨Nat.le_of_ble_eq_true rfl, Nat.le_of_ble_eq_true rfl⟩ (m_rv hK hP) hK hP hD hS hA hl.1 rfl (Nat.le_of_ble_eq_true rfl) dX1_agree_29 ⟨Nat.zero_le _, Nat.zero_le _⟩ (fun r29 H locs er29 hP hS => ?_)
    obtain rfl := vf_at er29 ga gi
    refine lv_aload_n hx hb dX1_agree_32 rfl (lv_at hl 0 rfl) ?_
    refine lv_iload_n hx hb dX1_agree_33 rfl (lv_at hl 2 rfl) ?_
    refine lv_iload_n hx hb dX1_agree_34 rfl (lv_at hl 3 rfl) ?_
    refine kcallVr (n := 2) (As := [.int (nI b), .int (nI i)]) (rest := [.int (mTh z a i)]) ⟨hx, hb, hml, hown, hts⟩ (mM_there l D G ad z (nI b) (nI i) gn) (lw_V q226 q227 q228 q16 q229) rfl (by decide +kernel) ⟨Nat.le_of_ble_eq_true rfl, Nat.le_of_ble_eq_true rfl⟩ (m_rv hK hP) hK hP hD hS hA hl.1 rfl (Nat.le_of_ble_eq_true rfl) dX1_agree_35 ⟨Nat.zero_le _, Nat.zero_le _⟩ (fun r35 H locs er35 hP hS => ?_)
    obtain rfl := vf_at er35 gb gi
    refine lv_icmp_ne (tgt := 56) hx hb dX1_agree_38 (by decide) (fun c38 => ?_) (fun c38 => ?_)
    · refine lv_iconst (v := 0) hx hb dX1_agree_56 (by decide) ?_
      exact kret hx hb hr hlocks hK hP hD hS rfl (by rw [show mAgree z a b = 0 from bI_f (fun h => c38 (bI_c (h i gi).1))] at hpost; exact hpost) dX1_agree_57
    · refine lv_aload_n hx hb dX1_agree_41 rfl (lv_at hl 0 rfl) ?_
      refine lv_iload_n hx hb dX1_agree_42 rfl (lv_at hl 1 rfl) ?_
      refine lv_iload_n hx hb dX1_agree_43 rfl (lv_at hl 3 rfl) ?_
      refine kcallVr (n := 2) (As := [.int (nI a), .int (nI i)]) (rest := []) ⟨hx, hb, hml, hown, hts⟩ (mM_nameOf l D G ad z (nI a) (nI i) gn) (lw_V q297 q265 q266 q16 q267) rfl (by decide +kernel) ⟨Nat.le_of_ble_eq_true rfl, Nat.le_of_ble_eq_true rfl⟩ (m_rv hK hP) hK hP hD hS hA hl.1 rfl (Nat.le_of_ble_eq_true rfl) dX1_agree_44 ⟨Nat.zero_le _, Nat.zero_le _⟩ (fun r44 H locs er44 hP hS => ?_)
      obtain rfl := vf_at er44 ga gi
      refine lv_aload_n hx hb dX1_agree_47 rfl (lv_at hl 0 rfl) ?_
      refine lv_iload_n hx hb dX1_agree_48 rfl (lv_at hl 2 rfl) ?_
      refine lv_iload_n hx hb dX1_agree_49 rfl (lv_at hl 3 rfl) ?_
      refine kcallVr (n := 2) (As := [.int (nI b), .int (nI i)]) (rest := [.int (mName z a i)]) ⟨hx, hb, hml, hown, hts⟩ (mM_nameOf l D G ad z (nI b) (nI i) gn) (lw_V q297 q265 q266 q16 q267) rfl (by decide +kernel) ⟨Nat.le_of_ble_eq_true rfl, Nat.le_of_ble_eq_true rfl⟩ (m_rv hK hP) hK hP hD hS hA hl.1 rfl (Nat.le_of_ble_eq_true rfl) dX1_agree_50 ⟨Nat.zero_le _, Nat.zero_le _⟩ (fun r50 H locs er50 hP hS => ?_)
      obtain rfl := vf_at er50 gb gi
      refine lv_icmp_eq (tgt := 58) hx hb dX1_agree_53 (by decide) (fun c53 => ?_) (fun c53 => ?_)
      · refine lv_aload_n hx hb dX1_agree_58 rfl (lv_at hl 0 rfl) ?_
        refine lv_iload_n hx hb dX1_agree_59 rfl (lv_at hl 1 rfl) ?_
        refine lv_iload_n hx hb dX1_agree_60 rfl (lv_at hl 3 rfl) ?_
        refine kcallVr (n := 2) (As := [.int (nI a), .int (nI i)]) (rest := []) ⟨hx, hb, hml, hown, hts⟩ (mM_countOf l D G ad z (nI a) (nI i) gn) (lw_V q288 q273 q274 q16 q275) rfl (by decide +kernel) ⟨Nat.le_of_ble_eq_true rfl, Nat.le_of_ble_eq_true rfl⟩ (m_rv hK hP) hK hP hD hS hA hl.1 rfl (Nat.le_of_ble_eq_true rfl) dX1_agree_61 ⟨Nat.zero_le _, Nat.zero_le _⟩ (fun r61 H locs er61 hP hS => ?_)
        obtain rfl := vf_at er61 ga gi
        refine lv_aload_n hx hb dX1_agree_64 rfl (lv_at hl 0 rfl) ?_
        refine lv_iload_n hx hb dX1_agree_65 rfl (lv_at hl 2 rfl) ?_
        refine lv_iload_n hx hb dX1_agree_66 rfl (lv_at hl 3 rfl) ?_
        refine kcallVr (n := 2) (As := [.int (nI b), .int (nI i)]) (rest := [.int (mCount z a i)]) ⟨hx, hb, hml, hown, hts⟩ (mM_countOf l D G ad z (nI b) (nI i) gn) (lw_V q288 q273 q274 q16 q275) rfl (by decide +kernel) ⟨Nat.le_of_ble_eq_true rfl, Nat.le_of_ble_eq_true rfl⟩ (m_rv hK hP) hK hP hD hS hA hl.1 rfl (Nat.le_of_ble_eq_true rfl) dX1_agree_67 ⟨Nat.zero_le _, Nat.zero_le _⟩ (fun r67 H locs er67 hP hS => ?_)
        obtain rfl := vf_at er67 gb gi
        refine lv_icmp_ne (tgt := 88) hx hb dX1_agree_70 (by decide) (fun c70 => ?_) (fun c70 => ?_)
        · refine lv_iconst (v := 0) hx hb dX1_agree_88 (by decide) ?_
          exact kret hx hb hr hlocks hK hP hD hS rfl (by rw [show mAgree z a b = 0 from bI_f (fun h => c70 (h i gi).2.2.1)] at hpost; exact hpost) dX1_agree_89
        · refine lv_aload_n hx hb dX1_agree_73 rfl (lv_at hl 0 rfl) ?_
          refine lv_iload_n hx hb dX1_agree_74 rfl (lv_at hl 1 rfl) ?_
          refine lv_iload_n hx hb dX1_agree_75 rfl (lv_at hl 3 rfl) ?_
          refine kcallVr (n := 2) (As := [.int (nI a), .int (nI i)]) (rest := []) ⟨hx, hb, hml, hown, hts⟩ (mM_linkOf l D G ad z (nI a) (nI i) gn) (lw_V q298 q277 q278 q16 q279) rfl (by decide +kernel) ⟨Nat.le_of_ble_eq_true rfl, Nat.le_of_ble_eq_true rfl⟩ (m_rv hK hP) hK hP hD hS hA hl.1 rfl (Nat.le_of_ble_eq_true rfl) dX1_agree_76 ⟨Nat.zero_le _, Nat.zero_le _⟩ (fun r76 H locs er76 hP hS => ?_)
          obtain rfl := vf_at er76 ga gi
          refine lv_aload_n hx hb dX1_agree_79 rfl (lv_at hl 0 rfl) ?_
          refine lv_iload_n hx hb dX1_agree_80 rfl (lv_at hl 2 rfl) ?_
          refine lv_iload_n hx hb dX1_agree_81 rfl (lv_at hl 3 rfl) ?_
          refine kcallVr (n := 2) (As := [.int (nI b), .int (nI i)]) (rest := [.int (mLink z a i)]) ⟨hx, hb, hml, hown, hts⟩ (mM_linkOf l D G ad z (nI b) (nI i) gn) (lw_V q298 q277 q278 q16 q279) rfl (by decide +kernel) ⟨Nat.le_of_ble_eq_true rfl, Nat.le_of_ble_eq_true rfl⟩ (m_rv hK hP) hK hP hD hS hA hl.1 rfl (Nat.le_of_ble_eq_true rfl) dX1_agree_82 ⟨Nat.zero_le _, Nat.zero_le _⟩ (fun r82 H locs er82 hP hS => ?_)
          obtain rfl := vf_at er82 gb gi
          refine lv_icmp_eq (tgt := 90) hx hb dX1_agree_85 (by decide) (fun c85 => ?_) (fun c85 => ?_)
          · refine lv_iinc (v := nI (i + 1)) (lv' := [(3, .int (nI (i + 1))), (0, .ref (ad 0)), (1, .int (nI a)), (2, .int (nI b))]) hx hb dX1_agree_90 hl (k := 3) rfl (nI_1 _) (by decide) rfl (fun ls hl => ?_)
            refine lv_goto (tgt := 20) hx hb dX1_agree_93 (by decide) ?_
            exact ih (i + 1) (by omega) (lt_s hs ⟨bI_bI c38, c53, c70, c85⟩) _ _ _ hP hS (lv_sub hl [1, 2, 3, 0] rfl)
          · refine lv_iconst (v := 0) hx hb dX1_agree_88 (by decide) ?_
            exact kret hx hb hr hlocks hK hP hD hS rfl (by rw [show mAgree z a b = 0 from bI_f (fun h => c85 (h i gi).2.2.2)] at hpost; exact hpost) dX1_agree_89
      · refine lv_iconst (v := 0) hx hb dX1_agree_56 (by decide) ?_
        exact kret hx hb hr hlocks hK hP hD hS rfl (by rw [show mAgree z a b = 0 from bI_f (fun h => c53 (h i gi).2.1)] at hpost; exact hpost) dX1_agree_57
set_option maxHeartbeats 4000000 in
theorem mM_agree (l : Launch) (D : va_G) (G : ClassId × ClassId) (ad : Nat → Nat) (z : TS) (p0 p1 : Int32) (gn : z.1 ≤ 60) : KI l D G (wm G ad) yX1_agree (ws_ yX1_agree cX1_agree 4 (some .boolean)) 4 [.ref (ad 0), .int p0, .int p1] z (RO z (vf 3 3 p0 p1 (mAgree z) 0)) := by
  refine KI.of (by decide) (Nat.le_of_ble_eq_true rfl) ?_
  intro p e s m below meth c A ls C hP hD hS hl
  obtain ⟨hx, hb, hr, hml, hown, hts, hlocks, hA, hK⟩ := id C
  have hown : s.vm.findClass RX1 = some m.cls := hown
  have hl : lv_has ls 4 [(0, .ref (ad 0)), (1, .int p0), (2, .int p1)] := hl
  refine lv_aload_n hx hb dX1_agree_0 rfl (lv_at hl 0 rfl) ?_
  refine lv_iload_n hx hb dX1_agree_1 rfl (lv_at hl 1 rfl) ?_
  refine kcallVr (n := 1) (As := [.int p0]) (rest := []) ⟨hx, hb, hml, hown, hts⟩ (mM_badReplica l D G ad z p0) (lw_V q218 q220 qs9 q16 q221) rfl (by decide +kernel) ⟨Nat.le_of_ble_eq_true rfl, Nat.le_of_ble_eq_true rfl⟩ (m_rv hK hP) hK hP hD hS hA hl.1 rfl (Nat.le_of_ble_eq_true rfl) dX1_agree_2 ⟨Nat.zero_le _, Nat.zero_le _⟩ (fun r2 H locs er2 hP hS => ?_)
  subst er2
  refine lv_if_ne (tgt := 16) hx hb dX1_agree_5 (by decide) (fun c5 => ?_) (fun c5 => ?_)
  · refine lv_iconst (v := 0) hx hb dX1_agree_16 (by decide) ?_
    exact kret hx hb hr hlocks hK hP hD hS rfl ⟨rfl, vf_no (fun v => bI_ne c5 v.1) rfl⟩ dX1_agree_17
  · refine lv_aload_n hx hb dX1_agree_8 rfl (lv_at hl 0 rfl) ?_
    refine lv_iload_n hx hb dX1_agree_9 rfl (lv_at hl 2 rfl) ?_
    refine kcallVr (n := 1) (As := [.int p1]) (rest := []) ⟨hx, hb, hml, hown, hts⟩ (mM_badReplica l D G ad z p1) (lw_V q218 q220 qs9 q16 q221) rfl (by decide +kernel) ⟨Nat.le_of_ble_eq_true rfl, Nat.le_of_ble_eq_true rfl⟩ (m_rv hK hP) hK hP hD hS hA hl.1 rfl (Nat.le_of_ble_eq_true rfl) dX1_agree_10 ⟨Nat.zero_le _, Nat.zero_le _⟩ (fun r10 H locs er10 hP hS => ?_)
    subst er10
    refine lv_if_eq (tgt := 18) hx hb dX1_agree_13 (by decide) (fun c13 => ?_) (fun c13 => ?_)
    · obtain ⟨a, ga, rfl⟩ := bI_nn c5
      obtain ⟨b, gb, rfl⟩ := bI_nn c13
      refine lv_iconst (v := 0) hx hb dX1_agree_18 (by decide) ?_
      refine lv_istore_n (lv' := [(3, .int 0), (0, .ref (ad 0)), (1, .int (nI a)), (2, .int (nI b))]) hx hb dX1_agree_19 rfl hl (by decide) rfl (fun ls hl => ?_)
      exact lM_agree C z ga gb gn ⟨rfl, vf_ok (by decide) (by decide) ga gb rfl⟩ hD 8 0 rfl (fun j h => absurd h (Nat.not_lt_zero _)) _ _ _ hP hS (lv_sub hl [1, 2, 3, 0] rfl)
    · refine lv_iconst (v := 0) hx hb dX1_agree_16 (by decide) ?_
      exact kret hx hb hr hlocks hK hP hD hS rfl ⟨rfl, vf_no (fun v => bI_ne c13 v.2) rfl⟩ dX1_agree_17
end
section
/-! CrdtTableModel: actions and learning -/
set_option maxRecDepth 100000
set_option maxHeartbeats 4000000 in
theorem tM_act57 {p : Program} {l : Launch} {e : Env} {s : State} {m : MethodId} {args : Array Value} {below : List Frame} {meth : Method} {c : Code} {A : Nat → Prop} {ls : Array Slot} {H : Heap} {locs : List Loc} {D : va_G} {G : ClassId × ClassId} {ad : Nat → Nat} {post : Int32 → TS → Prop} (C : Cx p s m args meth c RX1 cX1_act 6 (some .int) A D G) (z : TS) {a k b : Nat} {v : Int32} (ga : a < 3) (gk : k < 5) (gb : b < 8) (gn : z.1 ≤ 60) (hfull : z.1 = 60 → post (-3) z) (hgo : ¬ z.1 = 60 → post (nI z.1) (mAct z a k b v)) (hP : va_P D vwCl ((wm G ad) z) H) (hD : va_D A ((wm G ad) z)) (hS : va_S A s.heap H locs) (hl : lv_has ls 6 [(0, .ref (ad 0)), (1, .int (nI a)), (2, .int (nI k)), (3, .int (nI b)), (4, .int v)]) : W p l e (rmD 3) s m args below meth c H locs 0 0 (QI D G (wm G ad) below args s post A) (F0 m 57 ls []) := by
  obtain ⟨hx, hb, hr, hml, hown, hts, hlocks, hA, hK⟩ := id C
  refine lv_aload_n hx hb dX1_act_57 rfl (lv_at hl 0 rfl) ?_
  refine m_get 0 hx hb hts hown hK hP (by decide) rfl q182 rfl dX1_act_58 ?_
  refine lv_bipush (v := 60) hx hb dX1_act_61 (by decide) ?_
  refine lv_icmp_ne (tgt := 69) hx hb dX1_act_63 (by decide) (fun c63 => ?_) (fun c63 => ?_)
  · have g60 := n60e gn c63
    refine lv_aload_n hx hb dX1_act_69 rfl (lv_at hl 0 rfl) ?_
    refine m_get 0 hx hb hts hown hK hP (by decide) rfl q182 rfl dX1_act_70 ?_
    refine lv_istore (lv' := [(5, .int (nI z.1)), (0, .ref (ad 0)), (1, .int (nI a)), (2, .int (nI k)), (3, .int (nI b)), (4, .int v)]) hx hb dX1_act_73 hl (by decide) rfl (fun ls hl => ?_)
    refine lv_aload_n hx hb dX1_act_75 rfl (lv_at hl 1 rfl) ?_
    refine m_get 1 hx hb hts hown hK hP (by decide) rfl q183 rfl dX1_act_76 ?_
    refine lv_iload hx hb dX1_act_79 (lv_at hl 0 rfl) ?_
    refine lv_iload_n hx hb dX1_act_81 rfl (lv_at hl 3 rfl) ?_
    refine na_iast 1 hx hb hK hP hD hS rfl (fun _ => rfl) (by decide) (by omega) dX1_act_82 (fun H locs hP hD hS => ?_)
    refine lv_aload_n hx hb dX1_act_83 rfl (lv_at hl 1 rfl) ?_
    refine m_get 2 hx hb hts hown hK hP (by decide) rfl q184 rfl dX1_act_84 ?_
    refine lv_iload hx hb dX1_act_87 (lv_at hl 0 rfl) ?_
    refine lv_iload_n hx hb dX1_act_89 rfl (lv_at hl 4 rfl) ?_
    refine na_iast 2 hx hb hK hP hD hS rfl (fun _ => rfl) (by decide) (by omega) dX1_act_90 (fun H locs hP hD hS => ?_)
    refine lv_aload_n hx hb dX1_act_91 rfl (lv_at hl 1 rfl) ?_
    refine m_get 3 hx hb hts hown hK hP (by decide) rfl q185 rfl dX1_act_92 ?_
    refine lv_iload hx hb dX1_act_95 (lv_at hl 0 rfl) ?_
    refine lv_iload hx hb dX1_act_97 (lv_at hl 5 rfl) ?_
    refine na_iast 3 hx hb hK hP hD hS rfl (fun _ => rfl) (by decide) (by omega) dX1_act_99 (fun H locs hP hD hS => ?_)
    refine lv_aload_n hx hb dX1_act_100 rfl (lv_at hl 1 rfl) ?_
    refine m_get 5 hx hb hts hown hK hP (by decide) rfl q187 rfl dX1_act_101 ?_
    refine lv_iload hx hb dX1_act_104 (lv_at hl 0 rfl) ?_
    refine lv_iload_n hx hb dX1_act_106 rfl (lv_at hl 2 rfl) ?_
    refine na_iast 5 hx hb hK hP hD hS rfl (fun _ => rfl) (by decide) (by omega) dX1_act_107 (fun H locs hP hD hS => ?_)
    refine lv_aload_n hx hb dX1_act_108 rfl (lv_at hl 1 rfl) ?_
    refine m_get 6 hx hb hts hown hK hP (by decide) rfl q188 rfl dX1_act_109 ?_
    refine lv_iload hx hb dX1_act_112 (lv_at hl 0 rfl) ?_
    refine lv_aload_n hx hb dX1_act_114 rfl (lv_at hl 1 rfl) ?_
    refine m_get 7 hx hb hts hown hK hP (by decide) rfl q189 rfl dX1_act_115 ?_
    refine lv_iload_n hx hb dX1_act_118 rfl (lv_at hl 2 rfl) ?_
    refine na_lald 7 hx hb hK hP rfl (by decide) (by omega) dX1_act_119 ?_
    refine w_tl (y := z.2.2 7 a) rfl ?_
    refine na_last 6 hx hb hK hP hD hS rfl (fun _ => rfl) (by decide) (by omega) dX1_act_120 (fun H locs hP hD hS => ?_)
    refine lv_aload_n hx hb dX1_act_121 rfl (lv_at hl 1 rfl) ?_
    refine m_get 8 hx hb hts hown hK hP (by decide) rfl q190 rfl dX1_act_122 ?_
    refine lv_iload_n hx hb dX1_act_125 rfl (lv_at hl 2 rfl) ?_
    refine lv_aload_n hx hb dX1_act_126 rfl (lv_at hl 1 rfl) ?_
    refine m_get 8 hx hb hts hown hK hP (by decide) rfl q190 rfl dX1_act_127 ?_
    refine lv_iload_n hx hb dX1_act_130 rfl (lv_at hl 2 rfl) ?_
    refine na_iald 8 hx hb hK hP rfl (by decide) (by omega) dX1_act_131 ?_
    refine w_ti (y := z.2.1 8 a) rfl ?_
    refine lv_iconst (v := 1) hx hb dX1_act_132 (by decide) ?_
    refine lv_iadd hx hb dX1_act_133 ?_
    refine na_iast 8 hx hb hK hP hD hS rfl (fun _ => rfl) (by decide) (by omega) dX1_act_134 (fun H locs hP hD hS => ?_)
    refine lv_aload_n hx hb dX1_act_135 rfl (lv_at hl 1 rfl) ?_
    refine m_get 4 hx hb hts hown hK hP (by decide) rfl q186 rfl dX1_act_136 ?_
    refine lv_iload hx hb dX1_act_139 (lv_at hl 0 rfl) ?_
    refine lv_aload_n hx hb dX1_act_141 rfl (lv_at hl 1 rfl) ?_
    refine m_get 8 hx hb hts hown hK hP (by decide) rfl q190 rfl dX1_act_142 ?_
    refine lv_iload_n hx hb dX1_act_145 rfl (lv_at hl 2 rfl) ?_
    refine na_iald 8 hx hb hK hP rfl (by decide) (by omega) dX1_act_146 ?_
    refine w_ti (y := z.2.1 8 a + 1) ((sI_at _ _ _ _ _ _).trans (if_pos ⟨rfl, rfl⟩)) ?_
    refine na_iast 4 hx hb hK hP hD hS rfl (fun _ => rfl) (by decide) (by omega) dX1_act_147 (fun H locs hP hD hS => ?_)
    refine lv_aload_n hx hb dX1_act_148 rfl (lv_at hl 1 rfl) ?_
    refine m_get 7 hx hb hts hown hK hP (by decide) rfl q189 rfl dX1_act_149 ?_
    refine lv_iload_n hx hb dX1_act_152 rfl (lv_at hl 2 rfl) ?_
    refine lv_aload_n hx hb dX1_act_153 rfl (lv_at hl 1 rfl) ?_
    refine m_get 7 hx hb hts hown hK hP (by decide) rfl q189 rfl dX1_act_154 ?_
    refine lv_iload_n hx hb dX1_act_157 rfl (lv_at hl 2 rfl) ?_
    refine na_lald 7 hx hb hK hP rfl (by decide) (by omega) dX1_act_158 ?_
    refine w_tl (y := z.2.2 7 a) rfl ?_
    refine lv_lconst (v := 1) hx hb dX1_act_159 (by decide) ?_
    refine lv_iload hx hb dX1_act_160 (lv_at hl 0 rfl) ?_
    refine n_lshl hx hb dX1_act_162 ?_
    refine lv_lor hx hb dX1_act_163 ?_
    refine na_last 7 hx hb hK hP hD hS rfl (fun _ => rfl) (by decide) (by omega) dX1_act_164 (fun H locs hP hD hS => ?_)
    refine lv_aload_n hx hb dX1_act_165 rfl (lv_at hl 1 rfl) ?_
    refine lv_aload_n hx hb dX1_act_166 rfl (lv_at hl 1 rfl) ?_
    refine m_get 0 hx hb hts hown hK hP (by decide) rfl q182 rfl dX1_act_167 ?_
    refine lv_iconst (v := 1) hx hb dX1_act_170 (by decide) ?_
    refine lv_iadd hx hb dX1_act_171 ?_
    refine w_ti (nI_1 _) ?_
    refine m_putN hx hb hts hown hK hP hD hS dX1_act_172 (fun H locs hP hD hS => ?_)
    refine lv_iload hx hb dX1_act_175 (lv_at hl 0 rfl) ?_
    exact kret hx hb hr hlocks hK hP hD hS rfl (hgo (fun x => c63 (by rw [x]; rfl))) dX1_act_177
  · refine lv_bipush (v := (-3)) hx hb dX1_act_66 (by decide) ?_
    exact kret hx hb hr hlocks hK hP hD hS rfl (hfull (n60f gn c63)) dX1_act_68
set_option maxHeartbeats 4000000 in
theorem mM_act (l : Launch) (D : va_G) (G : ClassId × ClassId) (ad : Nat → Nat) (z : TS) (p0 : Int32) {k : Nat} (p1 p2 : Int32) (gk : k < 5) (gn : z.1 ≤ 60) : KI l D G (wm G ad) yX1_act (ws_ yX1_act cX1_act 6 (some .int)) 3 [.ref (ad 0), .int p0, .int (nI k), .int p1, .int p2] z (actR p0 p1 k p2 (fun a b => mThB z a (nI b)) (z.1 = 60) z.1 z (fun a b => mAct z a k b p2)) := by
  refine KI.of (by decide) (Nat.le_of_ble_eq_true rfl) ?_
  intro p e s m below meth c A ls C hP hD hS hl
  obtain ⟨hx, hb, hr, hml, hown, hts, hlocks, hA, hK⟩ := id C
  have hown : s.vm.findClass RX1 = some m.cls := hown
  have hl : lv_has ls 6 [(0, .ref (ad 0)), (1, .int p0), (2, .int (nI k)), (3, .int p1), (4, .int p2)] := hl
  refine lv_aload_n hx hb dX1_act_0 rfl (lv_at hl 0 rfl) ?_
  refine lv_iload_n hx hb dX1_act_1 rfl (lv_at hl 1 rfl) ?_
  refine kcallVr (n := 1) (As := [.int p0]) (rest := []) ⟨hx, hb, hml, hown, hts⟩ (mM_badReplica l D G ad z p0) (lw_V q218 q220 qs9 q16 q221) rfl (by decide +kernel) ⟨Nat.le_of_ble_eq_true rfl, Nat.le_of_ble_eq_true rfl⟩ (m_rv hK hP) hK hP hD hS hA hl.1 rfl (Nat.le_of_ble_eq_true rfl) dX1_act_2 ⟨Nat.zero_le _, Nat.zero_le _⟩ (fun r2 H locs er2 hP hS => ?_)
  subst er2
  refine lv_if_eq (tgt := 10) hx hb dX1_act_5 (by decide) (fun c5 => ?_) (fun c5 => ?_)
  · refine lv_aload_n hx hb dX1_act_10 rfl (lv_at hl 0 rfl) ?_
    refine lv_iload_n hx hb dX1_act_11 rfl (lv_at hl 3 rfl) ?_
    refine kcallVr (n := 1) (As := [.int p1]) (rest := []) ⟨hx, hb, hml, hown, hts⟩ (mM_badRow l D G ad z p1) (lw_V q222 q224 qs10 q16 q225) rfl (by decide +kernel) ⟨Nat.le_of_ble_eq_true rfl, Nat.le_of_ble_eq_true rfl⟩ (m_rv hK hP) hK hP hD hS hA hl.1 rfl (Nat.le_of_ble_eq_true rfl) dX1_act_12 ⟨Nat.zero_le _, Nat.zero_le _⟩ (fun r12 H locs er12 hP hS => ?_)
    subst er12
    refine lv_if_ne (tgt := 38) hx hb dX1_act_15 (by decide) (fun c15 => ?_) (fun c15 => ?_)
    · refine lv_bipush (v := (-2)) hx hb dX1_act_38 (by decide) ?_
      exact kret hx hb hr hlocks hK hP hD hS rfl (actR_no2 (bI_nn c5) (bI_ne c15)) dX1_act_40
    · obtain ⟨a, ga, rfl⟩ := bI_nn c5
      obtain ⟨b, gb, rfl⟩ := bI_nn c15
      refine lv_iload_n hx hb dX1_act_18 rfl (lv_at hl 2 rfl) ?_
      refine lv_iconst (v := 4) hx hb dX1_act_19 (by decide) ?_
      refine lv_icmp_ne (tgt := 41) hx hb dX1_act_20 (by decide) (fun c20 => ?_) (fun c20 => ?_)
      · refine lv_iload_n hx hb dX1_act_41 rfl (lv_at hl 2 rfl) ?_
        refine lv_if_eq (tgt := 57) hx hb dX1_act_42 (by decide) (fun c42 => ?_) (fun c42 => ?_)
        · have ht : k = 0 ∨ mThB z a (nI b) := (Or.inl (nI_k0 gk c42))
          exact tM_act57 C z ga gk gb gn (fun x => actR_go ga gb (fun x => nI_n4 gk c20 x.1) ht ⟨fun _ => ⟨rfl, rfl⟩, fun y => absurd x y⟩) (fun x => actR_go ga gb (fun x => nI_n4 gk c20 x.1) ht ⟨fun y => absurd y x, fun _ => ⟨rfl, rfl⟩⟩) hP hD hS hl
        · refine lv_aload_n hx hb dX1_act_45 rfl (lv_at hl 0 rfl) ?_
          refine lv_iload_n hx hb dX1_act_46 rfl (lv_at hl 1 rfl) ?_
          refine lv_iload_n hx hb dX1_act_47 rfl (lv_at hl 3 rfl) ?_
          refine kcallVr (n := 2) (As := [.int (nI a), .int (nI b)]) (rest := []) ⟨hx, hb, hml, hown, hts⟩ (mM_there l D G ad z (nI a) (nI b) gn) (lw_V q226 q227 q228 q16 q229) rfl (by decide +kernel) ⟨Nat.le_of_ble_eq_true rfl, Nat.le_of_ble_eq_true rfl⟩ (m_rv hK hP) hK hP hD hS hA hl.1 rfl (Nat.le_of_ble_eq_true rfl) dX1_act_48 ⟨Nat.zero_le _, Nat.zero_le _⟩ (fun r48 H locs er48 hP hS => ?_)
          refine lv_if_ne (tgt := 57) hx hb dX1_act_51 (by decide) (fun c51 => ?_) (fun c51 => ?_)
          · have ht : k = 0 ∨ mThB z a (nI b) := (Or.inr (by rw [vf_at er48 ga gb] at c51; exact bI_ne c51))
            exact tM_act57 C z ga gk gb gn (fun x => actR_go ga gb (fun x => nI_n4 gk c20 x.1) ht ⟨fun _ => ⟨rfl, rfl⟩, fun y => absurd x y⟩) (fun x => actR_go ga gb (fun x => nI_n4 gk c20 x.1) ht ⟨fun y => absurd y x, fun _ => ⟨rfl, rfl⟩⟩) hP hD hS hl
          · refine lv_bipush (v := (-4)) hx hb dX1_act_54 (by decide) ?_
            exact kret hx hb hr hlocks hK hP hD hS rfl (actR_abs4 ga gb (nI_nk0 c42) (fun x => nI_n4 gk c20 x.1) (by rw [vf_at er48 ga gb] at c51; exact bI_eq c51)) dX1_act_56
      · refine lv_iload hx hb dX1_act_23 (lv_at hl 4 rfl) ?_
        refine lv_iconst (v := (-1)) hx hb dX1_act_25 (by decide) ?_
        refine lv_icmp_eq (tgt := 41) hx hb dX1_act_26 (by decide) (fun c26 => ?_) (fun c26 => ?_)
        · refine lv_iload_n hx hb dX1_act_41 rfl (lv_at hl 2 rfl) ?_
          refine lv_if_eq (tgt := 57) hx hb dX1_act_42 (by decide) (fun c42 => ?_) (fun c42 => ?_)
          · have ht : k = 0 ∨ mThB z a (nI b) := (Or.inl (nI_k0 gk c42))
            exact tM_act57 C z ga gk gb gn (fun x => actR_go ga gb (fun x => x.2.1 c26) ht ⟨fun _ => ⟨rfl, rfl⟩, fun y => absurd x y⟩) (fun x => actR_go ga gb (fun x => x.2.1 c26) ht ⟨fun y => absurd y x, fun _ => ⟨rfl, rfl⟩⟩) hP hD hS hl
          · refine lv_aload_n hx hb dX1_act_45 rfl (lv_at hl 0 rfl) ?_
            refine lv_iload_n hx hb dX1_act_46 rfl (lv_at hl 1 rfl) ?_
            refine lv_iload_n hx hb dX1_act_47 rfl (lv_at hl 3 rfl) ?_
            refine kcallVr (n := 2) (As := [.int (nI a), .int (nI b)]) (rest := []) ⟨hx, hb, hml, hown, hts⟩ (mM_there l D G ad z (nI a) (nI b) gn) (lw_V q226 q227 q228 q16 q229) rfl (by decide +kernel) ⟨Nat.le_of_ble_eq_true rfl, Nat.le_of_ble_eq_true rfl⟩ (m_rv hK hP) hK hP hD hS hA hl.1 rfl (Nat.le_of_ble_eq_true rfl) dX1_act_48 ⟨Nat.zero_le _, Nat.zero_le _⟩ (fun r48 H locs er48 hP hS => ?_)
            refine lv_if_ne (tgt := 57) hx hb dX1_act_51 (by decide) (fun c51 => ?_) (fun c51 => ?_)
            · have ht : k = 0 ∨ mThB z a (nI b) := (Or.inr (by rw [vf_at er48 ga gb] at c51; exact bI_ne c51))
              exact tM_act57 C z ga gk gb gn (fun x => actR_go ga gb (fun x => x.2.1 c26) ht ⟨fun _ => ⟨rfl, rfl⟩, fun y => absurd x y⟩) (fun x => actR_go ga gb (fun x => x.2.1 c26) ht ⟨fun y => absurd y x, fun _ => ⟨rfl, rfl⟩⟩) hP hD hS hl
            · refine lv_bipush (v := (-4)) hx hb dX1_act_54 (by decide) ?_
              exact kret hx hb hr hlocks hK hP hD hS rfl (actR_abs4 ga gb (nI_nk0 c42) (fun x => x.2.1 c26) (by rw [vf_at er48 ga gb] at c51; exact bI_eq c51)) dX1_act_56
        · refine lv_aload_n hx hb dX1_act_29 rfl (lv_at hl 0 rfl) ?_
          refine lv_iload hx hb dX1_act_30 (lv_at hl 4 rfl) ?_
          refine kcallVr (n := 1) (As := [.int p2]) (rest := []) ⟨hx, hb, hml, hown, hts⟩ (mM_badRow l D G ad z p2) (lw_V q222 q224 qs10 q16 q225) rfl (by decide +kernel) ⟨Nat.le_of_ble_eq_true rfl, Nat.le_of_ble_eq_true rfl⟩ (m_rv hK hP) hK hP hD hS hA hl.1 rfl (Nat.le_of_ble_eq_true rfl) dX1_act_32 ⟨Nat.zero_le _, Nat.zero_le _⟩ (fun r32 H locs er32 hP hS => ?_)
          subst er32
          refine lv_if_eq (tgt := 41) hx hb dX1_act_35 (by decide) (fun c35 => ?_) (fun c35 => ?_)
          · refine lv_iload_n hx hb dX1_act_41 rfl (lv_at hl 2 rfl) ?_
            refine lv_if_eq (tgt := 57) hx hb dX1_act_42 (by decide) (fun c42 => ?_) (fun c42 => ?_)
            · have ht : k = 0 ∨ mThB z a (nI b) := (Or.inl (nI_k0 gk c42))
              exact tM_act57 C z ga gk gb gn (fun x => actR_go ga gb (fun x => x.2.2 (bI_nn c35)) ht ⟨fun _ => ⟨rfl, rfl⟩, fun y => absurd x y⟩) (fun x => actR_go ga gb (fun x => x.2.2 (bI_nn c35)) ht ⟨fun y => absurd y x, fun _ => ⟨rfl, rfl⟩⟩) hP hD hS hl
            · refine lv_aload_n hx hb dX1_act_45 rfl (lv_at hl 0 rfl) ?_
              refine lv_iload_n hx hb dX1_act_46 rfl (lv_at hl 1 rfl) ?_
              refine lv_iload_n hx hb dX1_act_47 rfl (lv_at hl 3 rfl) ?_
              refine kcallVr (n := 2) (As := [.int (nI a), .int (nI b)]) (rest := []) ⟨hx, hb, hml, hown, hts⟩ (mM_there l D G ad z (nI a) (nI b) gn) (lw_V q226 q227 q228 q16 q229) rfl (by decide +kernel) ⟨Nat.le_of_ble_eq_true rfl, Nat.le_of_ble_eq_true rfl⟩ (m_rv hK hP) hK hP hD hS hA hl.1 rfl (Nat.le_of_ble_eq_true rfl) dX1_act_48 ⟨Nat.zero_le _, Nat.zero_le _⟩ (fun r48 H locs er48 hP hS => ?_)
              refine lv_if_ne (tgt := 57) hx hb dX1_act_51 (by decide) (fun c51 => ?_) (fun c51 => ?_)
              · have ht : k = 0 ∨ mThB z a (nI b) := (Or.inr (by rw [vf_at er48 ga gb] at c51; exact bI_ne c51))
                exact tM_act57 C z ga gk gb gn (fun x => actR_go ga gb (fun x => x.2.2 (bI_nn c35)) ht ⟨fun _ => ⟨rfl, rfl⟩, fun y => absurd x y⟩) (fun x => actR_go ga gb (fun x => x.2.2 (bI_nn c35)) ht ⟨fun y => absurd y x, fun _ => ⟨rfl, rfl⟩⟩) hP hD hS hl
              · refine lv_bipush (v := (-4)) hx hb dX1_act_54 (by decide) ?_
                exact kret hx hb hr hlocks hK hP hD hS rfl (actR_abs4 ga gb (nI_nk0 c42) (fun x => x.2.2 (bI_nn c35)) (by rw [vf_at er48 ga gb] at c51; exact bI_eq c51)) dX1_act_56
          · refine lv_bipush (v := (-2)) hx hb dX1_act_38 (by decide) ?_
            obtain rfl : k = 4 := (nI_eq (a := k) (b := 4) (by omega) (by decide)).mp c20
            exact kret hx hb hr hlocks hK hP hD hS rfl (actR_bad4 ga gb ⟨c26, bI_ne c35⟩) dX1_act_40
  · refine lv_iconst (v := (-1)) hx hb dX1_act_8 (by decide) ?_
    exact kret hx hb hr hlocks hK hP hD hS rfl (actR_no1 (bI_ne c5)) dX1_act_9
set_option maxHeartbeats 4000000 in
theorem mM_add (l : Launch) (D : va_G) (G : ClassId × ClassId) (ad : Nat → Nat) (z : TS) (p0 p1 : Int32) (gn : z.1 ≤ 60) : KI l D G (wm G ad) yX1_add (ws_ yX1_add cX1_add 3 (some .int)) 4 [.ref (ad 0), .int p0, .int p1] z (actR p0 p1 0 0 (fun a b => mThB z a (nI b)) (z.1 = 60) z.1 z (fun a b => mAct z a 0 b 0)) := by
  refine KI.of (by decide) (Nat.le_of_ble_eq_true rfl) ?_
  intro p e s m below meth c A ls C hP hD hS hl
  obtain ⟨hx, hb, hr, hml, hown, hts, hlocks, hA, hK⟩ := id C
  have hown : s.vm.findClass RX1 = some m.cls := hown
  have hl : lv_has ls 3 [(0, .ref (ad 0)), (1, .int p0), (2, .int p1)] := hl
  refine lv_aload_n hx hb dX1_add_0 rfl (lv_at hl 0 rfl) ?_
  refine lv_iload_n hx hb dX1_add_1 rfl (lv_at hl 1 rfl) ?_
  refine lv_iconst (v := 0) hx hb dX1_add_2 (by decide) ?_
  refine lv_iload_n hx hb dX1_add_3 rfl (lv_at hl 2 rfl) ?_
  refine lv_iconst (v := 0) hx hb dX1_add_4 (by decide) ?_
  refine kcallV (n := 4) (As := [.int p0, .int 0, .int p1, .int 0]) (rest := []) ⟨hx, hb, hml, hown, hts⟩ (mM_act l D G ad z p0 (k := 0) p1 0 (by decide) gn) (lw_V q214 q216 qs8 q16 q217) rfl (by decide +kernel) ⟨Nat.le_of_ble_eq_true rfl, Nat.le_of_ble_eq_true rfl⟩ (m_rv hK hP) hK hP hD hS hA hl.1 rfl (Nat.le_of_ble_eq_true rfl) dX1_add_5 ⟨Nat.zero_le _, Nat.zero_le _⟩ (fun r5 u H locs hw hP hD hS => ?_)
  exact kret hx hb hr hlocks hK hP hD hS rfl hw dX1_add_8
set_option maxHeartbeats 4000000 in
theorem mM_drop (l : Launch) (D : va_G) (G : ClassId × ClassId) (ad : Nat → Nat) (z : TS) (p0 p1 : Int32) (gn : z.1 ≤ 60) : KI l D G (wm G ad) yX1_drop (ws_ yX1_drop cX1_drop 3 (some .int)) 4 [.ref (ad 0), .int p0, .int p1] z (actR p0 p1 1 0 (fun a b => mThB z a (nI b)) (z.1 = 60) z.1 z (fun a b => mAct z a 1 b 0)) := by
  refine KI.of (by decide) (Nat.le_of_ble_eq_true rfl) ?_
  intro p e s m below meth c A ls C hP hD hS hl
  obtain ⟨hx, hb, hr, hml, hown, hts, hlocks, hA, hK⟩ := id C
  have hown : s.vm.findClass RX1 = some m.cls := hown
  have hl : lv_has ls 3 [(0, .ref (ad 0)), (1, .int p0), (2, .int p1)] := hl
  refine lv_aload_n hx hb dX1_drop_0 rfl (lv_at hl 0 rfl) ?_
  refine lv_iload_n hx hb dX1_drop_1 rfl (lv_at hl 1 rfl) ?_
  refine lv_iconst (v := 1) hx hb dX1_drop_2 (by decide) ?_
  refine lv_iload_n hx hb dX1_drop_3 rfl (lv_at hl 2 rfl) ?_
  refine lv_iconst (v := 0) hx hb dX1_drop_4 (by decide) ?_
  refine kcallV (n := 4) (As := [.int p0, .int 1, .int p1, .int 0]) (rest := []) ⟨hx, hb, hml, hown, hts⟩ (mM_act l D G ad z p0 (k := 1) p1 0 (by decide) gn) (lw_V q214 q216 qs8 q16 q217) rfl (by decide +kernel) ⟨Nat.le_of_ble_eq_true rfl, Nat.le_of_ble_eq_true rfl⟩ (m_rv hK hP) hK hP hD hS hA hl.1 rfl (Nat.le_of_ble_eq_true rfl) dX1_drop_5 ⟨Nat.zero_le _, Nat.zero_le _⟩ (fun r5 u H locs hw hP hD hS => ?_)
  exact kret hx hb hr hlocks hK hP hD hS rfl hw dX1_drop_8
set_option maxHeartbeats 4000000 in
theorem mM_name (l : Launch) (D : va_G) (G : ClassId × ClassId) (ad : Nat → Nat) (z : TS) (p0 p1 p2 : Int32) (gn : z.1 ≤ 60) : KI l D G (wm G ad) yX1_name (ws_ yX1_name cX1_name 4 (some .int)) 4 [.ref (ad 0), .int p0, .int p1, .int p2] z (actR p0 p1 2 p2 (fun a b => mThB z a (nI b)) (z.1 = 60) z.1 z (fun a b => mAct z a 2 b p2)) := by
  refine KI.of (by decide) (Nat.le_of_ble_eq_true rfl) ?_
  intro p e s m below meth c A ls C hP hD hS hl
  obtain ⟨hx, hb, hr, hml, hown, hts, hlocks, hA, hK⟩ := id C
  have hown : s.vm.findClass RX1 = some m.cls := hown
  have hl : lv_has ls 4 [(0, .ref (ad 0)), (1, .int p0), (2, .int p1), (3, .int p2)] := hl
  refine lv_aload_n hx hb dX1_name_0 rfl (lv_at hl 0 rfl) ?_
  refine lv_iload_n hx hb dX1_name_1 rfl (lv_at hl 1 rfl) ?_
  refine lv_iconst (v := 2) hx hb dX1_name_2 (by decide) ?_
  refine lv_iload_n hx hb dX1_name_3 rfl (lv_at hl 2 rfl) ?_
  refine lv_iload_n hx hb dX1_name_4 rfl (lv_at hl 3 rfl) ?_
  refine kcallV (n := 4) (As := [.int p0, .int 2, .int p1, .int p2]) (rest := []) ⟨hx, hb, hml, hown, hts⟩ (mM_act l D G ad z p0 (k := 2) p1 p2 (by decide) gn) (lw_V q214 q216 qs8 q16 q217) rfl (by decide +kernel) ⟨Nat.le_of_ble_eq_true rfl, Nat.le_of_ble_eq_true rfl⟩ (m_rv hK hP) hK hP hD hS hA hl.1 rfl (Nat.le_of_ble_eq_true rfl) dX1_name_5 ⟨Nat.zero_le _, Nat.zero_le _⟩ (fun r5 u H locs hw hP hD hS => ?_)
  exact kret hx hb hr hlocks hK hP hD hS rfl hw dX1_name_8
set_option maxHeartbeats 4000000 in
theorem mM_count (l : Launch) (D : va_G) (G : ClassId × ClassId) (ad : Nat → Nat) (z : TS) (p0 p1 p2 : Int32) (gn : z.1 ≤ 60) : KI l D G (wm G ad) yX1_count (ws_ yX1_count cX1_count 4 (some .int)) 4 [.ref (ad 0), .int p0, .int p1, .int p2] z (actR p0 p1 3 p2 (fun a b => mThB z a (nI b)) (z.1 = 60) z.1 z (fun a b => mAct z a 3 b p2)) := by
  refine KI.of (by decide) (Nat.le_of_ble_eq_true rfl) ?_
  intro p e s m below meth c A ls C hP hD hS hl
  obtain ⟨hx, hb, hr, hml, hown, hts, hlocks, hA, hK⟩ := id C
  have hown : s.vm.findClass RX1 = some m.cls := hown
  have hl : lv_has ls 4 [(0, .ref (ad 0)), (1, .int p0), (2, .int p1), (3, .int p2)] := hl
  refine lv_aload_n hx hb dX1_count_0 rfl (lv_at hl 0 rfl) ?_
  refine lv_iload_n hx hb dX1_count_1 rfl (lv_at hl 1 rfl) ?_
  refine lv_iconst (v := 3) hx hb dX1_count_2 (by decide) ?_
  refine lv_iload_n hx hb dX1_count_3 rfl (lv_at hl 2 rfl) ?_
  refine lv_iload_n hx hb dX1_count_4 rfl (lv_at hl 3 rfl) ?_
  refine kcallV (n := 4) (As := [.int p0, .int 3, .int p1, .int p2]) (rest := []) ⟨hx, hb, hml, hown, hts⟩ (mM_act l D G ad z p0 (k := 3) p1 p2 (by decide) gn) (lw_V q214 q216 qs8 q16 q217) rfl (by decide +kernel) ⟨Nat.le_of_ble_eq_true rfl, Nat.le_of_ble_eq_true rfl⟩ (m_rv hK hP) hK hP hD hS hA hl.1 rfl (Nat.le_of_ble_eq_true rfl) dX1_count_5 ⟨Nat.zero_le _, Nat.zero_le _⟩ (fun r5 u H locs hw hP hD hS => ?_)
  exact kret hx hb hr hlocks hK hP hD hS rfl hw dX1_count_8
set_option maxHeartbeats 4000000 in
theorem mM_link (l : Launch) (D : va_G) (G : ClassId × ClassId) (ad : Nat → Nat) (z : TS) (p0 p1 p2 : Int32) (gn : z.1 ≤ 60) : KI l D G (wm G ad) yX1_link (ws_ yX1_link cX1_link 4 (some .int)) 4 [.ref (ad 0), .int p0, .int p1, .int p2] z (actR p0 p1 4 p2 (fun a b => mThB z a (nI b)) (z.1 = 60) z.1 z (fun a b => mAct z a 4 b p2)) := by
  refine KI.of (by decide) (Nat.le_of_ble_eq_true rfl) ?_
  intro p e s m below meth c A ls C hP hD hS hl
  obtain ⟨hx, hb, hr, hml, hown, hts, hlocks, hA, hK⟩ := id C
  have hown : s.vm.findClass RX1 = some m.cls := hown
  have hl : lv_has ls 4 [(0, .ref (ad 0)), (1, .int p0), (2, .int p1), (3, .int p2)] := hl
  refine lv_aload_n hx hb dX1_link_0 rfl (lv_at hl 0 rfl) ?_
  refine lv_iload_n hx hb dX1_link_1 rfl (lv_at hl 1 rfl) ?_
  refine lv_iconst (v := 4) hx hb dX1_link_2 (by decide) ?_
  refine lv_iload_n hx hb dX1_link_3 rfl (lv_at hl 2 rfl) ?_
  refine lv_iload_n hx hb dX1_link_4 rfl (lv_at hl 3 rfl) ?_
  refine kcallV (n := 4) (As := [.int p0, .int 4, .int p1, .int p2]) (rest := []) ⟨hx, hb, hml, hown, hts⟩ (mM_act l D G ad z p0 (k := 4) p1 p2 (by decide) gn) (lw_V q214 q216 qs8 q16 q217) rfl (by decide +kernel) ⟨Nat.le_of_ble_eq_true rfl, Nat.le_of_ble_eq_true rfl⟩ (m_rv hK hP) hK hP hD hS hA hl.1 rfl (Nat.le_of_ble_eq_true rfl) dX1_link_5 ⟨Nat.zero_le _, Nat.zero_le _⟩ (fun r5 u H locs hw hP hD hS => ?_)
  exact kret hx hb hr hlocks hK hP hD hS rfl hw dX1_link_8
set_option maxHeartbeats 4000000 in
theorem lM_learn {p : Program} {l : Launch} {e : Env} {s : State} {m : MethodId} {args : Array Value} {below : List Frame} {meth : Method} {c : Code} {A : Nat → Prop} {D : va_G} {G : ClassId × ClassId} {ad : Nat → Nat} {post : Int32 → TS → Prop} (C : Cx p s m args meth c RX1 cX1_learnSome 6 (some .int) A D G) {a b n : Nat} {lim : Int32} (ga : a < 3) (gb : b < 3) (gn : n ≤ 60) : ∀ (k i d : Nat) (z : TS), i + k = n → z.1 = n → post (nI (mLr a b lim k i d z).2) (mLr a b lim k i d z).1 → ∀ (H : Heap) (locs : List Loc) (ls : Array Slot), va_P D vwCl ((wm G ad) z) H → va_D A ((wm G ad) z) → va_S A s.heap H locs → lv_has ls 6 [(0, .ref (ad 0)), (1, .int (nI a)), (2, .int (nI b)), (3, .int lim), (4, .int (nI d)), (5, .int (nI i))] → W p l e (rmD 1) s m args below meth c H locs 0 0 (QI D G (wm G ad) below args s post A) (F0 m 32 ls []) := by
  obtain ⟨hx, hb, hr, hml, hown, hts, hlocks, hA, hK⟩ := id C
  intro k
  induction k with
  | zero =>
    intro i d z hi en hpost H locs ls hP hD hS hl
    obtain rfl : i = z.1 := by omega
    refine lv_iload hx hb dX1_learnSome_32 (lv_at hl 5 rfl) ?_
    refine lv_aload_n hx hb dX1_learnSome_34 rfl (lv_at hl 0 rfl) ?_
    refine m_get 0 hx hb hts hown hK hP (by decide) rfl q182 rfl dX1_learnSome_35 ?_
    refine lv_icmp_ge (tgt := 132) hx hb dX1_learnSome_38 (by decide) (fun c38 => ?_) (fun c38 => absurd (Int32.le_refl _) c38)
    refine lv_iload hx hb dX1_learnSome_132 (lv_at hl 4 rfl) ?_
    exact kret hx hb hr hlocks hK hP hD hS rfl hpost dX1_learnSome_134
  | succ k ih =>
    intro i d z hi en hpost H locs ls hP hD hS hl
    have gi : i < 60 := by omega
    have hrec : mLr a b lim (k + 1) i d z = cT (nI d < lim ∧ lb (z.2.2 7 b) i ∧ ¬ lb (z.2.2 7 a) i) (mLr a b lim k (i + 1) (d + 1) (mTake z a i)) (mLr a b lim k (i + 1) d z) := rfl
    rw [hrec] at hpost
    refine lv_iload hx hb dX1_learnSome_32 (lv_at hl 5 rfl) ?_
    refine lv_aload_n hx hb dX1_learnSome_34 rfl (lv_at hl 0 rfl) ?_
    refine m_get 0 hx hb hts hown hK hP (by decide) rfl q182 rfl dX1_learnSome_35 ?_
    refine lv_icmp_ge (tgt := 132) hx hb dX1_learnSome_38 (by decide) (fun c38 => absurd c38 (nI_ge (by omega) (by omega))) (fun c38 => ?_)
    refine lv_iload hx hb dX1_learnSome_41 (lv_at hl 4 rfl) ?_
    refine lv_iload_n hx hb dX1_learnSome_43 rfl (lv_at hl 3 rfl) ?_
    refine lv_icmp_ge (tgt := 126) hx hb dX1_learnSome_44 (by decide) (fun c44 => ?_) (fun c44 => ?_)
    · refine lv_iinc (v := nI (i + 1)) (lv' := [(5, .int (nI (i + 1))), (0, .ref (ad 0)), (1, .int (nI a)), (2, .int (nI b)), (3, .int lim), (4, .int (nI d))]) hx hb dX1_learnSome_126 hl (k := 5) rfl (nI_1 _) (by decide) rfl (fun ls hl => ?_)
      refine lv_goto (tgt := 32) hx hb dX1_learnSome_129 (by decide) ?_
      rw [cT_f (p := nI d < lim ∧ lb (z.2.2 7 b) i ∧ ¬ lb (z.2.2 7 a) i) (fun q => i_nlt c44 q.1)] at hpost
      exact ih (i + 1) d z (by omega) en hpost _ _ _ hP hD hS (lv_sub hl [1, 2, 3, 4, 5, 0] rfl)
    · refine lv_aload_n hx hb dX1_learnSome_47 rfl (lv_at hl 0 rfl) ?_
      refine lv_aload_n hx hb dX1_learnSome_48 rfl (lv_at hl 0 rfl) ?_
      refine m_get 7 hx hb hts hown hK hP (by decide) rfl q189 rfl dX1_learnSome_49 ?_
      refine lv_iload_n hx hb dX1_learnSome_52 rfl (lv_at hl 2 rfl) ?_
      refine na_lald 7 hx hb hK hP rfl (by decide) (by omega) dX1_learnSome_53 ?_
      refine lv_iload hx hb dX1_learnSome_54 (lv_at hl 5 rfl) ?_
      refine kcallVr (n := 2) (As := [.long (z.2.2 7 b), .int (nI i)]) (rest := []) ⟨hx, hb, hml, hown, hts⟩ (mM_in l D G ad z (z.2.2 7 b) (by omega)) (lw_V q230 q232 qs11 q16 q233) rfl (by decide +kernel) ⟨Nat.le_of_ble_eq_true rfl, Nat.le_of_ble_eq_true rfl⟩ (m_rv hK hP) hK hP hD hS hA hl.1 rfl (Nat.le_of_ble_eq_true rfl) dX1_learnSome_56 ⟨Nat.zero_le _, Nat.zero_le _⟩ (fun r56 H locs er56 hP hS => ?_)
      subst er56
      refine lv_if_eq (tgt := 126) hx hb dX1_learnSome_59 (by decide) (fun c59 => ?_) (fun c59 => ?_)
      · refine lv_iinc (v := nI (i + 1)) (lv' := [(5, .int (nI (i + 1))), (0, .ref (ad 0)), (1, .int (nI a)), (2, .int (nI b)), (3, .int lim), (4, .int (nI d))]) hx hb dX1_learnSome_126 hl (k := 5) rfl (nI_1 _) (by decide) rfl (fun ls hl => ?_)
        refine lv_goto (tgt := 32) hx hb dX1_learnSome_129 (by decide) ?_
        rw [cT_f (p := nI d < lim ∧ lb (z.2.2 7 b) i ∧ ¬ lb (z.2.2 7 a) i) (fun q => bI_eq c59 q.2.1)] at hpost
        exact ih (i + 1) d z (by omega) en hpost _ _ _ hP hD hS (lv_sub hl [1, 2, 3, 4, 5, 0] rfl)
      · refine lv_aload_n hx hb dX1_learnSome_62 rfl (lv_at hl 0 rfl) ?_
        refine lv_aload_n hx hb dX1_learnSome_63 rfl (lv_at hl 0 rfl) ?_
        refine m_get 7 hx hb hts hown hK hP (by decide) rfl q189 rfl dX1_learnSome_64 ?_
        refine lv_iload_n hx hb dX1_learnSome_67 rfl (lv_at hl 1 rfl) ?_
        refine na_lald 7 hx hb hK hP rfl (by decide) (by omega) dX1_learnSome_68 ?_
        refine lv_iload hx hb dX1_learnSome_69 (lv_at hl 5 rfl) ?_
        refine kcallVr (n := 2) (As := [.long (z.2.2 7 a), .int (nI i)]) (rest := []) ⟨hx, hb, hml, hown, hts⟩ (mM_in l D G ad z (z.2.2 7 a) (by omega)) (lw_V q230 q232 qs11 q16 q233) rfl (by decide +kernel) ⟨Nat.le_of_ble_eq_true rfl, Nat.le_of_ble_eq_true rfl⟩ (m_rv hK hP) hK hP hD hS hA hl.1 rfl (Nat.le_of_ble_eq_true rfl) dX1_learnSome_71 ⟨Nat.zero_le _, Nat.zero_le _⟩ (fun r71 H locs er71 hP hS => ?_)
        subst er71
        refine lv_if_ne (tgt := 126) hx hb dX1_learnSome_74 (by decide) (fun c74 => ?_) (fun c74 => ?_)
        · refine lv_iinc (v := nI (i + 1)) (lv' := [(5, .int (nI (i + 1))), (0, .ref (ad 0)), (1, .int (nI a)), (2, .int (nI b)), (3, .int lim), (4, .int (nI d))]) hx hb dX1_learnSome_126 hl (k := 5) rfl (nI_1 _) (by decide) rfl (fun ls hl => ?_)
          refine lv_goto (tgt := 32) hx hb dX1_learnSome_129 (by decide) ?_
          rw [cT_f (p := nI d < lim ∧ lb (z.2.2 7 b) i ∧ ¬ lb (z.2.2 7 a) i) (fun q => q.2.2 (bI_ne c74))] at hpost
          exact ih (i + 1) d z (by omega) en hpost _ _ _ hP hD hS (lv_sub hl [1, 2, 3, 4, 5, 0] rfl)
        · refine lv_aload_n hx hb dX1_learnSome_77 rfl (lv_at hl 0 rfl) ?_
          refine m_get 7 hx hb hts hown hK hP (by decide) rfl q189 rfl dX1_learnSome_78 ?_
          refine lv_iload_n hx hb dX1_learnSome_81 rfl (lv_at hl 1 rfl) ?_
          refine lv_aload_n hx hb dX1_learnSome_82 rfl (lv_at hl 0 rfl) ?_
          refine m_get 7 hx hb hts hown hK hP (by decide) rfl q189 rfl dX1_learnSome_83 ?_
          refine lv_iload_n hx hb dX1_learnSome_86 rfl (lv_at hl 1 rfl) ?_
          refine na_lald 7 hx hb hK hP rfl (by decide) (by omega) dX1_learnSome_87 ?_
          refine lv_lconst (v := 1) hx hb dX1_learnSome_88 (by decide) ?_
          refine lv_iload hx hb dX1_learnSome_89 (lv_at hl 5 rfl) ?_
          refine n_lshl hx hb dX1_learnSome_91 ?_
          refine lv_lor hx hb dX1_learnSome_92 ?_
          refine na_last 7 hx hb hK hP hD hS rfl (fun _ => rfl) (by decide) (by omega) dX1_learnSome_93 (fun H locs hP hD hS => ?_)
          refine lv_aload_n hx hb dX1_learnSome_94 rfl (lv_at hl 0 rfl) ?_
          refine m_get 4 hx hb hts hown hK hP (by decide) rfl q186 rfl dX1_learnSome_95 ?_
          refine lv_iload hx hb dX1_learnSome_98 (lv_at hl 5 rfl) ?_
          refine na_iald 4 hx hb hK hP rfl (by decide) (by omega) dX1_learnSome_100 ?_
          refine w_ti (y := z.2.1 4 i) rfl ?_
          refine lv_aload_n hx hb dX1_learnSome_101 rfl (lv_at hl 0 rfl) ?_
          refine m_get 8 hx hb hts hown hK hP (by decide) rfl q190 rfl dX1_learnSome_102 ?_
          refine lv_iload_n hx hb dX1_learnSome_105 rfl (lv_at hl 1 rfl) ?_
          refine na_iald 8 hx hb hK hP rfl (by decide) (by omega) dX1_learnSome_106 ?_
          refine w_ti (y := z.2.1 8 a) rfl ?_
          refine lv_icmp_le (tgt := 123) hx hb dX1_learnSome_107 (by decide) (fun c107 => ?_) (fun c107 => ?_)
          · have em : sL z 7 a ((z.2.2 7 a) ||| (bitL i)) = mTake z a i := (show mSt (sL z 7 a (z.2.2 7 a ||| bitL i)) a i = sL z 7 a ((z.2.2 7 a) ||| (bitL i)) from cT_f (i_nlt c107) _ _).symm
            rw [em] at hP hD
            refine lv_iinc (v := nI (d + 1)) (lv' := [(4, .int (nI (d + 1))), (0, .ref (ad 0)), (1, .int (nI a)), (2, .int (nI b)), (3, .int lim), (5, .int (nI i))]) hx hb dX1_learnSome_123 hl (k := 4) rfl (nI_1 _) (by decide) rfl (fun ls hl => ?_)
            refine lv_iinc (v := nI (i + 1)) (lv' := [(5, .int (nI (i + 1))), (4, .int (nI (d + 1))), (0, .ref (ad 0)), (1, .int (nI a)), (2, .int (nI b)), (3, .int lim)]) hx hb dX1_learnSome_126 hl (k := 5) rfl (nI_1 _) (by decide) rfl (fun ls hl => ?_)
            refine lv_goto (tgt := 32) hx hb dX1_learnSome_129 (by decide) ?_
            rw [cT_t (p := nI d < lim ∧ lb (z.2.2 7 b) i ∧ ¬ lb (z.2.2 7 a) i) ⟨i_lt c44, bI_ne c59, bI_eq c74⟩] at hpost
            exact ih (i + 1) (d + 1) (mTake z a i) (by omega) ((mTake_n z a i).trans en) hpost _ _ _ hP hD hS (lv_sub hl [2, 3, 4, 5, 1, 0] rfl)
          · refine lv_aload_n hx hb dX1_learnSome_110 rfl (lv_at hl 0 rfl) ?_
            refine m_get 8 hx hb hts hown hK hP (by decide) rfl q190 rfl dX1_learnSome_111 ?_
            refine lv_iload_n hx hb dX1_learnSome_114 rfl (lv_at hl 1 rfl) ?_
            refine lv_aload_n hx hb dX1_learnSome_115 rfl (lv_at hl 0 rfl) ?_
            refine m_get 4 hx hb hts hown hK hP (by decide) rfl q186 rfl dX1_learnSome_116 ?_
            refine lv_iload hx hb dX1_learnSome_119 (lv_at hl 5 rfl) ?_
            refine na_iald 4 hx hb hK hP rfl (by decide) (by omega) dX1_learnSome_121 ?_
            refine w_ti (y := z.2.1 4 i) rfl ?_
            refine na_iast 8 hx hb hK hP hD hS rfl (fun _ => rfl) (by decide) (by omega) dX1_learnSome_122 (fun H locs hP hD hS => ?_)
            have em : sI (sL z 7 a ((z.2.2 7 a) ||| (bitL i))) 8 a (z.2.1 4 i) = mTake z a i := (show mSt (sL z 7 a (z.2.2 7 a ||| bitL i)) a i = sI (sL z 7 a ((z.2.2 7 a) ||| (bitL i))) 8 a (z.2.1 4 i) from cT_t (i_lt c107) _ _).symm
            rw [em] at hP hD
            refine lv_iinc (v := nI (d + 1)) (lv' := [(4, .int (nI (d + 1))), (0, .ref (ad 0)), (1, .int (nI a)), (2, .int (nI b)), (3, .int lim), (5, .int (nI i))]) hx hb dX1_learnSome_123 hl (k := 4) rfl (nI_1 _) (by decide) rfl (fun ls hl => ?_)
            refine lv_iinc (v := nI (i + 1)) (lv' := [(5, .int (nI (i + 1))), (4, .int (nI (d + 1))), (0, .ref (ad 0)), (1, .int (nI a)), (2, .int (nI b)), (3, .int lim)]) hx hb dX1_learnSome_126 hl (k := 5) rfl (nI_1 _) (by decide) rfl (fun ls hl => ?_)
            refine lv_goto (tgt := 32) hx hb dX1_learnSome_129 (by decide) ?_
            rw [cT_t (p := nI d < lim ∧ lb (z.2.2 7 b) i ∧ ¬ lb (z.2.2 7 a) i) ⟨i_lt c44, bI_ne c59, bI_eq c74⟩] at hpost
            exact ih (i + 1) (d + 1) (mTake z a i) (by omega) ((mTake_n z a i).trans en) hpost _ _ _ hP hD hS (lv_sub hl [2, 3, 4, 5, 1, 0] rfl)
set_option maxHeartbeats 4000000 in
theorem mM_learnSome (l : Launch) (D : va_G) (G : ClassId × ClassId) (ad : Nat → Nat) (z : TS) (p0 p1 p2 : Int32) (gn : z.1 ≤ 60) : KI l D G (wm G ad) yX1_learnSome (ws_ yX1_learnSome cX1_learnSome 6 (some .int)) 1 [.ref (ad 0), .int p0, .int p1, .int p2] z (lrnR p0 p1 z (fun a b => mLr a b p2 z.1 0 0 z)) := by
  refine KI.of (by decide) (Nat.le_of_ble_eq_true rfl) ?_
  intro p e s m below meth c A ls C hP hD hS hl
  obtain ⟨hx, hb, hr, hml, hown, hts, hlocks, hA, hK⟩ := id C
  have hown : s.vm.findClass RX1 = some m.cls := hown
  have hl : lv_has ls 6 [(0, .ref (ad 0)), (1, .int p0), (2, .int p1), (3, .int p2)] := hl
  refine lv_aload_n hx hb dX1_learnSome_0 rfl (lv_at hl 0 rfl) ?_
  refine lv_iload_n hx hb dX1_learnSome_1 rfl (lv_at hl 1 rfl) ?_
  refine kcallVr (n := 1) (As := [.int p0]) (rest := []) ⟨hx, hb, hml, hown, hts⟩ (mM_badReplica l D G ad z p0) (lw_V q218 q220 qs9 q16 q221) rfl (by decide +kernel) ⟨Nat.le_of_ble_eq_true rfl, Nat.le_of_ble_eq_true rfl⟩ (m_rv hK hP) hK hP hD hS hA hl.1 rfl (Nat.le_of_ble_eq_true rfl) dX1_learnSome_2 ⟨Nat.zero_le _, Nat.zero_le _⟩ (fun r2 H locs er2 hP hS => ?_)
  subst er2
  refine lv_if_ne (tgt := 16) hx hb dX1_learnSome_5 (by decide) (fun c5 => ?_) (fun c5 => ?_)
  · refine lv_iconst (v := (-1)) hx hb dX1_learnSome_16 (by decide) ?_
    exact kret hx hb hr hlocks hK hP hD hS rfl (lrnR_no (fun v => bI_ne c5 v.1)) dX1_learnSome_17
  · refine lv_aload_n hx hb dX1_learnSome_8 rfl (lv_at hl 0 rfl) ?_
    refine lv_iload_n hx hb dX1_learnSome_9 rfl (lv_at hl 2 rfl) ?_
    refine kcallVr (n := 1) (As := [.int p1]) (rest := []) ⟨hx, hb, hml, hown, hts⟩ (mM_badReplica l D G ad z p1) (lw_V q218 q220 qs9 q16 q221) rfl (by decide +kernel) ⟨Nat.le_of_ble_eq_true rfl, Nat.le_of_ble_eq_true rfl⟩ (m_rv hK hP) hK hP hD hS hA hl.1 rfl (Nat.le_of_ble_eq_true rfl) dX1_learnSome_10 ⟨Nat.zero_le _, Nat.zero_le _⟩ (fun r10 H locs er10 hP hS => ?_)
    subst er10
    refine lv_if_eq (tgt := 18) hx hb dX1_learnSome_13 (by decide) (fun c13 => ?_) (fun c13 => ?_)
    · obtain ⟨a, ga, rfl⟩ := bI_nn c5
      obtain ⟨b, gb, rfl⟩ := bI_nn c13
      refine lv_iload_n hx hb dX1_learnSome_18 rfl (lv_at hl 1 rfl) ?_
      refine lv_iload_n hx hb dX1_learnSome_19 rfl (lv_at hl 2 rfl) ?_
      refine lv_icmp_ne (tgt := 26) hx hb dX1_learnSome_20 (by decide) (fun c20 => ?_) (fun c20 => ?_)
      · refine lv_iconst (v := 0) hx hb dX1_learnSome_26 (by decide) ?_
        refine lv_istore (lv' := [(4, .int 0), (0, .ref (ad 0)), (1, .int (nI a)), (2, .int (nI b)), (3, .int p2)]) hx hb dX1_learnSome_27 hl (by decide) rfl (fun ls hl => ?_)
        refine lv_iconst (v := 0) hx hb dX1_learnSome_29 (by decide) ?_
        refine lv_istore (lv' := [(5, .int 0), (4, .int 0), (0, .ref (ad 0)), (1, .int (nI a)), (2, .int (nI b)), (3, .int p2)]) hx hb dX1_learnSome_30 hl (by decide) rfl (fun ls hl => ?_)
        exact lM_learn C ga gb gn z.1 0 0 z (Nat.zero_add _) rfl (lrnR_go ga gb (fun x => c20 (by rw [x])) ⟨rfl, rfl⟩) _ _ _ hP hD hS (lv_sub hl [2, 3, 4, 5, 1, 0] rfl)
      · refine lv_bipush (v := (-5)) hx hb dX1_learnSome_23 (by decide) ?_
        exact kret hx hb hr hlocks hK hP hD hS rfl (lrnR_eq ga gb (nI_in_lt (by decide) ga gb c20)) dX1_learnSome_25
    · refine lv_iconst (v := (-1)) hx hb dX1_learnSome_16 (by decide) ?_
      exact kret hx hb hr hlocks hK hP hD hS rfl (lrnR_no (fun v => bI_ne c13 v.2)) dX1_learnSome_17
set_option maxHeartbeats 4000000 in
theorem mM_learn (l : Launch) (D : va_G) (G : ClassId × ClassId) (ad : Nat → Nat) (z : TS) (p0 p1 : Int32) (gn : z.1 ≤ 60) : KI l D G (wm G ad) yX1_learn (ws_ yX1_learn cX1_learn 3 (some .int)) 2 [.ref (ad 0), .int p0, .int p1] z (lrnR p0 p1 z (fun a b => mLr a b 60 z.1 0 0 z)) := by
  refine KI.of (by decide) (Nat.le_of_ble_eq_true rfl) ?_
  intro p e s m below meth c A ls C hP hD hS hl
  obtain ⟨hx, hb, hr, hml, hown, hts, hlocks, hA, hK⟩ := id C
  have hown : s.vm.findClass RX1 = some m.cls := hown
  have hl : lv_has ls 3 [(0, .ref (ad 0)), (1, .int p0), (2, .int p1)] := hl
  refine lv_aload_n hx hb dX1_learn_0 rfl (lv_at hl 0 rfl) ?_
  refine lv_iload_n hx hb dX1_learn_1 rfl (lv_at hl 1 rfl) ?_
  refine lv_iload_n hx hb dX1_learn_2 rfl (lv_at hl 2 rfl) ?_
  refine lv_bipush (v := 60) hx hb dX1_learn_3 (by decide) ?_
  refine kcallV (n := 3) (As := [.int p0, .int p1, .int 60]) (rest := []) ⟨hx, hb, hml, hown, hts⟩ (mM_learnSome l D G ad z p0 p1 60 gn) (lw_V q258 q259 q260 q16 q261) rfl (by decide +kernel) ⟨Nat.le_of_ble_eq_true rfl, Nat.le_of_ble_eq_true rfl⟩ (m_rv hK hP) hK hP hD hS hA hl.1 rfl (Nat.le_of_ble_eq_true rfl) dX1_learn_5 ⟨Nat.zero_le _, Nat.zero_le _⟩ (fun r5 u H locs hw hP hD hS => ?_)
  exact kret hx hb hr hlocks hK hP hD hS rfl hw dX1_learn_8
end
section
/-! the two constructors -/
set_option maxRecDepth 100000
/-- a table as it is made, the first i places of the two lasts set -/
def Ini (z : TS) (i : Nat) : Prop := z.1 = 0 ∧ (∀ j, j < i → z.2.1 12 j = -1 ∧ z.2.1 13 j = -1) ∧ (∀ k, k ≠ 12 → k ≠ 13 → z.2.1 k = fun _ => 0) ∧ z.2.2 = fun _ _ => 0
abbrev z00 : TS := (0, fun _ _ => 0, fun _ _ => 0)
theorem Ini_0 : Ini z00 0 := ⟨rfl, fun _ h => absurd h (Nat.not_lt_zero _), fun _ _ _ => rfl, rfl⟩
theorem Ini_s {z : TS} {i : Nat} (h : Ini z i) : Ini (sI (sI z 12 i (-1)) 13 i (-1)) (i + 1) := by
  obtain ⟨h1, h2, h3, h4⟩ := h
  refine ⟨h1, fun j hj => ⟨?_, ?_⟩, fun k hk hk' => ?_, h4⟩
  · rw [sI_k _ _ _ _ _ (by decide), sI_at]
    by_cases e : j = i
    · rw [if_pos ⟨rfl, e⟩]
    · rw [if_neg (fun x => e x.2)]; exact (h2 j (by omega)).1
  · rw [sI_at]
    by_cases e : j = i
    · rw [if_pos ⟨rfl, e⟩]
    · rw [if_neg (fun x => e x.2), sI_k _ _ _ _ _ (by decide)]; exact (h2 j (by omega)).2
  · rw [sI_k _ _ _ _ _ hk', sI_k _ _ _ _ _ hk]; exact h3 k hk hk'
def BC (D : va_G) (G : ClassId × ClassId) (wfc : (Nat → Nat) → TS → va_W) (A : Nat → Prop) (u : (Nat → Nat) × TS) (t : State) : Prop := va_P D vwCl (wfc u.1 u.2) t.heap ∧ va_K D vwCl (tyz G) t ∧ va_D A (wfc u.1 u.2)
section NEW
variable {p : Program} {l : Launch} {e : Env} {R : Room} {s : State} {m : MethodId} {args : Array Value} {below : List Frame} {meth : Method} {c : Code} {H : Heap} {locs : List Loc} {cells slots : Nat} {Q : State → Prop}
variable {cc : ByteArray} {pc : Nat} {ls : Array Slot} {rest : List Value} {D : va_G} {G : ClassId × ClassId} {A : Nat → Prop} {H0 : Heap} {ws : va_W}
theorem n_newi {n : Int32} {N : Nat} (hx : p.tables.exec = Jvm.exec) (hb : c.code = cc) (hts : ∀ w ∈ lw_all, w.before args s = true) (hK : va_K D vwCl (tyz G) s) (hP : va_P D vwCl ws H) (hD : va_D A ws) (hS : va_S A H0 H locs) (hA : ∀ q, H0.size ≤ q → A q) (hn : ¬ n < 0) (hN : n.toNatClampNeg = N) (hbytes : N * componentBytes .int ≤ 536870912) (hcells : cells + 1 ≤ R.cells) (hslots : slots + N ≤ R.slots) (hdg : decode cc pc = .ok (.newarray .int, 2))
    (kk : ∀ (q : Nat) (H1 : Heap), va_P D vwCl (ws ++ [(q, .inl (G.1, N, .inl (fun _ => 0)))]) H1 → va_D A (ws ++ [(q, .inl (G.1, N, .inl (fun _ => 0)))]) → va_S A H0 H1 locs → W p l e R s m args below meth c H1 locs (cells + 1) (slots + N) Q (F0 m (pc + 2) ls (.ref q :: rest))) : W p l e R s m args below meth c H locs cells slots Q (F0 m pc ls (.int n :: rest)) := by
  refine va_newa (a0 := (N, .inl (fun _ => 0))) hx hb (atype := .int) (hts _ q71) rfl hK hP hD hS hA (fun cA => rfl) hn hN hbytes hcells hslots hdg (fun q cA H1 hK1 hP1 hD1 hS1 => ?_)
  have h1 : s.vm.findClass ("[" ++ FieldType.int.toString) = some cA := (hK1.2 2 (cA, .int) rfl).2
  have h0 : s.vm.findClass ("[" ++ FieldType.int.toString) = some G.1 := (hK.2 0 (G.1, .int) rfl).2
  have ec : cA = G.1 := Option.some.inj (h1.symm.trans h0)
  subst ec
  exact kk q H1 hP1 hD1 hS1
theorem n_newl {n : Int32} {N : Nat} (hx : p.tables.exec = Jvm.exec) (hb : c.code = cc) (hts : ∀ w ∈ lw_all, w.before args s = true) (hK : va_K D vwCl (tyz G) s) (hP : va_P D vwCl ws H) (hD : va_D A ws) (hS : va_S A H0 H locs) (hA : ∀ q, H0.size ≤ q → A q) (hn : ¬ n < 0) (hN : n.toNatClampNeg = N) (hbytes : N * componentBytes .long ≤ 536870912) (hcells : cells + 1 ≤ R.cells) (hslots : slots + N ≤ R.slots) (hdg : decode cc pc = .ok (.newarray .long, 2))
    (kk : ∀ (q : Nat) (H1 : Heap), va_P D vwCl (ws ++ [(q, .inl (G.2, N, .inr (.inl (fun _ => 0))))]) H1 → va_D A (ws ++ [(q, .inl (G.2, N, .inr (.inl (fun _ => 0))))]) → va_S A H0 H1 locs → W p l e R s m args below meth c H1 locs (cells + 1) (slots + N) Q (F0 m (pc + 2) ls (.ref q :: rest))) : W p l e R s m args below meth c H locs cells slots Q (F0 m pc ls (.int n :: rest)) := by
  refine va_newa (a0 := (N, .inr (.inl (fun _ => 0)))) hx hb (atype := .long) (hts _ q72) rfl hK hP hD hS hA (fun cA => rfl) hn hN hbytes hcells hslots hdg (fun q cA H1 hK1 hP1 hD1 hS1 => ?_)
  have h1 : s.vm.findClass ("[" ++ FieldType.long.toString) = some cA := (hK1.2 2 (cA, .long) rfl).2
  have h0 : s.vm.findClass ("[" ++ FieldType.long.toString) = some G.2 := (hK.2 1 (G.2, .long) rfl).2
  have ec : cA = G.2 := Option.some.inj (h1.symm.trans h0)
  subst ec
  exact kk q H1 hP1 hD1 hS1
end NEW
set_option maxHeartbeats 4000000 in
theorem lX_init {p : Program} {l : Launch} {e : Env} {R : Room} {s : State} {m : MethodId} {args : Array Value} {below : List Frame} {meth : Method} {c : Code} {A : Nat → Prop} {D : va_G} {G : ClassId × ClassId} {ad : Nat → Nat} {post : (Nat → Nat) × TS → Prop} (C : Cx p s m args meth c RX0 cX0_init 2 none A D G) (hpost : ∀ z, Ini z 24 → post (ad, z)) : ∀ (k i : Nat) (z : TS), i + k = 24 → Ini z i → ∀ (H : Heap) (locs : List Loc) (ls : Array Slot), va_P D vwCl (wx G ad z) H → va_D A (wx G ad z) → va_S A s.heap H locs → lv_has ls 2 [(0, .ref (ad 0)), (1, .int (nI i))] → W p l e R s m args below meth c H locs 14 489 (MQ below (va_Qv post (BC D G (wx G) A) A) args s 14 489 A) (F0 m 115 ls []) := by
  obtain ⟨hx, hb, hr, hml, hown, hts, hlocks, hA, hK⟩ := id C
  intro k
  induction k with
  | zero =>
    intro i z hi hI H locs ls hP hD hS hl
    obtain rfl : i = 24 := by omega
    refine lv_iload_n hx hb dX0_init_115 rfl (lv_at hl 1 rfl) ?_
    refine lv_bipush (v := 24) hx hb dX0_init_116 (by decide) ?_
    refine lv_icmp_ge (tgt := 141) hx hb dX0_init_118 (by decide) (fun c118 => ?_) (fun c118 => absurd (by decide : (24 : Int32) ≤ nI 24) c118)
    exact W.vret hx hb hr (fun t ht hW => ⟨⟨(ad, z), rfl, hpost z hI, by rw [ht]; exact hP, va_K.moved hW.alike hK, hD⟩, hS.F ht⟩) hS.2.2 dX0_init_141 (hlocks := hlocks)
  | succ k ih =>
    intro i z hi hI H locs ls hP hD hS hl
    refine lv_iload_n hx hb dX0_init_115 rfl (lv_at hl 1 rfl) ?_
    refine lv_bipush (v := 24) hx hb dX0_init_116 (by decide) ?_
    refine lv_icmp_ge (tgt := 141) hx hb dX0_init_118 (by decide) (fun c118 => absurd c118 (nI_ge (a := i) (b := 24) (by omega) (by decide))) (fun c118 => ?_)
    refine lv_aload_n hx hb dX0_init_121 rfl (lv_at hl 0 rfl) ?_
    refine x_get 12 hx hb hts hown hK hP (by decide) rfl q37 rfl dX0_init_122 ?_
    refine lv_iload_n hx hb dX0_init_125 rfl (lv_at hl 1 rfl) ?_
    refine lv_iconst (v := (-1)) hx hb dX0_init_126 (by decide) ?_
    refine na_iast 12 hx hb hK hP hD hS rfl (fun _ => rfl) (by decide) (by omega) dX0_init_127 (fun H locs hP hD hS => ?_)
    refine lv_aload_n hx hb dX0_init_128 rfl (lv_at hl 0 rfl) ?_
    refine x_get 13 hx hb hts hown hK hP (by decide) rfl q38 rfl dX0_init_129 ?_
    refine lv_iload_n hx hb dX0_init_132 rfl (lv_at hl 1 rfl) ?_
    refine lv_iconst (v := (-1)) hx hb dX0_init_133 (by decide) ?_
    refine na_iast 13 hx hb hK hP hD hS rfl (fun _ => rfl) (by decide) (by omega) dX0_init_134 (fun H locs hP hD hS => ?_)
    refine lv_iinc (v := nI (i + 1)) (lv' := [(1, .int (nI (i + 1))), (0, .ref (ad 0))]) hx hb dX0_init_135 hl (k := 1) rfl (nI_1 _) (by decide) rfl (fun ls hl => ?_)
    refine lv_goto (tgt := 115) hx hb dX0_init_138 (by decide) ?_
    exact ih (i + 1) _ (by omega) (Ini_s hI) _ _ _ hP hD hS (lv_sub hl [1, 0] rfl)
set_option maxHeartbeats 8000000 in
theorem mX_init (l : Launch) (D : va_G) (G : ClassId × ClassId) (h0 sz : Nat) : Met l yX0_init (ws_ yX0_init cX0_init 2 none) ({ frames := 1, cells := 14, slots := 489, locals := 12 } : Room) (va_Pc [.ref h0] (fun U => U.heap.size = sz ∧ va_P D vwCl [(h0, .inr (0, [.int 0, .null, .null, .null, .null, .null, .null, .null, .null, .null, .null, .null, .null, .null, .null]))] U.heap ∧ va_K D vwCl (tyz G) U ∧ va_D (fun _ => True) [(h0, .inr (0, [.int 0, .null, .null, .null, .null, .null, .null, .null, .null, .null, .null, .null, .null, .null, .null]))])) (va_Qv (fun u : (Nat → Nat) × TS => u.1 0 = h0 ∧ Ini u.2 24) (BC D G (wx G) (va_A [(h0, .inr (0, [.int 0, .null, .null, .null, .null, .null, .null, .null, .null, .null, .null, .null, .null, .null, .null]))] sz)) (va_A [(h0, .inr (0, [.int 0, .null, .null, .null, .null, .null, .null, .null, .null, .null, .null, .null, .null, .null, .null]))] sz)) 14 489 (va_A [(h0, .inr (0, [.int 0, .null, .null, .null, .null, .null, .null, .null, .null, .null, .null, .null, .null, .null, .null]))] sz) := by
  refine Met.ofW (cc := cX0_init) (maxL := 2) (ret := none) (by decide) rfl ?_
  intro p e s m args below meth c s₁ B hml hv
  obtain ⟨rfl, hsz, hP, hK, hD0⟩ := hv
  have hx := B.exec
  have hb := B.bytes
  have hr := B.returns
  have hts := atoms_spec (ws := ws_ yX0_init cX0_init 2 none) B.pre
  have hts : ∀ w ∈ lw_all, w.before _ s = true := fun w h => hts w (List.mem_cons_of_mem _ h)
  have hown : s.vm.findClass RX0 = some m.cls := findClass_of_methodNamed B.named
  have hlocks := B.notSynchronized
  have hin : meth.name = "<init>" := (name_of_methodNamed B.named B.method).1
  subst hsz
  have hD := hD0.self (sz := s.heap.size)
  generalize hAe : va_A [(h0, .inr (0, [.int 0, .null, .null, .null, .null, .null, .null, .null, .null, .null, .null, .null, .null, .null, .null]))] s.heap.size = A at hD ⊢
  have hA : ∀ q : Nat, s.heap.size ≤ q → A q := fun q h => by rw [← hAe]; exact Or.inr h
  have hS : va_S A s.heap s.heap [] := va_S.rf
  have hP : va_P D vwCl [(h0, .inr (0, [.int 0, .null, .null, .null, .null, .null, .null, .null, .null, .null, .null, .null, .null, .null, .null]))] s.heap := hP
  have hl := lv_entry ([.ref h0]) (n := 2) (Nat.le_of_ble_eq_true rfl)
  rw [lg_entry_eq]
  generalize (lg_sl ([.ref h0]) ++ List.replicate (2 - (lg_sl ([.ref h0])).length) Slot.unset).toArray = ls at hl ⊢
  have hl : lv_has ls 2 [(0, .ref h0)] := hl
  refine lv_aload_n hx hb dX0_init_0 rfl (lv_at hl 0 rfl) ?_
  refine W.objInit hx hb hown (hts _ q22) (hts _ q23) (hts _ q24) rfl (by rw [hml]; exact hl.1) rfl dX0_init_1 (Nat.le_of_ble_eq_true rfl) (Nat.le_of_ble_eq_true rfl) ?_
  refine W.eq (g2 := F0 m 4 ls []) rfl ?_
  refine lv_aload_n hx hb dX0_init_4 rfl (lv_at hl 0 rfl) ?_
  refine lv_bipush (v := 60) hx hb dX0_init_5 (by decide) ?_
  refine n_newi (N := 60) hx hb hts hK hP hD hS hA (by decide) (by decide) (by decide) (Nat.le_of_ble_eq_true rfl) (Nat.le_of_ble_eq_true rfl) dX0_init_7 (fun q1 H hP hD hS => ?_)
  have hP : va_P D vwCl [(h0, .inr (0, [.int 0, .null, .null, .null, .null, .null, .null, .null, .null, .null, .null, .null, .null, .null, .null])), (q1, .inl (G.1, 60, .inl (fun _ => 0)))] H := hP
  have hD : va_D A [(h0, .inr (0, [.int 0, .null, .null, .null, .null, .null, .null, .null, .null, .null, .null, .null, .null, .null, .null])), (q1, .inl (G.1, 60, .inl (fun _ => 0)))] := hD
  refine W.widen (k := 1) (n := 60) (by decide) (by decide) ?_
  refine va_putF (D := D) (ci := 0) (v := .ref q1) (ty := .array .int) (C := RX0) (T := TX0) (N := 15) hx hb hts in_X0 tyX0 tyX0_ok nmX0 hown hK hP hD hS 0 rfl rfl 1 (by decide) (hts _ q26) (fun _ h9 => h9) rfl hin rfl (by decide +kernel) rfl rfl (Nat.le_of_ble_eq_true rfl) dX0_init_9 (fun H locs hP hD hS => ?_)
  have hP : va_P D vwCl [(h0, .inr (0, [.int 0, .ref q1, .null, .null, .null, .null, .null, .null, .null, .null, .null, .null, .null, .null, .null])), (q1, .inl (G.1, 60, .inl (fun _ => 0)))] H := hP
  have hD : va_D A [(h0, .inr (0, [.int 0, .ref q1, .null, .null, .null, .null, .null, .null, .null, .null, .null, .null, .null, .null, .null])), (q1, .inl (G.1, 60, .inl (fun _ => 0)))] := hD
  refine lv_aload_n hx hb dX0_init_12 rfl (lv_at hl 0 rfl) ?_
  refine lv_bipush (v := 60) hx hb dX0_init_13 (by decide) ?_
  refine n_newi (N := 60) hx hb hts hK hP hD hS hA (by decide) (by decide) (by decide) (Nat.le_of_ble_eq_true rfl) (Nat.le_of_ble_eq_true rfl) dX0_init_15 (fun q2 H hP hD hS => ?_)
  have hP : va_P D vwCl [(h0, .inr (0, [.int 0, .ref q1, .null, .null, .null, .null, .null, .null, .null, .null, .null, .null, .null, .null, .null])), (q1, .inl (G.1, 60, .inl (fun _ => 0))), (q2, .inl (G.1, 60, .inl (fun _ => 0)))] H := hP
  have hD : va_D A [(h0, .inr (0, [.int 0, .ref q1, .null, .null, .null, .null, .null, .null, .null, .null, .null, .null, .null, .null, .null])), (q1, .inl (G.1, 60, .inl (fun _ => 0))), (q2, .inl (G.1, 60, .inl (fun _ => 0)))] := hD
  refine W.widen (k := 2) (n := 120) (by decide) (by decide) ?_
  refine va_putF (D := D) (ci := 0) (v := .ref q2) (ty := .array .int) (C := RX0) (T := TX0) (N := 15) hx hb hts in_X0 tyX0 tyX0_ok nmX0 hown hK hP hD hS 0 rfl rfl 2 (by decide) (hts _ q27) (fun _ h9 => h9) rfl hin rfl (by decide +kernel) rfl rfl (Nat.le_of_ble_eq_true rfl) dX0_init_17 (fun H locs hP hD hS => ?_)
  have hP : va_P D vwCl [(h0, .inr (0, [.int 0, .ref q1, .ref q2, .null, .null, .null, .null, .null, .null, .null, .null, .null, .null, .null, .null])), (q1, .inl (G.1, 60, .inl (fun _ => 0))), (q2, .inl (G.1, 60, .inl (fun _ => 0)))] H := hP
  have hD : va_D A [(h0, .inr (0, [.int 0, .ref q1, .ref q2, .null, .null, .null, .null, .null, .null, .null, .null, .null, .null, .null, .null])), (q1, .inl (G.1, 60, .inl (fun _ => 0))), (q2, .inl (G.1, 60, .inl (fun _ => 0)))] := hD
  refine lv_aload_n hx hb dX0_init_20 rfl (lv_at hl 0 rfl) ?_
  refine lv_bipush (v := 60) hx hb dX0_init_21 (by decide) ?_
  refine n_newi (N := 60) hx hb hts hK hP hD hS hA (by decide) (by decide) (by decide) (Nat.le_of_ble_eq_true rfl) (Nat.le_of_ble_eq_true rfl) dX0_init_23 (fun q3 H hP hD hS => ?_)
  have hP : va_P D vwCl [(h0, .inr (0, [.int 0, .ref q1, .ref q2, .null, .null, .null, .null, .null, .null, .null, .null, .null, .null, .null, .null])), (q1, .inl (G.1, 60, .inl (fun _ => 0))), (q2, .inl (G.1, 60, .inl (fun _ => 0))), (q3, .inl (G.1, 60, .inl (fun _ => 0)))] H := hP
  have hD : va_D A [(h0, .inr (0, [.int 0, .ref q1, .ref q2, .null, .null, .null, .null, .null, .null, .null, .null, .null, .null, .null, .null])), (q1, .inl (G.1, 60, .inl (fun _ => 0))), (q2, .inl (G.1, 60, .inl (fun _ => 0))), (q3, .inl (G.1, 60, .inl (fun _ => 0)))] := hD
  refine W.widen (k := 3) (n := 180) (by decide) (by decide) ?_
  refine va_putF (D := D) (ci := 0) (v := .ref q3) (ty := .array .int) (C := RX0) (T := TX0) (N := 15) hx hb hts in_X0 tyX0 tyX0_ok nmX0 hown hK hP hD hS 0 rfl rfl 3 (by decide) (hts _ q28) (fun _ h9 => h9) rfl hin rfl (by decide +kernel) rfl rfl (Nat.le_of_ble_eq_true rfl) dX0_init_25 (fun H locs hP hD hS => ?_)
  have hP : va_P D vwCl [(h0, .inr (0, [.int 0, .ref q1, .ref q2, .ref q3, .null, .null, .null, .null, .null, .null, .null, .null, .null, .null, .null])), (q1, .inl (G.1, 60, .inl (fun _ => 0))), (q2, .inl (G.1, 60, .inl (fun _ => 0))), (q3, .inl (G.1, 60, .inl (fun _ => 0)))] H := hP
  have hD : va_D A [(h0, .inr (0, [.int 0, .ref q1, .ref q2, .ref q3, .null, .null, .null, .null, .null, .null, .null, .null, .null, .null, .null])), (q1, .inl (G.1, 60, .inl (fun _ => 0))), (q2, .inl (G.1, 60, .inl (fun _ => 0))), (q3, .inl (G.1, 60, .inl (fun _ => 0)))] := hD
  refine lv_aload_n hx hb dX0_init_28 rfl (lv_at hl 0 rfl) ?_
  refine lv_bipush (v := 60) hx hb dX0_init_29 (by decide) ?_
  refine n_newi (N := 60) hx hb hts hK hP hD hS hA (by decide) (by decide) (by decide) (Nat.le_of_ble_eq_true rfl) (Nat.le_of_ble_eq_true rfl) dX0_init_31 (fun q4 H hP hD hS => ?_)
  have hP : va_P D vwCl [(h0, .inr (0, [.int 0, .ref q1, .ref q2, .ref q3, .null, .null, .null, .null, .null, .null, .null, .null, .null, .null, .null])), (q1, .inl (G.1, 60, .inl (fun _ => 0))), (q2, .inl (G.1, 60, .inl (fun _ => 0))), (q3, .inl (G.1, 60, .inl (fun _ => 0))), (q4, .inl (G.1, 60, .inl (fun _ => 0)))] H := hP
  have hD : va_D A [(h0, .inr (0, [.int 0, .ref q1, .ref q2, .ref q3, .null, .null, .null, .null, .null, .null, .null, .null, .null, .null, .null])), (q1, .inl (G.1, 60, .inl (fun _ => 0))), (q2, .inl (G.1, 60, .inl (fun _ => 0))), (q3, .inl (G.1, 60, .inl (fun _ => 0))), (q4, .inl (G.1, 60, .inl (fun _ => 0)))] := hD
  refine W.widen (k := 4) (n := 240) (by decide) (by decide) ?_
  refine va_putF (D := D) (ci := 0) (v := .ref q4) (ty := .array .int) (C := RX0) (T := TX0) (N := 15) hx hb hts in_X0 tyX0 tyX0_ok nmX0 hown hK hP hD hS 0 rfl rfl 4 (by decide) (hts _ q29) (fun _ h9 => h9) rfl hin rfl (by decide +kernel) rfl rfl (Nat.le_of_ble_eq_true rfl) dX0_init_33 (fun H locs hP hD hS => ?_)
  have hP : va_P D vwCl [(h0, .inr (0, [.int 0, .ref q1, .ref q2, .ref q3, .ref q4, .null, .null, .null, .null, .null, .null, .null, .null, .null, .null])), (q1, .inl (G.1, 60, .inl (fun _ => 0))), (q2, .inl (G.1, 60, .inl (fun _ => 0))), (q3, .inl (G.1, 60, .inl (fun _ => 0))), (q4, .inl (G.1, 60, .inl (fun _ => 0)))] H := hP
  have hD : va_D A [(h0, .inr (0, [.int 0, .ref q1, .ref q2, .ref q3, .ref q4, .null, .null, .null, .null, .null, .null, .null, .null, .null, .null])), (q1, .inl (G.1, 60, .inl (fun _ => 0))), (q2, .inl (G.1, 60, .inl (fun _ => 0))), (q3, .inl (G.1, 60, .inl (fun _ => 0))), (q4, .inl (G.1, 60, .inl (fun _ => 0)))] := hD
  refine lv_aload_n hx hb dX0_init_36 rfl (lv_at hl 0 rfl) ?_
  refine lv_bipush (v := 60) hx hb dX0_init_37 (by decide) ?_
  refine n_newi (N := 60) hx hb hts hK hP hD hS hA (by decide) (by decide) (by decide) (Nat.le_of_ble_eq_true rfl) (Nat.le_of_ble_eq_true rfl) dX0_init_39 (fun q5 H hP hD hS => ?_)
  have hP : va_P D vwCl [(h0, .inr (0, [.int 0, .ref q1, .ref q2, .ref q3, .ref q4, .null, .null, .null, .null, .null, .null, .null, .null, .null, .null])), (q1, .inl (G.1, 60, .inl (fun _ => 0))), (q2, .inl (G.1, 60, .inl (fun _ => 0))), (q3, .inl (G.1, 60, .inl (fun _ => 0))), (q4, .inl (G.1, 60, .inl (fun _ => 0))), (q5, .inl (G.1, 60, .inl (fun _ => 0)))] H := hP
  have hD : va_D A [(h0, .inr (0, [.int 0, .ref q1, .ref q2, .ref q3, .ref q4, .null, .null, .null, .null, .null, .null, .null, .null, .null, .null])), (q1, .inl (G.1, 60, .inl (fun _ => 0))), (q2, .inl (G.1, 60, .inl (fun _ => 0))), (q3, .inl (G.1, 60, .inl (fun _ => 0))), (q4, .inl (G.1, 60, .inl (fun _ => 0))), (q5, .inl (G.1, 60, .inl (fun _ => 0)))] := hD
  refine W.widen (k := 5) (n := 300) (by decide) (by decide) ?_
  refine va_putF (D := D) (ci := 0) (v := .ref q5) (ty := .array .int) (C := RX0) (T := TX0) (N := 15) hx hb hts in_X0 tyX0 tyX0_ok nmX0 hown hK hP hD hS 0 rfl rfl 5 (by decide) (hts _ q30) (fun _ h9 => h9) rfl hin rfl (by decide +kernel) rfl rfl (Nat.le_of_ble_eq_true rfl) dX0_init_41 (fun H locs hP hD hS => ?_)
  have hP : va_P D vwCl [(h0, .inr (0, [.int 0, .ref q1, .ref q2, .ref q3, .ref q4, .ref q5, .null, .null, .null, .null, .null, .null, .null, .null, .null])), (q1, .inl (G.1, 60, .inl (fun _ => 0))), (q2, .inl (G.1, 60, .inl (fun _ => 0))), (q3, .inl (G.1, 60, .inl (fun _ => 0))), (q4, .inl (G.1, 60, .inl (fun _ => 0))), (q5, .inl (G.1, 60, .inl (fun _ => 0)))] H := hP
  have hD : va_D A [(h0, .inr (0, [.int 0, .ref q1, .ref q2, .ref q3, .ref q4, .ref q5, .null, .null, .null, .null, .null, .null, .null, .null, .null])), (q1, .inl (G.1, 60, .inl (fun _ => 0))), (q2, .inl (G.1, 60, .inl (fun _ => 0))), (q3, .inl (G.1, 60, .inl (fun _ => 0))), (q4, .inl (G.1, 60, .inl (fun _ => 0))), (q5, .inl (G.1, 60, .inl (fun _ => 0)))] := hD
  refine lv_aload_n hx hb dX0_init_44 rfl (lv_at hl 0 rfl) ?_
  refine lv_bipush (v := 60) hx hb dX0_init_45 (by decide) ?_
  refine n_newl (N := 60) hx hb hts hK hP hD hS hA (by decide) (by decide) (by decide) (Nat.le_of_ble_eq_true rfl) (Nat.le_of_ble_eq_true rfl) dX0_init_47 (fun q6 H hP hD hS => ?_)
  have hP : va_P D vwCl [(h0, .inr (0, [.int 0, .ref q1, .ref q2, .ref q3, .ref q4, .ref q5, .null, .null, .null, .null, .null, .null, .null, .null, .null])), (q1, .inl (G.1, 60, .inl (fun _ => 0))), (q2, .inl (G.1, 60, .inl (fun _ => 0))), (q3, .inl (G.1, 60, .inl (fun _ => 0))), (q4, .inl (G.1, 60, .inl (fun _ => 0))), (q5, .inl (G.1, 60, .inl (fun _ => 0))), (q6, .inl (G.2, 60, .inr (.inl (fun _ => 0))))] H := hP
  have hD : va_D A [(h0, .inr (0, [.int 0, .ref q1, .ref q2, .ref q3, .ref q4, .ref q5, .null, .null, .null, .null, .null, .null, .null, .null, .null])), (q1, .inl (G.1, 60, .inl (fun _ => 0))), (q2, .inl (G.1, 60, .inl (fun _ => 0))), (q3, .inl (G.1, 60, .inl (fun _ => 0))), (q4, .inl (G.1, 60, .inl (fun _ => 0))), (q5, .inl (G.1, 60, .inl (fun _ => 0))), (q6, .inl (G.2, 60, .inr (.inl (fun _ => 0))))] := hD
  refine W.widen (k := 6) (n := 360) (by decide) (by decide) ?_
  refine va_putF (D := D) (ci := 0) (v := .ref q6) (ty := .array .long) (C := RX0) (T := TX0) (N := 15) hx hb hts in_X0 tyX0 tyX0_ok nmX0 hown hK hP hD hS 0 rfl rfl 6 (by decide) (hts _ q31) (fun _ h9 => h9) rfl hin rfl (by decide +kernel) rfl rfl (Nat.le_of_ble_eq_true rfl) dX0_init_49 (fun H locs hP hD hS => ?_)
  have hP : va_P D vwCl [(h0, .inr (0, [.int 0, .ref q1, .ref q2, .ref q3, .ref q4, .ref q5, .ref q6, .null, .null, .null, .null, .null, .null, .null, .null])), (q1, .inl (G.1, 60, .inl (fun _ => 0))), (q2, .inl (G.1, 60, .inl (fun _ => 0))), (q3, .inl (G.1, 60, .inl (fun _ => 0))), (q4, .inl (G.1, 60, .inl (fun _ => 0))), (q5, .inl (G.1, 60, .inl (fun _ => 0))), (q6, .inl (G.2, 60, .inr (.inl (fun _ => 0))))] H := hP
  have hD : va_D A [(h0, .inr (0, [.int 0, .ref q1, .ref q2, .ref q3, .ref q4, .ref q5, .ref q6, .null, .null, .null, .null, .null, .null, .null, .null])), (q1, .inl (G.1, 60, .inl (fun _ => 0))), (q2, .inl (G.1, 60, .inl (fun _ => 0))), (q3, .inl (G.1, 60, .inl (fun _ => 0))), (q4, .inl (G.1, 60, .inl (fun _ => 0))), (q5, .inl (G.1, 60, .inl (fun _ => 0))), (q6, .inl (G.2, 60, .inr (.inl (fun _ => 0))))] := hD
  refine lv_aload_n hx hb dX0_init_52 rfl (lv_at hl 0 rfl) ?_
  refine lv_iconst (v := 3) hx hb dX0_init_53 (by decide) ?_
  refine n_newi (N := 3) hx hb hts hK hP hD hS hA (by decide) (by decide) (by decide) (Nat.le_of_ble_eq_true rfl) (Nat.le_of_ble_eq_true rfl) dX0_init_54 (fun q7 H hP hD hS => ?_)
  have hP : va_P D vwCl [(h0, .inr (0, [.int 0, .ref q1, .ref q2, .ref q3, .ref q4, .ref q5, .ref q6, .null, .null, .null, .null, .null, .null, .null, .null])), (q1, .inl (G.1, 60, .inl (fun _ => 0))), (q2, .inl (G.1, 60, .inl (fun _ => 0))), (q3, .inl (G.1, 60, .inl (fun _ => 0))), (q4, .inl (G.1, 60, .inl (fun _ => 0))), (q5, .inl (G.1, 60, .inl (fun _ => 0))), (q6, .inl (G.2, 60, .inr (.inl (fun _ => 0)))), (q7, .inl (G.1, 3, .inl (fun _ => 0)))] H := hP
  have hD : va_D A [(h0, .inr (0, [.int 0, .ref q1, .ref q2, .ref q3, .ref q4, .ref q5, .ref q6, .null, .null, .null, .null, .null, .null, .null, .null])), (q1, .inl (G.1, 60, .inl (fun _ => 0))), (q2, .inl (G.1, 60, .inl (fun _ => 0))), (q3, .inl (G.1, 60, .inl (fun _ => 0))), (q4, .inl (G.1, 60, .inl (fun _ => 0))), (q5, .inl (G.1, 60, .inl (fun _ => 0))), (q6, .inl (G.2, 60, .inr (.inl (fun _ => 0)))), (q7, .inl (G.1, 3, .inl (fun _ => 0)))] := hD
  refine W.widen (k := 7) (n := 363) (by decide) (by decide) ?_
  refine va_putF (D := D) (ci := 0) (v := .ref q7) (ty := .array .int) (C := RX0) (T := TX0) (N := 15) hx hb hts in_X0 tyX0 tyX0_ok nmX0 hown hK hP hD hS 0 rfl rfl 7 (by decide) (hts _ q32) (fun _ h9 => h9) rfl hin rfl (by decide +kernel) rfl rfl (Nat.le_of_ble_eq_true rfl) dX0_init_56 (fun H locs hP hD hS => ?_)
  have hP : va_P D vwCl [(h0, .inr (0, [.int 0, .ref q1, .ref q2, .ref q3, .ref q4, .ref q5, .ref q6, .ref q7, .null, .null, .null, .null, .null, .null, .null])), (q1, .inl (G.1, 60, .inl (fun _ => 0))), (q2, .inl (G.1, 60, .inl (fun _ => 0))), (q3, .inl (G.1, 60, .inl (fun _ => 0))), (q4, .inl (G.1, 60, .inl (fun _ => 0))), (q5, .inl (G.1, 60, .inl (fun _ => 0))), (q6, .inl (G.2, 60, .inr (.inl (fun _ => 0)))), (q7, .inl (G.1, 3, .inl (fun _ => 0)))] H := hP
  have hD : va_D A [(h0, .inr (0, [.int 0, .ref q1, .ref q2, .ref q3, .ref q4, .ref q5, .ref q6, .ref q7, .null, .null, .null, .null, .null, .null, .null])), (q1, .inl (G.1, 60, .inl (fun _ => 0))), (q2, .inl (G.1, 60, .inl (fun _ => 0))), (q3, .inl (G.1, 60, .inl (fun _ => 0))), (q4, .inl (G.1, 60, .inl (fun _ => 0))), (q5, .inl (G.1, 60, .inl (fun _ => 0))), (q6, .inl (G.2, 60, .inr (.inl (fun _ => 0)))), (q7, .inl (G.1, 3, .inl (fun _ => 0)))] := hD
  refine lv_aload_n hx hb dX0_init_59 rfl (lv_at hl 0 rfl) ?_
  refine lv_iconst (v := 3) hx hb dX0_init_60 (by decide) ?_
  refine n_newl (N := 3) hx hb hts hK hP hD hS hA (by decide) (by decide) (by decide) (Nat.le_of_ble_eq_true rfl) (Nat.le_of_ble_eq_true rfl) dX0_init_61 (fun q8 H hP hD hS => ?_)
  have hP : va_P D vwCl [(h0, .inr (0, [.int 0, .ref q1, .ref q2, .ref q3, .ref q4, .ref q5, .ref q6, .ref q7, .null, .null, .null, .null, .null, .null, .null])), (q1, .inl (G.1, 60, .inl (fun _ => 0))), (q2, .inl (G.1, 60, .inl (fun _ => 0))), (q3, .inl (G.1, 60, .inl (fun _ => 0))), (q4, .inl (G.1, 60, .inl (fun _ => 0))), (q5, .inl (G.1, 60, .inl (fun _ => 0))), (q6, .inl (G.2, 60, .inr (.inl (fun _ => 0)))), (q7, .inl (G.1, 3, .inl (fun _ => 0))), (q8, .inl (G.2, 3, .inr (.inl (fun _ => 0))))] H := hP
  have hD : va_D A [(h0, .inr (0, [.int 0, .ref q1, .ref q2, .ref q3, .ref q4, .ref q5, .ref q6, .ref q7, .null, .null, .null, .null, .null, .null, .null])), (q1, .inl (G.1, 60, .inl (fun _ => 0))), (q2, .inl (G.1, 60, .inl (fun _ => 0))), (q3, .inl (G.1, 60, .inl (fun _ => 0))), (q4, .inl (G.1, 60, .inl (fun _ => 0))), (q5, .inl (G.1, 60, .inl (fun _ => 0))), (q6, .inl (G.2, 60, .inr (.inl (fun _ => 0)))), (q7, .inl (G.1, 3, .inl (fun _ => 0))), (q8, .inl (G.2, 3, .inr (.inl (fun _ => 0))))] := hD
  refine W.widen (k := 8) (n := 366) (by decide) (by decide) ?_
  refine va_putF (D := D) (ci := 0) (v := .ref q8) (ty := .array .long) (C := RX0) (T := TX0) (N := 15) hx hb hts in_X0 tyX0 tyX0_ok nmX0 hown hK hP hD hS 0 rfl rfl 8 (by decide) (hts _ q33) (fun _ h9 => h9) rfl hin rfl (by decide +kernel) rfl rfl (Nat.le_of_ble_eq_true rfl) dX0_init_63 (fun H locs hP hD hS => ?_)
  have hP : va_P D vwCl [(h0, .inr (0, [.int 0, .ref q1, .ref q2, .ref q3, .ref q4, .ref q5, .ref q6, .ref q7, .ref q8, .null, .null, .null, .null, .null, .null])), (q1, .inl (G.1, 60, .inl (fun _ => 0))), (q2, .inl (G.1, 60, .inl (fun _ => 0))), (q3, .inl (G.1, 60, .inl (fun _ => 0))), (q4, .inl (G.1, 60, .inl (fun _ => 0))), (q5, .inl (G.1, 60, .inl (fun _ => 0))), (q6, .inl (G.2, 60, .inr (.inl (fun _ => 0)))), (q7, .inl (G.1, 3, .inl (fun _ => 0))), (q8, .inl (G.2, 3, .inr (.inl (fun _ => 0))))] H := hP
  have hD : va_D A [(h0, .inr (0, [.int 0, .ref q1, .ref q2, .ref q3, .ref q4, .ref q5, .ref q6, .ref q7, .ref q8, .null, .null, .null, .null, .null, .null])), (q1, .inl (G.1, 60, .inl (fun _ => 0))), (q2, .inl (G.1, 60, .inl (fun _ => 0))), (q3, .inl (G.1, 60, .inl (fun _ => 0))), (q4, .inl (G.1, 60, .inl (fun _ => 0))), (q5, .inl (G.1, 60, .inl (fun _ => 0))), (q6, .inl (G.2, 60, .inr (.inl (fun _ => 0)))), (q7, .inl (G.1, 3, .inl (fun _ => 0))), (q8, .inl (G.2, 3, .inr (.inl (fun _ => 0))))] := hD
  refine lv_aload_n hx hb dX0_init_66 rfl (lv_at hl 0 rfl) ?_
  refine lv_iconst (v := 3) hx hb dX0_init_67 (by decide) ?_
  refine n_newl (N := 3) hx hb hts hK hP hD hS hA (by decide) (by decide) (by decide) (Nat.le_of_ble_eq_true rfl) (Nat.le_of_ble_eq_true rfl) dX0_init_68 (fun q9 H hP hD hS => ?_)
  have hP : va_P D vwCl [(h0, .inr (0, [.int 0, .ref q1, .ref q2, .ref q3, .ref q4, .ref q5, .ref q6, .ref q7, .ref q8, .null, .null, .null, .null, .null, .null])), (q1, .inl (G.1, 60, .inl (fun _ => 0))), (q2, .inl (G.1, 60, .inl (fun _ => 0))), (q3, .inl (G.1, 60, .inl (fun _ => 0))), (q4, .inl (G.1, 60, .inl (fun _ => 0))), (q5, .inl (G.1, 60, .inl (fun _ => 0))), (q6, .inl (G.2, 60, .inr (.inl (fun _ => 0)))), (q7, .inl (G.1, 3, .inl (fun _ => 0))), (q8, .inl (G.2, 3, .inr (.inl (fun _ => 0)))), (q9, .inl (G.2, 3, .inr (.inl (fun _ => 0))))] H := hP
  have hD : va_D A [(h0, .inr (0, [.int 0, .ref q1, .ref q2, .ref q3, .ref q4, .ref q5, .ref q6, .ref q7, .ref q8, .null, .null, .null, .null, .null, .null])), (q1, .inl (G.1, 60, .inl (fun _ => 0))), (q2, .inl (G.1, 60, .inl (fun _ => 0))), (q3, .inl (G.1, 60, .inl (fun _ => 0))), (q4, .inl (G.1, 60, .inl (fun _ => 0))), (q5, .inl (G.1, 60, .inl (fun _ => 0))), (q6, .inl (G.2, 60, .inr (.inl (fun _ => 0)))), (q7, .inl (G.1, 3, .inl (fun _ => 0))), (q8, .inl (G.2, 3, .inr (.inl (fun _ => 0)))), (q9, .inl (G.2, 3, .inr (.inl (fun _ => 0))))] := hD
  refine W.widen (k := 9) (n := 369) (by decide) (by decide) ?_
  refine va_putF (D := D) (ci := 0) (v := .ref q9) (ty := .array .long) (C := RX0) (T := TX0) (N := 15) hx hb hts in_X0 tyX0 tyX0_ok nmX0 hown hK hP hD hS 0 rfl rfl 9 (by decide) (hts _ q34) (fun _ h9 => h9) rfl hin rfl (by decide +kernel) rfl rfl (Nat.le_of_ble_eq_true rfl) dX0_init_70 (fun H locs hP hD hS => ?_)
  have hP : va_P D vwCl [(h0, .inr (0, [.int 0, .ref q1, .ref q2, .ref q3, .ref q4, .ref q5, .ref q6, .ref q7, .ref q8, .ref q9, .null, .null, .null, .null, .null])), (q1, .inl (G.1, 60, .inl (fun _ => 0))), (q2, .inl (G.1, 60, .inl (fun _ => 0))), (q3, .inl (G.1, 60, .inl (fun _ => 0))), (q4, .inl (G.1, 60, .inl (fun _ => 0))), (q5, .inl (G.1, 60, .inl (fun _ => 0))), (q6, .inl (G.2, 60, .inr (.inl (fun _ => 0)))), (q7, .inl (G.1, 3, .inl (fun _ => 0))), (q8, .inl (G.2, 3, .inr (.inl (fun _ => 0)))), (q9, .inl (G.2, 3, .inr (.inl (fun _ => 0))))] H := hP
  have hD : va_D A [(h0, .inr (0, [.int 0, .ref q1, .ref q2, .ref q3, .ref q4, .ref q5, .ref q6, .ref q7, .ref q8, .ref q9, .null, .null, .null, .null, .null])), (q1, .inl (G.1, 60, .inl (fun _ => 0))), (q2, .inl (G.1, 60, .inl (fun _ => 0))), (q3, .inl (G.1, 60, .inl (fun _ => 0))), (q4, .inl (G.1, 60, .inl (fun _ => 0))), (q5, .inl (G.1, 60, .inl (fun _ => 0))), (q6, .inl (G.2, 60, .inr (.inl (fun _ => 0)))), (q7, .inl (G.1, 3, .inl (fun _ => 0))), (q8, .inl (G.2, 3, .inr (.inl (fun _ => 0)))), (q9, .inl (G.2, 3, .inr (.inl (fun _ => 0))))] := hD
  refine lv_aload_n hx hb dX0_init_73 rfl (lv_at hl 0 rfl) ?_
  refine lv_bipush (v := 24) hx hb dX0_init_74 (by decide) ?_
  refine n_newl (N := 24) hx hb hts hK hP hD hS hA (by decide) (by decide) (by decide) (Nat.le_of_ble_eq_true rfl) (Nat.le_of_ble_eq_true rfl) dX0_init_76 (fun q10 H hP hD hS => ?_)
  have hP : va_P D vwCl [(h0, .inr (0, [.int 0, .ref q1, .ref q2, .ref q3, .ref q4, .ref q5, .ref q6, .ref q7, .ref q8, .ref q9, .null, .null, .null, .null, .null])), (q1, .inl (G.1, 60, .inl (fun _ => 0))), (q2, .inl (G.1, 60, .inl (fun _ => 0))), (q3, .inl (G.1, 60, .inl (fun _ => 0))), (q4, .inl (G.1, 60, .inl (fun _ => 0))), (q5, .inl (G.1, 60, .inl (fun _ => 0))), (q6, .inl (G.2, 60, .inr (.inl (fun _ => 0)))), (q7, .inl (G.1, 3, .inl (fun _ => 0))), (q8, .inl (G.2, 3, .inr (.inl (fun _ => 0)))), (q9, .inl (G.2, 3, .inr (.inl (fun _ => 0)))), (q10, .inl (G.2, 24, .inr (.inl (fun _ => 0))))] H := hP
  have hD : va_D A [(h0, .inr (0, [.int 0, .ref q1, .ref q2, .ref q3, .ref q4, .ref q5, .ref q6, .ref q7, .ref q8, .ref q9, .null, .null, .null, .null, .null])), (q1, .inl (G.1, 60, .inl (fun _ => 0))), (q2, .inl (G.1, 60, .inl (fun _ => 0))), (q3, .inl (G.1, 60, .inl (fun _ => 0))), (q4, .inl (G.1, 60, .inl (fun _ => 0))), (q5, .inl (G.1, 60, .inl (fun _ => 0))), (q6, .inl (G.2, 60, .inr (.inl (fun _ => 0)))), (q7, .inl (G.1, 3, .inl (fun _ => 0))), (q8, .inl (G.2, 3, .inr (.inl (fun _ => 0)))), (q9, .inl (G.2, 3, .inr (.inl (fun _ => 0)))), (q10, .inl (G.2, 24, .inr (.inl (fun _ => 0))))] := hD
  refine W.widen (k := 10) (n := 393) (by decide) (by decide) ?_
  refine va_putF (D := D) (ci := 0) (v := .ref q10) (ty := .array .long) (C := RX0) (T := TX0) (N := 15) hx hb hts in_X0 tyX0 tyX0_ok nmX0 hown hK hP hD hS 0 rfl rfl 10 (by decide) (hts _ q35) (fun _ h9 => h9) rfl hin rfl (by decide +kernel) rfl rfl (Nat.le_of_ble_eq_true rfl) dX0_init_78 (fun H locs hP hD hS => ?_)
  have hP : va_P D vwCl [(h0, .inr (0, [.int 0, .ref q1, .ref q2, .ref q3, .ref q4, .ref q5, .ref q6, .ref q7, .ref q8, .ref q9, .ref q10, .null, .null, .null, .null])), (q1, .inl (G.1, 60, .inl (fun _ => 0))), (q2, .inl (G.1, 60, .inl (fun _ => 0))), (q3, .inl (G.1, 60, .inl (fun _ => 0))), (q4, .inl (G.1, 60, .inl (fun _ => 0))), (q5, .inl (G.1, 60, .inl (fun _ => 0))), (q6, .inl (G.2, 60, .inr (.inl (fun _ => 0)))), (q7, .inl (G.1, 3, .inl (fun _ => 0))), (q8, .inl (G.2, 3, .inr (.inl (fun _ => 0)))), (q9, .inl (G.2, 3, .inr (.inl (fun _ => 0)))), (q10, .inl (G.2, 24, .inr (.inl (fun _ => 0))))] H := hP
  have hD : va_D A [(h0, .inr (0, [.int 0, .ref q1, .ref q2, .ref q3, .ref q4, .ref q5, .ref q6, .ref q7, .ref q8, .ref q9, .ref q10, .null, .null, .null, .null])), (q1, .inl (G.1, 60, .inl (fun _ => 0))), (q2, .inl (G.1, 60, .inl (fun _ => 0))), (q3, .inl (G.1, 60, .inl (fun _ => 0))), (q4, .inl (G.1, 60, .inl (fun _ => 0))), (q5, .inl (G.1, 60, .inl (fun _ => 0))), (q6, .inl (G.2, 60, .inr (.inl (fun _ => 0)))), (q7, .inl (G.1, 3, .inl (fun _ => 0))), (q8, .inl (G.2, 3, .inr (.inl (fun _ => 0)))), (q9, .inl (G.2, 3, .inr (.inl (fun _ => 0)))), (q10, .inl (G.2, 24, .inr (.inl (fun _ => 0))))] := hD
  refine lv_aload_n hx hb dX0_init_81 rfl (lv_at hl 0 rfl) ?_
  refine lv_bipush (v := 24) hx hb dX0_init_82 (by decide) ?_
  refine n_newl (N := 24) hx hb hts hK hP hD hS hA (by decide) (by decide) (by decide) (Nat.le_of_ble_eq_true rfl) (Nat.le_of_ble_eq_true rfl) dX0_init_84 (fun q11 H hP hD hS => ?_)
  have hP : va_P D vwCl [(h0, .inr (0, [.int 0, .ref q1, .ref q2, .ref q3, .ref q4, .ref q5, .ref q6, .ref q7, .ref q8, .ref q9, .ref q10, .null, .null, .null, .null])), (q1, .inl (G.1, 60, .inl (fun _ => 0))), (q2, .inl (G.1, 60, .inl (fun _ => 0))), (q3, .inl (G.1, 60, .inl (fun _ => 0))), (q4, .inl (G.1, 60, .inl (fun _ => 0))), (q5, .inl (G.1, 60, .inl (fun _ => 0))), (q6, .inl (G.2, 60, .inr (.inl (fun _ => 0)))), (q7, .inl (G.1, 3, .inl (fun _ => 0))), (q8, .inl (G.2, 3, .inr (.inl (fun _ => 0)))), (q9, .inl (G.2, 3, .inr (.inl (fun _ => 0)))), (q10, .inl (G.2, 24, .inr (.inl (fun _ => 0)))), (q11, .inl (G.2, 24, .inr (.inl (fun _ => 0))))] H := hP
  have hD : va_D A [(h0, .inr (0, [.int 0, .ref q1, .ref q2, .ref q3, .ref q4, .ref q5, .ref q6, .ref q7, .ref q8, .ref q9, .ref q10, .null, .null, .null, .null])), (q1, .inl (G.1, 60, .inl (fun _ => 0))), (q2, .inl (G.1, 60, .inl (fun _ => 0))), (q3, .inl (G.1, 60, .inl (fun _ => 0))), (q4, .inl (G.1, 60, .inl (fun _ => 0))), (q5, .inl (G.1, 60, .inl (fun _ => 0))), (q6, .inl (G.2, 60, .inr (.inl (fun _ => 0)))), (q7, .inl (G.1, 3, .inl (fun _ => 0))), (q8, .inl (G.2, 3, .inr (.inl (fun _ => 0)))), (q9, .inl (G.2, 3, .inr (.inl (fun _ => 0)))), (q10, .inl (G.2, 24, .inr (.inl (fun _ => 0)))), (q11, .inl (G.2, 24, .inr (.inl (fun _ => 0))))] := hD
  refine W.widen (k := 11) (n := 417) (by decide) (by decide) ?_
  refine va_putF (D := D) (ci := 0) (v := .ref q11) (ty := .array .long) (C := RX0) (T := TX0) (N := 15) hx hb hts in_X0 tyX0 tyX0_ok nmX0 hown hK hP hD hS 0 rfl rfl 11 (by decide) (hts _ q36) (fun _ h9 => h9) rfl hin rfl (by decide +kernel) rfl rfl (Nat.le_of_ble_eq_true rfl) dX0_init_86 (fun H locs hP hD hS => ?_)
  have hP : va_P D vwCl [(h0, .inr (0, [.int 0, .ref q1, .ref q2, .ref q3, .ref q4, .ref q5, .ref q6, .ref q7, .ref q8, .ref q9, .ref q10, .ref q11, .null, .null, .null])), (q1, .inl (G.1, 60, .inl (fun _ => 0))), (q2, .inl (G.1, 60, .inl (fun _ => 0))), (q3, .inl (G.1, 60, .inl (fun _ => 0))), (q4, .inl (G.1, 60, .inl (fun _ => 0))), (q5, .inl (G.1, 60, .inl (fun _ => 0))), (q6, .inl (G.2, 60, .inr (.inl (fun _ => 0)))), (q7, .inl (G.1, 3, .inl (fun _ => 0))), (q8, .inl (G.2, 3, .inr (.inl (fun _ => 0)))), (q9, .inl (G.2, 3, .inr (.inl (fun _ => 0)))), (q10, .inl (G.2, 24, .inr (.inl (fun _ => 0)))), (q11, .inl (G.2, 24, .inr (.inl (fun _ => 0))))] H := hP
  have hD : va_D A [(h0, .inr (0, [.int 0, .ref q1, .ref q2, .ref q3, .ref q4, .ref q5, .ref q6, .ref q7, .ref q8, .ref q9, .ref q10, .ref q11, .null, .null, .null])), (q1, .inl (G.1, 60, .inl (fun _ => 0))), (q2, .inl (G.1, 60, .inl (fun _ => 0))), (q3, .inl (G.1, 60, .inl (fun _ => 0))), (q4, .inl (G.1, 60, .inl (fun _ => 0))), (q5, .inl (G.1, 60, .inl (fun _ => 0))), (q6, .inl (G.2, 60, .inr (.inl (fun _ => 0)))), (q7, .inl (G.1, 3, .inl (fun _ => 0))), (q8, .inl (G.2, 3, .inr (.inl (fun _ => 0)))), (q9, .inl (G.2, 3, .inr (.inl (fun _ => 0)))), (q10, .inl (G.2, 24, .inr (.inl (fun _ => 0)))), (q11, .inl (G.2, 24, .inr (.inl (fun _ => 0))))] := hD
  refine lv_aload_n hx hb dX0_init_89 rfl (lv_at hl 0 rfl) ?_
  refine lv_bipush (v := 24) hx hb dX0_init_90 (by decide) ?_
  refine n_newi (N := 24) hx hb hts hK hP hD hS hA (by decide) (by decide) (by decide) (Nat.le_of_ble_eq_true rfl) (Nat.le_of_ble_eq_true rfl) dX0_init_92 (fun q12 H hP hD hS => ?_)
  have hP : va_P D vwCl [(h0, .inr (0, [.int 0, .ref q1, .ref q2, .ref q3, .ref q4, .ref q5, .ref q6, .ref q7, .ref q8, .ref q9, .ref q10, .ref q11, .null, .null, .null])), (q1, .inl (G.1, 60, .inl (fun _ => 0))), (q2, .inl (G.1, 60, .inl (fun _ => 0))), (q3, .inl (G.1, 60, .inl (fun _ => 0))), (q4, .inl (G.1, 60, .inl (fun _ => 0))), (q5, .inl (G.1, 60, .inl (fun _ => 0))), (q6, .inl (G.2, 60, .inr (.inl (fun _ => 0)))), (q7, .inl (G.1, 3, .inl (fun _ => 0))), (q8, .inl (G.2, 3, .inr (.inl (fun _ => 0)))), (q9, .inl (G.2, 3, .inr (.inl (fun _ => 0)))), (q10, .inl (G.2, 24, .inr (.inl (fun _ => 0)))), (q11, .inl (G.2, 24, .inr (.inl (fun _ => 0)))), (q12, .inl (G.1, 24, .inl (fun _ => 0)))] H := hP
  have hD : va_D A [(h0, .inr (0, [.int 0, .ref q1, .ref q2, .ref q3, .ref q4, .ref q5, .ref q6, .ref q7, .ref q8, .ref q9, .ref q10, .ref q11, .null, .null, .null])), (q1, .inl (G.1, 60, .inl (fun _ => 0))), (q2, .inl (G.1, 60, .inl (fun _ => 0))), (q3, .inl (G.1, 60, .inl (fun _ => 0))), (q4, .inl (G.1, 60, .inl (fun _ => 0))), (q5, .inl (G.1, 60, .inl (fun _ => 0))), (q6, .inl (G.2, 60, .inr (.inl (fun _ => 0)))), (q7, .inl (G.1, 3, .inl (fun _ => 0))), (q8, .inl (G.2, 3, .inr (.inl (fun _ => 0)))), (q9, .inl (G.2, 3, .inr (.inl (fun _ => 0)))), (q10, .inl (G.2, 24, .inr (.inl (fun _ => 0)))), (q11, .inl (G.2, 24, .inr (.inl (fun _ => 0)))), (q12, .inl (G.1, 24, .inl (fun _ => 0)))] := hD
  refine W.widen (k := 12) (n := 441) (by decide) (by decide) ?_
  refine va_putF (D := D) (ci := 0) (v := .ref q12) (ty := .array .int) (C := RX0) (T := TX0) (N := 15) hx hb hts in_X0 tyX0 tyX0_ok nmX0 hown hK hP hD hS 0 rfl rfl 12 (by decide) (hts _ q37) (fun _ h9 => h9) rfl hin rfl (by decide +kernel) rfl rfl (Nat.le_of_ble_eq_true rfl) dX0_init_94 (fun H locs hP hD hS => ?_)
  have hP : va_P D vwCl [(h0, .inr (0, [.int 0, .ref q1, .ref q2, .ref q3, .ref q4, .ref q5, .ref q6, .ref q7, .ref q8, .ref q9, .ref q10, .ref q11, .ref q12, .null, .null])), (q1, .inl (G.1, 60, .inl (fun _ => 0))), (q2, .inl (G.1, 60, .inl (fun _ => 0))), (q3, .inl (G.1, 60, .inl (fun _ => 0))), (q4, .inl (G.1, 60, .inl (fun _ => 0))), (q5, .inl (G.1, 60, .inl (fun _ => 0))), (q6, .inl (G.2, 60, .inr (.inl (fun _ => 0)))), (q7, .inl (G.1, 3, .inl (fun _ => 0))), (q8, .inl (G.2, 3, .inr (.inl (fun _ => 0)))), (q9, .inl (G.2, 3, .inr (.inl (fun _ => 0)))), (q10, .inl (G.2, 24, .inr (.inl (fun _ => 0)))), (q11, .inl (G.2, 24, .inr (.inl (fun _ => 0)))), (q12, .inl (G.1, 24, .inl (fun _ => 0)))] H := hP
  have hD : va_D A [(h0, .inr (0, [.int 0, .ref q1, .ref q2, .ref q3, .ref q4, .ref q5, .ref q6, .ref q7, .ref q8, .ref q9, .ref q10, .ref q11, .ref q12, .null, .null])), (q1, .inl (G.1, 60, .inl (fun _ => 0))), (q2, .inl (G.1, 60, .inl (fun _ => 0))), (q3, .inl (G.1, 60, .inl (fun _ => 0))), (q4, .inl (G.1, 60, .inl (fun _ => 0))), (q5, .inl (G.1, 60, .inl (fun _ => 0))), (q6, .inl (G.2, 60, .inr (.inl (fun _ => 0)))), (q7, .inl (G.1, 3, .inl (fun _ => 0))), (q8, .inl (G.2, 3, .inr (.inl (fun _ => 0)))), (q9, .inl (G.2, 3, .inr (.inl (fun _ => 0)))), (q10, .inl (G.2, 24, .inr (.inl (fun _ => 0)))), (q11, .inl (G.2, 24, .inr (.inl (fun _ => 0)))), (q12, .inl (G.1, 24, .inl (fun _ => 0)))] := hD
  refine lv_aload_n hx hb dX0_init_97 rfl (lv_at hl 0 rfl) ?_
  refine lv_bipush (v := 24) hx hb dX0_init_98 (by decide) ?_
  refine n_newi (N := 24) hx hb hts hK hP hD hS hA (by decide) (by decide) (by decide) (Nat.le_of_ble_eq_true rfl) (Nat.le_of_ble_eq_true rfl) dX0_init_100 (fun q13 H hP hD hS => ?_)
  have hP : va_P D vwCl [(h0, .inr (0, [.int 0, .ref q1, .ref q2, .ref q3, .ref q4, .ref q5, .ref q6, .ref q7, .ref q8, .ref q9, .ref q10, .ref q11, .ref q12, .null, .null])), (q1, .inl (G.1, 60, .inl (fun _ => 0))), (q2, .inl (G.1, 60, .inl (fun _ => 0))), (q3, .inl (G.1, 60, .inl (fun _ => 0))), (q4, .inl (G.1, 60, .inl (fun _ => 0))), (q5, .inl (G.1, 60, .inl (fun _ => 0))), (q6, .inl (G.2, 60, .inr (.inl (fun _ => 0)))), (q7, .inl (G.1, 3, .inl (fun _ => 0))), (q8, .inl (G.2, 3, .inr (.inl (fun _ => 0)))), (q9, .inl (G.2, 3, .inr (.inl (fun _ => 0)))), (q10, .inl (G.2, 24, .inr (.inl (fun _ => 0)))), (q11, .inl (G.2, 24, .inr (.inl (fun _ => 0)))), (q12, .inl (G.1, 24, .inl (fun _ => 0))), (q13, .inl (G.1, 24, .inl (fun _ => 0)))] H := hP
  have hD : va_D A [(h0, .inr (0, [.int 0, .ref q1, .ref q2, .ref q3, .ref q4, .ref q5, .ref q6, .ref q7, .ref q8, .ref q9, .ref q10, .ref q11, .ref q12, .null, .null])), (q1, .inl (G.1, 60, .inl (fun _ => 0))), (q2, .inl (G.1, 60, .inl (fun _ => 0))), (q3, .inl (G.1, 60, .inl (fun _ => 0))), (q4, .inl (G.1, 60, .inl (fun _ => 0))), (q5, .inl (G.1, 60, .inl (fun _ => 0))), (q6, .inl (G.2, 60, .inr (.inl (fun _ => 0)))), (q7, .inl (G.1, 3, .inl (fun _ => 0))), (q8, .inl (G.2, 3, .inr (.inl (fun _ => 0)))), (q9, .inl (G.2, 3, .inr (.inl (fun _ => 0)))), (q10, .inl (G.2, 24, .inr (.inl (fun _ => 0)))), (q11, .inl (G.2, 24, .inr (.inl (fun _ => 0)))), (q12, .inl (G.1, 24, .inl (fun _ => 0))), (q13, .inl (G.1, 24, .inl (fun _ => 0)))] := hD
  refine W.widen (k := 13) (n := 465) (by decide) (by decide) ?_
  refine va_putF (D := D) (ci := 0) (v := .ref q13) (ty := .array .int) (C := RX0) (T := TX0) (N := 15) hx hb hts in_X0 tyX0 tyX0_ok nmX0 hown hK hP hD hS 0 rfl rfl 13 (by decide) (hts _ q38) (fun _ h9 => h9) rfl hin rfl (by decide +kernel) rfl rfl (Nat.le_of_ble_eq_true rfl) dX0_init_102 (fun H locs hP hD hS => ?_)
  have hP : va_P D vwCl [(h0, .inr (0, [.int 0, .ref q1, .ref q2, .ref q3, .ref q4, .ref q5, .ref q6, .ref q7, .ref q8, .ref q9, .ref q10, .ref q11, .ref q12, .ref q13, .null])), (q1, .inl (G.1, 60, .inl (fun _ => 0))), (q2, .inl (G.1, 60, .inl (fun _ => 0))), (q3, .inl (G.1, 60, .inl (fun _ => 0))), (q4, .inl (G.1, 60, .inl (fun _ => 0))), (q5, .inl (G.1, 60, .inl (fun _ => 0))), (q6, .inl (G.2, 60, .inr (.inl (fun _ => 0)))), (q7, .inl (G.1, 3, .inl (fun _ => 0))), (q8, .inl (G.2, 3, .inr (.inl (fun _ => 0)))), (q9, .inl (G.2, 3, .inr (.inl (fun _ => 0)))), (q10, .inl (G.2, 24, .inr (.inl (fun _ => 0)))), (q11, .inl (G.2, 24, .inr (.inl (fun _ => 0)))), (q12, .inl (G.1, 24, .inl (fun _ => 0))), (q13, .inl (G.1, 24, .inl (fun _ => 0)))] H := hP
  have hD : va_D A [(h0, .inr (0, [.int 0, .ref q1, .ref q2, .ref q3, .ref q4, .ref q5, .ref q6, .ref q7, .ref q8, .ref q9, .ref q10, .ref q11, .ref q12, .ref q13, .null])), (q1, .inl (G.1, 60, .inl (fun _ => 0))), (q2, .inl (G.1, 60, .inl (fun _ => 0))), (q3, .inl (G.1, 60, .inl (fun _ => 0))), (q4, .inl (G.1, 60, .inl (fun _ => 0))), (q5, .inl (G.1, 60, .inl (fun _ => 0))), (q6, .inl (G.2, 60, .inr (.inl (fun _ => 0)))), (q7, .inl (G.1, 3, .inl (fun _ => 0))), (q8, .inl (G.2, 3, .inr (.inl (fun _ => 0)))), (q9, .inl (G.2, 3, .inr (.inl (fun _ => 0)))), (q10, .inl (G.2, 24, .inr (.inl (fun _ => 0)))), (q11, .inl (G.2, 24, .inr (.inl (fun _ => 0)))), (q12, .inl (G.1, 24, .inl (fun _ => 0))), (q13, .inl (G.1, 24, .inl (fun _ => 0)))] := hD
  refine lv_aload_n hx hb dX0_init_105 rfl (lv_at hl 0 rfl) ?_
  refine lv_bipush (v := 24) hx hb dX0_init_106 (by decide) ?_
  refine n_newi (N := 24) hx hb hts hK hP hD hS hA (by decide) (by decide) (by decide) (Nat.le_of_ble_eq_true rfl) (Nat.le_of_ble_eq_true rfl) dX0_init_108 (fun q14 H hP hD hS => ?_)
  have hP : va_P D vwCl [(h0, .inr (0, [.int 0, .ref q1, .ref q2, .ref q3, .ref q4, .ref q5, .ref q6, .ref q7, .ref q8, .ref q9, .ref q10, .ref q11, .ref q12, .ref q13, .null])), (q1, .inl (G.1, 60, .inl (fun _ => 0))), (q2, .inl (G.1, 60, .inl (fun _ => 0))), (q3, .inl (G.1, 60, .inl (fun _ => 0))), (q4, .inl (G.1, 60, .inl (fun _ => 0))), (q5, .inl (G.1, 60, .inl (fun _ => 0))), (q6, .inl (G.2, 60, .inr (.inl (fun _ => 0)))), (q7, .inl (G.1, 3, .inl (fun _ => 0))), (q8, .inl (G.2, 3, .inr (.inl (fun _ => 0)))), (q9, .inl (G.2, 3, .inr (.inl (fun _ => 0)))), (q10, .inl (G.2, 24, .inr (.inl (fun _ => 0)))), (q11, .inl (G.2, 24, .inr (.inl (fun _ => 0)))), (q12, .inl (G.1, 24, .inl (fun _ => 0))), (q13, .inl (G.1, 24, .inl (fun _ => 0))), (q14, .inl (G.1, 24, .inl (fun _ => 0)))] H := hP
  have hD : va_D A [(h0, .inr (0, [.int 0, .ref q1, .ref q2, .ref q3, .ref q4, .ref q5, .ref q6, .ref q7, .ref q8, .ref q9, .ref q10, .ref q11, .ref q12, .ref q13, .null])), (q1, .inl (G.1, 60, .inl (fun _ => 0))), (q2, .inl (G.1, 60, .inl (fun _ => 0))), (q3, .inl (G.1, 60, .inl (fun _ => 0))), (q4, .inl (G.1, 60, .inl (fun _ => 0))), (q5, .inl (G.1, 60, .inl (fun _ => 0))), (q6, .inl (G.2, 60, .inr (.inl (fun _ => 0)))), (q7, .inl (G.1, 3, .inl (fun _ => 0))), (q8, .inl (G.2, 3, .inr (.inl (fun _ => 0)))), (q9, .inl (G.2, 3, .inr (.inl (fun _ => 0)))), (q10, .inl (G.2, 24, .inr (.inl (fun _ => 0)))), (q11, .inl (G.2, 24, .inr (.inl (fun _ => 0)))), (q12, .inl (G.1, 24, .inl (fun _ => 0))), (q13, .inl (G.1, 24, .inl (fun _ => 0))), (q14, .inl (G.1, 24, .inl (fun _ => 0)))] := hD
  refine W.widen (k := 14) (n := 489) (by decide) (by decide) ?_
  refine va_putF (D := D) (ci := 0) (v := .ref q14) (ty := .array .int) (C := RX0) (T := TX0) (N := 15) hx hb hts in_X0 tyX0 tyX0_ok nmX0 hown hK hP hD hS 0 rfl rfl 14 (by decide) (hts _ q39) (fun _ h9 => h9) rfl hin rfl (by decide +kernel) rfl rfl (Nat.le_of_ble_eq_true rfl) dX0_init_110 (fun H locs hP hD hS => ?_)
  have hP : va_P D vwCl [(h0, .inr (0, [.int 0, .ref q1, .ref q2, .ref q3, .ref q4, .ref q5, .ref q6, .ref q7, .ref q8, .ref q9, .ref q10, .ref q11, .ref q12, .ref q13, .ref q14])), (q1, .inl (G.1, 60, .inl (fun _ => 0))), (q2, .inl (G.1, 60, .inl (fun _ => 0))), (q3, .inl (G.1, 60, .inl (fun _ => 0))), (q4, .inl (G.1, 60, .inl (fun _ => 0))), (q5, .inl (G.1, 60, .inl (fun _ => 0))), (q6, .inl (G.2, 60, .inr (.inl (fun _ => 0)))), (q7, .inl (G.1, 3, .inl (fun _ => 0))), (q8, .inl (G.2, 3, .inr (.inl (fun _ => 0)))), (q9, .inl (G.2, 3, .inr (.inl (fun _ => 0)))), (q10, .inl (G.2, 24, .inr (.inl (fun _ => 0)))), (q11, .inl (G.2, 24, .inr (.inl (fun _ => 0)))), (q12, .inl (G.1, 24, .inl (fun _ => 0))), (q13, .inl (G.1, 24, .inl (fun _ => 0))), (q14, .inl (G.1, 24, .inl (fun _ => 0)))] H := hP
  have hD : va_D A [(h0, .inr (0, [.int 0, .ref q1, .ref q2, .ref q3, .ref q4, .ref q5, .ref q6, .ref q7, .ref q8, .ref q9, .ref q10, .ref q11, .ref q12, .ref q13, .ref q14])), (q1, .inl (G.1, 60, .inl (fun _ => 0))), (q2, .inl (G.1, 60, .inl (fun _ => 0))), (q3, .inl (G.1, 60, .inl (fun _ => 0))), (q4, .inl (G.1, 60, .inl (fun _ => 0))), (q5, .inl (G.1, 60, .inl (fun _ => 0))), (q6, .inl (G.2, 60, .inr (.inl (fun _ => 0)))), (q7, .inl (G.1, 3, .inl (fun _ => 0))), (q8, .inl (G.2, 3, .inr (.inl (fun _ => 0)))), (q9, .inl (G.2, 3, .inr (.inl (fun _ => 0)))), (q10, .inl (G.2, 24, .inr (.inl (fun _ => 0)))), (q11, .inl (G.2, 24, .inr (.inl (fun _ => 0)))), (q12, .inl (G.1, 24, .inl (fun _ => 0))), (q13, .inl (G.1, 24, .inl (fun _ => 0))), (q14, .inl (G.1, 24, .inl (fun _ => 0)))] := hD
  have hP : va_P D vwCl (wx G (fun k => ([h0, q1, q2, q3, q4, q5, q6, q7, q8, q9, q10, q11, q12, q13, q14] : List Nat).getD k 0) z00) H := hP
  have hD : va_D A (wx G (fun k => ([h0, q1, q2, q3, q4, q5, q6, q7, q8, q9, q10, q11, q12, q13, q14] : List Nat).getD k 0) z00) := hD
  refine lv_iconst (v := 0) hx hb dX0_init_113 (by decide) ?_
  refine lv_istore_n (lv' := [(1, .int 0), (0, .ref h0)]) hx hb dX0_init_114 rfl hl (by decide) rfl (fun ls hl => ?_)
  exact lX_init ⟨hx, hb, hr, hml, hown, hts, hlocks, hA, hK⟩ (fun z hz => ⟨rfl, hz⟩) 24 0 z00 rfl Ini_0 _ _ _ hP hD hS (lv_sub hl [1, 0] rfl)
set_option maxHeartbeats 8000000 in
theorem mM_init (l : Launch) (D : va_G) (G : ClassId × ClassId) (h0 sz : Nat) : Met l yX1_init (ws_ yX1_init cX1_init 1 none) ({ frames := 1, cells := 8, slots := 366, locals := 12 } : Room) (va_Pc [.ref h0] (fun U => U.heap.size = sz ∧ va_P D vwCl [(h0, .inr (1, [.int 0, .null, .null, .null, .null, .null, .null, .null, .null]))] U.heap ∧ va_K D vwCl (tyz G) U ∧ va_D (fun _ => True) [(h0, .inr (1, [.int 0, .null, .null, .null, .null, .null, .null, .null, .null]))])) (va_Qv (fun u : (Nat → Nat) × TS => u.1 0 = h0 ∧ u.2 = z00) (BC D G (wm G) (va_A [(h0, .inr (1, [.int 0, .null, .null, .null, .null, .null, .null, .null, .null]))] sz)) (va_A [(h0, .inr (1, [.int 0, .null, .null, .null, .null, .null, .null, .null, .null]))] sz)) 8 366 (va_A [(h0, .inr (1, [.int 0, .null, .null, .null, .null, .null, .null, .null, .null]))] sz) := by
  refine Met.ofW (cc := cX1_init) (maxL := 1) (ret := none) (by decide) rfl ?_
  intro p e s m args below meth c s₁ B hml hv
  obtain ⟨rfl, hsz, hP, hK, hD0⟩ := hv
  have hx := B.exec
  have hb := B.bytes
  have hr := B.returns
  have hts := atoms_spec (ws := ws_ yX1_init cX1_init 1 none) B.pre
  have hts : ∀ w ∈ lw_all, w.before _ s = true := fun w h => hts w (List.mem_cons_of_mem _ h)
  have hown : s.vm.findClass RX1 = some m.cls := findClass_of_methodNamed B.named
  have hlocks := B.notSynchronized
  have hin : meth.name = "<init>" := (name_of_methodNamed B.named B.method).1
  subst hsz
  have hD := hD0.self (sz := s.heap.size)
  generalize hAe : va_A [(h0, .inr (1, [.int 0, .null, .null, .null, .null, .null, .null, .null, .null]))] s.heap.size = A at hD ⊢
  have hA : ∀ q : Nat, s.heap.size ≤ q → A q := fun q h => by rw [← hAe]; exact Or.inr h
  have hS : va_S A s.heap s.heap [] := va_S.rf
  have hP : va_P D vwCl [(h0, .inr (1, [.int 0, .null, .null, .null, .null, .null, .null, .null, .null]))] s.heap := hP
  have hl := lv_entry ([.ref h0]) (n := 1) (Nat.le_of_ble_eq_true rfl)
  rw [lg_entry_eq]
  generalize (lg_sl ([.ref h0]) ++ List.replicate (1 - (lg_sl ([.ref h0])).length) Slot.unset).toArray = ls at hl ⊢
  have hl : lv_has ls 1 [(0, .ref h0)] := hl
  refine lv_aload_n hx hb dX1_init_0 rfl (lv_at hl 0 rfl) ?_
  refine W.objInit hx hb hown (hts _ q181) (hts _ q23) (hts _ q24) rfl (by rw [hml]; exact hl.1) rfl dX1_init_1 (Nat.le_of_ble_eq_true rfl) (Nat.le_of_ble_eq_true rfl) ?_
  refine W.eq (g2 := F0 m 4 ls []) rfl ?_
  refine lv_aload_n hx hb dX1_init_4 rfl (lv_at hl 0 rfl) ?_
  refine lv_bipush (v := 60) hx hb dX1_init_5 (by decide) ?_
  refine n_newi (N := 60) hx hb hts hK hP hD hS hA (by decide) (by decide) (by decide) (Nat.le_of_ble_eq_true rfl) (Nat.le_of_ble_eq_true rfl) dX1_init_7 (fun q1 H hP hD hS => ?_)
  have hP : va_P D vwCl [(h0, .inr (1, [.int 0, .null, .null, .null, .null, .null, .null, .null, .null])), (q1, .inl (G.1, 60, .inl (fun _ => 0)))] H := hP
  have hD : va_D A [(h0, .inr (1, [.int 0, .null, .null, .null, .null, .null, .null, .null, .null])), (q1, .inl (G.1, 60, .inl (fun _ => 0)))] := hD
  refine W.widen (k := 1) (n := 60) (by decide) (by decide) ?_
  refine va_putF (D := D) (ci := 1) (v := .ref q1) (ty := .array .int) (C := RX1) (T := TX1) (N := 9) hx hb hts in_X1 tyX1 tyX1_ok nmX1 hown hK hP hD hS 0 rfl rfl 1 (by decide) (hts _ q183) (fun _ h9 => h9) rfl hin rfl (by decide +kernel) rfl rfl (Nat.le_of_ble_eq_true rfl) dX1_init_9 (fun H locs hP hD hS => ?_)
  have hP : va_P D vwCl [(h0, .inr (1, [.int 0, .ref q1, .null, .null, .null, .null, .null, .null, .null])), (q1, .inl (G.1, 60, .inl (fun _ => 0)))] H := hP
  have hD : va_D A [(h0, .inr (1, [.int 0, .ref q1, .null, .null, .null, .null, .null, .null, .null])), (q1, .inl (G.1, 60, .inl (fun _ => 0)))] := hD
  refine lv_aload_n hx hb dX1_init_12 rfl (lv_at hl 0 rfl) ?_
  refine lv_bipush (v := 60) hx hb dX1_init_13 (by decide) ?_
  refine n_newi (N := 60) hx hb hts hK hP hD hS hA (by decide) (by decide) (by decide) (Nat.le_of_ble_eq_true rfl) (Nat.le_of_ble_eq_true rfl) dX1_init_15 (fun q2 H hP hD hS => ?_)
  have hP : va_P D vwCl [(h0, .inr (1, [.int 0, .ref q1, .null, .null, .null, .null, .null, .null, .null])), (q1, .inl (G.1, 60, .inl (fun _ => 0))), (q2, .inl (G.1, 60, .inl (fun _ => 0)))] H := hP
  have hD : va_D A [(h0, .inr (1, [.int 0, .ref q1, .null, .null, .null, .null, .null, .null, .null])), (q1, .inl (G.1, 60, .inl (fun _ => 0))), (q2, .inl (G.1, 60, .inl (fun _ => 0)))] := hD
  refine W.widen (k := 2) (n := 120) (by decide) (by decide) ?_
  refine va_putF (D := D) (ci := 1) (v := .ref q2) (ty := .array .int) (C := RX1) (T := TX1) (N := 9) hx hb hts in_X1 tyX1 tyX1_ok nmX1 hown hK hP hD hS 0 rfl rfl 2 (by decide) (hts _ q184) (fun _ h9 => h9) rfl hin rfl (by decide +kernel) rfl rfl (Nat.le_of_ble_eq_true rfl) dX1_init_17 (fun H locs hP hD hS => ?_)
  have hP : va_P D vwCl [(h0, .inr (1, [.int 0, .ref q1, .ref q2, .null, .null, .null, .null, .null, .null])), (q1, .inl (G.1, 60, .inl (fun _ => 0))), (q2, .inl (G.1, 60, .inl (fun _ => 0)))] H := hP
  have hD : va_D A [(h0, .inr (1, [.int 0, .ref q1, .ref q2, .null, .null, .null, .null, .null, .null])), (q1, .inl (G.1, 60, .inl (fun _ => 0))), (q2, .inl (G.1, 60, .inl (fun _ => 0)))] := hD
  refine lv_aload_n hx hb dX1_init_20 rfl (lv_at hl 0 rfl) ?_
  refine lv_bipush (v := 60) hx hb dX1_init_21 (by decide) ?_
  refine n_newi (N := 60) hx hb hts hK hP hD hS hA (by decide) (by decide) (by decide) (Nat.le_of_ble_eq_true rfl) (Nat.le_of_ble_eq_true rfl) dX1_init_23 (fun q3 H hP hD hS => ?_)
  have hP : va_P D vwCl [(h0, .inr (1, [.int 0, .ref q1, .ref q2, .null, .null, .null, .null, .null, .null])), (q1, .inl (G.1, 60, .inl (fun _ => 0))), (q2, .inl (G.1, 60, .inl (fun _ => 0))), (q3, .inl (G.1, 60, .inl (fun _ => 0)))] H := hP
  have hD : va_D A [(h0, .inr (1, [.int 0, .ref q1, .ref q2, .null, .null, .null, .null, .null, .null])), (q1, .inl (G.1, 60, .inl (fun _ => 0))), (q2, .inl (G.1, 60, .inl (fun _ => 0))), (q3, .inl (G.1, 60, .inl (fun _ => 0)))] := hD
  refine W.widen (k := 3) (n := 180) (by decide) (by decide) ?_
  refine va_putF (D := D) (ci := 1) (v := .ref q3) (ty := .array .int) (C := RX1) (T := TX1) (N := 9) hx hb hts in_X1 tyX1 tyX1_ok nmX1 hown hK hP hD hS 0 rfl rfl 3 (by decide) (hts _ q185) (fun _ h9 => h9) rfl hin rfl (by decide +kernel) rfl rfl (Nat.le_of_ble_eq_true rfl) dX1_init_25 (fun H locs hP hD hS => ?_)
  have hP : va_P D vwCl [(h0, .inr (1, [.int 0, .ref q1, .ref q2, .ref q3, .null, .null, .null, .null, .null])), (q1, .inl (G.1, 60, .inl (fun _ => 0))), (q2, .inl (G.1, 60, .inl (fun _ => 0))), (q3, .inl (G.1, 60, .inl (fun _ => 0)))] H := hP
  have hD : va_D A [(h0, .inr (1, [.int 0, .ref q1, .ref q2, .ref q3, .null, .null, .null, .null, .null])), (q1, .inl (G.1, 60, .inl (fun _ => 0))), (q2, .inl (G.1, 60, .inl (fun _ => 0))), (q3, .inl (G.1, 60, .inl (fun _ => 0)))] := hD
  refine lv_aload_n hx hb dX1_init_28 rfl (lv_at hl 0 rfl) ?_
  refine lv_bipush (v := 60) hx hb dX1_init_29 (by decide) ?_
  refine n_newi (N := 60) hx hb hts hK hP hD hS hA (by decide) (by decide) (by decide) (Nat.le_of_ble_eq_true rfl) (Nat.le_of_ble_eq_true rfl) dX1_init_31 (fun q4 H hP hD hS => ?_)
  have hP : va_P D vwCl [(h0, .inr (1, [.int 0, .ref q1, .ref q2, .ref q3, .null, .null, .null, .null, .null])), (q1, .inl (G.1, 60, .inl (fun _ => 0))), (q2, .inl (G.1, 60, .inl (fun _ => 0))), (q3, .inl (G.1, 60, .inl (fun _ => 0))), (q4, .inl (G.1, 60, .inl (fun _ => 0)))] H := hP
  have hD : va_D A [(h0, .inr (1, [.int 0, .ref q1, .ref q2, .ref q3, .null, .null, .null, .null, .null])), (q1, .inl (G.1, 60, .inl (fun _ => 0))), (q2, .inl (G.1, 60, .inl (fun _ => 0))), (q3, .inl (G.1, 60, .inl (fun _ => 0))), (q4, .inl (G.1, 60, .inl (fun _ => 0)))] := hD
  refine W.widen (k := 4) (n := 240) (by decide) (by decide) ?_
  refine va_putF (D := D) (ci := 1) (v := .ref q4) (ty := .array .int) (C := RX1) (T := TX1) (N := 9) hx hb hts in_X1 tyX1 tyX1_ok nmX1 hown hK hP hD hS 0 rfl rfl 4 (by decide) (hts _ q186) (fun _ h9 => h9) rfl hin rfl (by decide +kernel) rfl rfl (Nat.le_of_ble_eq_true rfl) dX1_init_33 (fun H locs hP hD hS => ?_)
  have hP : va_P D vwCl [(h0, .inr (1, [.int 0, .ref q1, .ref q2, .ref q3, .ref q4, .null, .null, .null, .null])), (q1, .inl (G.1, 60, .inl (fun _ => 0))), (q2, .inl (G.1, 60, .inl (fun _ => 0))), (q3, .inl (G.1, 60, .inl (fun _ => 0))), (q4, .inl (G.1, 60, .inl (fun _ => 0)))] H := hP
  have hD : va_D A [(h0, .inr (1, [.int 0, .ref q1, .ref q2, .ref q3, .ref q4, .null, .null, .null, .null])), (q1, .inl (G.1, 60, .inl (fun _ => 0))), (q2, .inl (G.1, 60, .inl (fun _ => 0))), (q3, .inl (G.1, 60, .inl (fun _ => 0))), (q4, .inl (G.1, 60, .inl (fun _ => 0)))] := hD
  refine lv_aload_n hx hb dX1_init_36 rfl (lv_at hl 0 rfl) ?_
  refine lv_bipush (v := 60) hx hb dX1_init_37 (by decide) ?_
  refine n_newi (N := 60) hx hb hts hK hP hD hS hA (by decide) (by decide) (by decide) (Nat.le_of_ble_eq_true rfl) (Nat.le_of_ble_eq_true rfl) dX1_init_39 (fun q5 H hP hD hS => ?_)
  have hP : va_P D vwCl [(h0, .inr (1, [.int 0, .ref q1, .ref q2, .ref q3, .ref q4, .null, .null, .null, .null])), (q1, .inl (G.1, 60, .inl (fun _ => 0))), (q2, .inl (G.1, 60, .inl (fun _ => 0))), (q3, .inl (G.1, 60, .inl (fun _ => 0))), (q4, .inl (G.1, 60, .inl (fun _ => 0))), (q5, .inl (G.1, 60, .inl (fun _ => 0)))] H := hP
  have hD : va_D A [(h0, .inr (1, [.int 0, .ref q1, .ref q2, .ref q3, .ref q4, .null, .null, .null, .null])), (q1, .inl (G.1, 60, .inl (fun _ => 0))), (q2, .inl (G.1, 60, .inl (fun _ => 0))), (q3, .inl (G.1, 60, .inl (fun _ => 0))), (q4, .inl (G.1, 60, .inl (fun _ => 0))), (q5, .inl (G.1, 60, .inl (fun _ => 0)))] := hD
  refine W.widen (k := 5) (n := 300) (by decide) (by decide) ?_
  refine va_putF (D := D) (ci := 1) (v := .ref q5) (ty := .array .int) (C := RX1) (T := TX1) (N := 9) hx hb hts in_X1 tyX1 tyX1_ok nmX1 hown hK hP hD hS 0 rfl rfl 5 (by decide) (hts _ q187) (fun _ h9 => h9) rfl hin rfl (by decide +kernel) rfl rfl (Nat.le_of_ble_eq_true rfl) dX1_init_41 (fun H locs hP hD hS => ?_)
  have hP : va_P D vwCl [(h0, .inr (1, [.int 0, .ref q1, .ref q2, .ref q3, .ref q4, .ref q5, .null, .null, .null])), (q1, .inl (G.1, 60, .inl (fun _ => 0))), (q2, .inl (G.1, 60, .inl (fun _ => 0))), (q3, .inl (G.1, 60, .inl (fun _ => 0))), (q4, .inl (G.1, 60, .inl (fun _ => 0))), (q5, .inl (G.1, 60, .inl (fun _ => 0)))] H := hP
  have hD : va_D A [(h0, .inr (1, [.int 0, .ref q1, .ref q2, .ref q3, .ref q4, .ref q5, .null, .null, .null])), (q1, .inl (G.1, 60, .inl (fun _ => 0))), (q2, .inl (G.1, 60, .inl (fun _ => 0))), (q3, .inl (G.1, 60, .inl (fun _ => 0))), (q4, .inl (G.1, 60, .inl (fun _ => 0))), (q5, .inl (G.1, 60, .inl (fun _ => 0)))] := hD
  refine lv_aload_n hx hb dX1_init_44 rfl (lv_at hl 0 rfl) ?_
  refine lv_bipush (v := 60) hx hb dX1_init_45 (by decide) ?_
  refine n_newl (N := 60) hx hb hts hK hP hD hS hA (by decide) (by decide) (by decide) (Nat.le_of_ble_eq_true rfl) (Nat.le_of_ble_eq_true rfl) dX1_init_47 (fun q6 H hP hD hS => ?_)
  have hP : va_P D vwCl [(h0, .inr (1, [.int 0, .ref q1, .ref q2, .ref q3, .ref q4, .ref q5, .null, .null, .null])), (q1, .inl (G.1, 60, .inl (fun _ => 0))), (q2, .inl (G.1, 60, .inl (fun _ => 0))), (q3, .inl (G.1, 60, .inl (fun _ => 0))), (q4, .inl (G.1, 60, .inl (fun _ => 0))), (q5, .inl (G.1, 60, .inl (fun _ => 0))), (q6, .inl (G.2, 60, .inr (.inl (fun _ => 0))))] H := hP
  have hD : va_D A [(h0, .inr (1, [.int 0, .ref q1, .ref q2, .ref q3, .ref q4, .ref q5, .null, .null, .null])), (q1, .inl (G.1, 60, .inl (fun _ => 0))), (q2, .inl (G.1, 60, .inl (fun _ => 0))), (q3, .inl (G.1, 60, .inl (fun _ => 0))), (q4, .inl (G.1, 60, .inl (fun _ => 0))), (q5, .inl (G.1, 60, .inl (fun _ => 0))), (q6, .inl (G.2, 60, .inr (.inl (fun _ => 0))))] := hD
  refine W.widen (k := 6) (n := 360) (by decide) (by decide) ?_
  refine va_putF (D := D) (ci := 1) (v := .ref q6) (ty := .array .long) (C := RX1) (T := TX1) (N := 9) hx hb hts in_X1 tyX1 tyX1_ok nmX1 hown hK hP hD hS 0 rfl rfl 6 (by decide) (hts _ q188) (fun _ h9 => h9) rfl hin rfl (by decide +kernel) rfl rfl (Nat.le_of_ble_eq_true rfl) dX1_init_49 (fun H locs hP hD hS => ?_)
  have hP : va_P D vwCl [(h0, .inr (1, [.int 0, .ref q1, .ref q2, .ref q3, .ref q4, .ref q5, .ref q6, .null, .null])), (q1, .inl (G.1, 60, .inl (fun _ => 0))), (q2, .inl (G.1, 60, .inl (fun _ => 0))), (q3, .inl (G.1, 60, .inl (fun _ => 0))), (q4, .inl (G.1, 60, .inl (fun _ => 0))), (q5, .inl (G.1, 60, .inl (fun _ => 0))), (q6, .inl (G.2, 60, .inr (.inl (fun _ => 0))))] H := hP
  have hD : va_D A [(h0, .inr (1, [.int 0, .ref q1, .ref q2, .ref q3, .ref q4, .ref q5, .ref q6, .null, .null])), (q1, .inl (G.1, 60, .inl (fun _ => 0))), (q2, .inl (G.1, 60, .inl (fun _ => 0))), (q3, .inl (G.1, 60, .inl (fun _ => 0))), (q4, .inl (G.1, 60, .inl (fun _ => 0))), (q5, .inl (G.1, 60, .inl (fun _ => 0))), (q6, .inl (G.2, 60, .inr (.inl (fun _ => 0))))] := hD
  refine lv_aload_n hx hb dX1_init_52 rfl (lv_at hl 0 rfl) ?_
  refine lv_iconst (v := 3) hx hb dX1_init_53 (by decide) ?_
  refine n_newl (N := 3) hx hb hts hK hP hD hS hA (by decide) (by decide) (by decide) (Nat.le_of_ble_eq_true rfl) (Nat.le_of_ble_eq_true rfl) dX1_init_54 (fun q7 H hP hD hS => ?_)
  have hP : va_P D vwCl [(h0, .inr (1, [.int 0, .ref q1, .ref q2, .ref q3, .ref q4, .ref q5, .ref q6, .null, .null])), (q1, .inl (G.1, 60, .inl (fun _ => 0))), (q2, .inl (G.1, 60, .inl (fun _ => 0))), (q3, .inl (G.1, 60, .inl (fun _ => 0))), (q4, .inl (G.1, 60, .inl (fun _ => 0))), (q5, .inl (G.1, 60, .inl (fun _ => 0))), (q6, .inl (G.2, 60, .inr (.inl (fun _ => 0)))), (q7, .inl (G.2, 3, .inr (.inl (fun _ => 0))))] H := hP
  have hD : va_D A [(h0, .inr (1, [.int 0, .ref q1, .ref q2, .ref q3, .ref q4, .ref q5, .ref q6, .null, .null])), (q1, .inl (G.1, 60, .inl (fun _ => 0))), (q2, .inl (G.1, 60, .inl (fun _ => 0))), (q3, .inl (G.1, 60, .inl (fun _ => 0))), (q4, .inl (G.1, 60, .inl (fun _ => 0))), (q5, .inl (G.1, 60, .inl (fun _ => 0))), (q6, .inl (G.2, 60, .inr (.inl (fun _ => 0)))), (q7, .inl (G.2, 3, .inr (.inl (fun _ => 0))))] := hD
  refine W.widen (k := 7) (n := 363) (by decide) (by decide) ?_
  refine va_putF (D := D) (ci := 1) (v := .ref q7) (ty := .array .long) (C := RX1) (T := TX1) (N := 9) hx hb hts in_X1 tyX1 tyX1_ok nmX1 hown hK hP hD hS 0 rfl rfl 7 (by decide) (hts _ q189) (fun _ h9 => h9) rfl hin rfl (by decide +kernel) rfl rfl (Nat.le_of_ble_eq_true rfl) dX1_init_56 (fun H locs hP hD hS => ?_)
  have hP : va_P D vwCl [(h0, .inr (1, [.int 0, .ref q1, .ref q2, .ref q3, .ref q4, .ref q5, .ref q6, .ref q7, .null])), (q1, .inl (G.1, 60, .inl (fun _ => 0))), (q2, .inl (G.1, 60, .inl (fun _ => 0))), (q3, .inl (G.1, 60, .inl (fun _ => 0))), (q4, .inl (G.1, 60, .inl (fun _ => 0))), (q5, .inl (G.1, 60, .inl (fun _ => 0))), (q6, .inl (G.2, 60, .inr (.inl (fun _ => 0)))), (q7, .inl (G.2, 3, .inr (.inl (fun _ => 0))))] H := hP
  have hD : va_D A [(h0, .inr (1, [.int 0, .ref q1, .ref q2, .ref q3, .ref q4, .ref q5, .ref q6, .ref q7, .null])), (q1, .inl (G.1, 60, .inl (fun _ => 0))), (q2, .inl (G.1, 60, .inl (fun _ => 0))), (q3, .inl (G.1, 60, .inl (fun _ => 0))), (q4, .inl (G.1, 60, .inl (fun _ => 0))), (q5, .inl (G.1, 60, .inl (fun _ => 0))), (q6, .inl (G.2, 60, .inr (.inl (fun _ => 0)))), (q7, .inl (G.2, 3, .inr (.inl (fun _ => 0))))] := hD
  refine lv_aload_n hx hb dX1_init_59 rfl (lv_at hl 0 rfl) ?_
  refine lv_iconst (v := 3) hx hb dX1_init_60 (by decide) ?_
  refine n_newi (N := 3) hx hb hts hK hP hD hS hA (by decide) (by decide) (by decide) (Nat.le_of_ble_eq_true rfl) (Nat.le_of_ble_eq_true rfl) dX1_init_61 (fun q8 H hP hD hS => ?_)
  have hP : va_P D vwCl [(h0, .inr (1, [.int 0, .ref q1, .ref q2, .ref q3, .ref q4, .ref q5, .ref q6, .ref q7, .null])), (q1, .inl (G.1, 60, .inl (fun _ => 0))), (q2, .inl (G.1, 60, .inl (fun _ => 0))), (q3, .inl (G.1, 60, .inl (fun _ => 0))), (q4, .inl (G.1, 60, .inl (fun _ => 0))), (q5, .inl (G.1, 60, .inl (fun _ => 0))), (q6, .inl (G.2, 60, .inr (.inl (fun _ => 0)))), (q7, .inl (G.2, 3, .inr (.inl (fun _ => 0)))), (q8, .inl (G.1, 3, .inl (fun _ => 0)))] H := hP
  have hD : va_D A [(h0, .inr (1, [.int 0, .ref q1, .ref q2, .ref q3, .ref q4, .ref q5, .ref q6, .ref q7, .null])), (q1, .inl (G.1, 60, .inl (fun _ => 0))), (q2, .inl (G.1, 60, .inl (fun _ => 0))), (q3, .inl (G.1, 60, .inl (fun _ => 0))), (q4, .inl (G.1, 60, .inl (fun _ => 0))), (q5, .inl (G.1, 60, .inl (fun _ => 0))), (q6, .inl (G.2, 60, .inr (.inl (fun _ => 0)))), (q7, .inl (G.2, 3, .inr (.inl (fun _ => 0)))), (q8, .inl (G.1, 3, .inl (fun _ => 0)))] := hD
  refine W.widen (k := 8) (n := 366) (by decide) (by decide) ?_
  refine va_putF (D := D) (ci := 1) (v := .ref q8) (ty := .array .int) (C := RX1) (T := TX1) (N := 9) hx hb hts in_X1 tyX1 tyX1_ok nmX1 hown hK hP hD hS 0 rfl rfl 8 (by decide) (hts _ q190) (fun _ h9 => h9) rfl hin rfl (by decide +kernel) rfl rfl (Nat.le_of_ble_eq_true rfl) dX1_init_63 (fun H locs hP hD hS => ?_)
  have hP : va_P D vwCl [(h0, .inr (1, [.int 0, .ref q1, .ref q2, .ref q3, .ref q4, .ref q5, .ref q6, .ref q7, .ref q8])), (q1, .inl (G.1, 60, .inl (fun _ => 0))), (q2, .inl (G.1, 60, .inl (fun _ => 0))), (q3, .inl (G.1, 60, .inl (fun _ => 0))), (q4, .inl (G.1, 60, .inl (fun _ => 0))), (q5, .inl (G.1, 60, .inl (fun _ => 0))), (q6, .inl (G.2, 60, .inr (.inl (fun _ => 0)))), (q7, .inl (G.2, 3, .inr (.inl (fun _ => 0)))), (q8, .inl (G.1, 3, .inl (fun _ => 0)))] H := hP
  have hD : va_D A [(h0, .inr (1, [.int 0, .ref q1, .ref q2, .ref q3, .ref q4, .ref q5, .ref q6, .ref q7, .ref q8])), (q1, .inl (G.1, 60, .inl (fun _ => 0))), (q2, .inl (G.1, 60, .inl (fun _ => 0))), (q3, .inl (G.1, 60, .inl (fun _ => 0))), (q4, .inl (G.1, 60, .inl (fun _ => 0))), (q5, .inl (G.1, 60, .inl (fun _ => 0))), (q6, .inl (G.2, 60, .inr (.inl (fun _ => 0)))), (q7, .inl (G.2, 3, .inr (.inl (fun _ => 0)))), (q8, .inl (G.1, 3, .inl (fun _ => 0)))] := hD
  have hP : va_P D vwCl (wm G (fun k => ([h0, q1, q2, q3, q4, q5, q6, q7, q8] : List Nat).getD k 0) z00) H := hP
  have hD : va_D A (wm G (fun k => ([h0, q1, q2, q3, q4, q5, q6, q7, q8] : List Nat).getD k 0) z00) := hD
  exact W.vret hx hb hr (fun t ht hW => ⟨⟨((fun k => ([h0, q1, q2, q3, q4, q5, q6, q7, q8] : List Nat).getD k 0), z00), rfl, ⟨rfl, rfl⟩, by rw [ht]; exact hP, va_K.moved hW.alike hK, hD⟩, hS.F ht⟩) hS.2.2 dX1_init_66 (hlocks := hlocks)
end
section
/-! PLAIN LAW, 1: what taking an action in does to each field -/
theorem ix_inj {r w r' w' : Nat} (h : r' * 8 + w' = r * 8 + w) (gw : w < 8) (gw' : w' < 8) : r' = r ∧ w' = w := by omega
theorem xRow_0 {y : TS} {r a w : Nat} (ew : y.2.1 2 a = nI w) (gw : w < 8) (k0 : y.2.1 1 a = 0) : xRow y r a = sL (sL y 10 (r * 8 + w) (y.2.2 10 (r * 8 + w) ||| bitL a)) 11 (r * 8 + w) (y.2.2 11 (r * 8 + w) ||| (bitL a &&& (y.2.2 9 r ^^^ (-1)))) := by
  have ec : (y.2.1 2 a).toNatClampNeg = w := by rw [ew]; exact nI_clamp (by omega)
  unfold xRow
  rw [ec, cT_t k0]
theorem xRow_1 {y : TS} {r a w : Nat} (ew : y.2.1 2 a = nI w) (gw : w < 8) (k1 : y.2.1 1 a = 1) : xRow y r a = sL (sL y 9 r (y.2.2 9 r ||| y.2.2 6 a)) 11 (r * 8 + w) (y.2.2 11 (r * 8 + w) &&& (y.2.2 6 a ^^^ (-1))) := by
  have ec : (y.2.1 2 a).toNatClampNeg = w := by rw [ew]; exact nI_clamp (by omega)
  have k0 : ¬ y.2.1 1 a = 0 := by rw [k1]; decide
  unfold xRow
  rw [ec, cT_f k0, cT_t k1]
theorem xRow_2 {y : TS} {r a w : Nat} (ew : y.2.1 2 a = nI w) (gw : w < 8) (k2 : y.2.1 1 a = 2) : xRow y r a = cT (lat y a (y.2.1 12 (r * 8 + w))) (sI y 12 (r * 8 + w) (nI a)) y := by
  have ec : (y.2.1 2 a).toNatClampNeg = w := by rw [ew]; exact nI_clamp (by omega)
  have k0 : ¬ y.2.1 1 a = 0 := by rw [k2]; decide
  have k1 : ¬ y.2.1 1 a = 1 := by rw [k2]; decide
  unfold xRow
  rw [ec, cT_f k0, cT_f k1, cT_t k2]
theorem xRow_3 {y : TS} {r a w : Nat} (ew : y.2.1 2 a = nI w) (gw : w < 8) (k3 : y.2.1 1 a = 3) : xRow y r a = sI y 14 (r * 8 + w) (y.2.1 14 (r * 8 + w) + y.2.1 3 a) := by
  have ec : (y.2.1 2 a).toNatClampNeg = w := by rw [ew]; exact nI_clamp (by omega)
  have k0 : ¬ y.2.1 1 a = 0 := by rw [k3]; decide
  have k1 : ¬ y.2.1 1 a = 1 := by rw [k3]; decide
  have k2 : ¬ y.2.1 1 a = 2 := by rw [k3]; decide
  unfold xRow
  rw [ec, cT_f k0, cT_f k1, cT_f k2, cT_t k3]
theorem xRow_4 {y : TS} {r a w : Nat} (ew : y.2.1 2 a = nI w) (gw : w < 8) (k4 : y.2.1 1 a = 4) : xRow y r a = cT (lat y a (y.2.1 13 (r * 8 + w))) (sI y 13 (r * 8 + w) (nI a)) y := by
  have ec : (y.2.1 2 a).toNatClampNeg = w := by rw [ew]; exact nI_clamp (by omega)
  have k0 : ¬ y.2.1 1 a = 0 := by rw [k4]; decide
  have k1 : ¬ y.2.1 1 a = 1 := by rw [k4]; decide
  have k2 : ¬ y.2.1 1 a = 2 := by rw [k4]; decide
  have k3 : ¬ y.2.1 1 a = 3 := by rw [k4]; decide
  unfold xRow
  rw [ec, cT_f k0, cT_f k1, cT_f k2, cT_f k3]
/-- a state as xRow leaves it, field by field: D y d: the fields that no row change touches -/
def sameBut (y d : TS) : Prop := d.1 = y.1 ∧ (∀ k, k ≤ 7 → d.2.1 k = y.2.1 k) ∧ (∀ k, k ≤ 8 → d.2.2 k = y.2.2 k)
/-- how a row changes when the action a of the row w is taken in at r -/
def rowChg (y d : TS) (r a w : Nat) : Prop :=
  sameBut y d ∧ (∀ r' b, lb (d.2.2 9 r') b ↔ lb (y.2.2 9 r') b ∨ (r' = r ∧ y.2.1 1 a = 1 ∧ lb (y.2.2 6 a) b)) ∧
  (∀ r' w' b, w' < 8 → (lb (d.2.2 10 (r' * 8 + w')) b ↔ lb (y.2.2 10 (r' * 8 + w')) b ∨ (r' = r ∧ w' = w ∧ y.2.1 1 a = 0 ∧ b = a))) ∧
  (∀ r' w' b, w' < 8 → (lb (d.2.2 11 (r' * 8 + w')) b ↔ (lb (y.2.2 11 (r' * 8 + w')) b ∧ ¬ (r' = r ∧ w' = w ∧ y.2.1 1 a = 1 ∧ lb (y.2.2 6 a) b)) ∨ (r' = r ∧ w' = w ∧ y.2.1 1 a = 0 ∧ b = a ∧ ¬ lb (y.2.2 9 r) b))) ∧
  (∀ r' w', w' < 8 → d.2.1 12 (r' * 8 + w') = cT (r' = r ∧ w' = w ∧ y.2.1 1 a = 2 ∧ lat y a (y.2.1 12 (r' * 8 + w'))) (nI a) (y.2.1 12 (r' * 8 + w'))) ∧
  (∀ r' w', w' < 8 → d.2.1 13 (r' * 8 + w') = cT (r' = r ∧ w' = w ∧ y.2.1 1 a = 4 ∧ lat y a (y.2.1 13 (r' * 8 + w'))) (nI a) (y.2.1 13 (r' * 8 + w'))) ∧
  (∀ r' w', w' < 8 → d.2.1 14 (r' * 8 + w') = cT (r' = r ∧ w' = w ∧ y.2.1 1 a = 3) (y.2.1 14 (r' * 8 + w') + y.2.1 3 a) (y.2.1 14 (r' * 8 + w')))
theorem sI_hi (y : TS) (k j : Nat) (x : Int32) (hk : 8 ≤ k) : sameBut y (sI y k j x) := ⟨rfl, fun k' h => sI_k _ _ _ _ _ (by omega), fun _ _ => rfl⟩
theorem sL_hi (y : TS) (k j : Nat) (x : Int64) (hk : 9 ≤ k) : sameBut y (sL y k j x) := ⟨rfl, fun _ _ => rfl, fun k' h => sL_k _ _ _ _ _ (by omega)⟩
theorem sameBut.tr {x y z : TS} (h1 : sameBut x y) (h2 : sameBut y z) : sameBut x z := ⟨h2.1.trans h1.1, fun k h => (h2.2.1 k h).trans (h1.2.1 k h), fun k h => (h2.2.2 k h).trans (h1.2.2 k h)⟩
theorem sI_ix (y : TS) (k r w r' w' : Nat) (x : Int32) (gw : w < 8) (gw' : w' < 8) : (sI y k (r * 8 + w) x).2.1 k (r' * 8 + w') = if r' = r ∧ w' = w then x else y.2.1 k (r' * 8 + w') := by
  rw [sI_at]
  by_cases h : r' = r ∧ w' = w
  · obtain ⟨rfl, rfl⟩ := h
    rw [if_pos ⟨rfl, rfl⟩, if_pos ⟨rfl, rfl⟩]
  · rw [if_neg h, if_neg (fun q => h (ix_inj q.2 gw gw'))]
theorem sL_ix (y : TS) (k r w r' w' : Nat) (x : Int64) (gw : w < 8) (gw' : w' < 8) : (sL y k (r * 8 + w) x).2.2 k (r' * 8 + w') = if r' = r ∧ w' = w then x else y.2.2 k (r' * 8 + w') := by
  rw [sL_at]
  by_cases h : r' = r ∧ w' = w
  · obtain ⟨rfl, rfl⟩ := h
    rw [if_pos ⟨rfl, rfl⟩, if_pos ⟨rfl, rfl⟩]
  · rw [if_neg h, if_neg (fun q => h (ix_inj q.2 gw gw'))]
theorem xRow_chg {y : TS} {r a w : Nat} (ew : y.2.1 2 a = nI w) (gw : w < 8) (ga : a < 64) (hk : ∃ j, j < 5 ∧ y.2.1 1 a = nI j) : rowChg y (xRow y r a) r a w := by
  obtain ⟨j, gj, ek⟩ := hk
  have hj : j = 0 ∨ j = 1 ∨ j = 2 ∨ j = 3 ∨ j = 4 := by omega
  rcases hj with rfl | rfl | rfl | rfl | rfl
  · have k0 : y.2.1 1 a = 0 := ek
    have n1 : ¬ y.2.1 1 a = 1 := by rw [k0]; decide
    have n2 : ¬ y.2.1 1 a = 2 := by rw [k0]; decide
    have n3 : ¬ y.2.1 1 a = 3 := by rw [k0]; decide
    have n4 : ¬ y.2.1 1 a = 4 := by rw [k0]; decide
    rw [xRow_0 ew gw k0]
    refine ⟨(sL_hi _ _ _ _ (by decide)).tr (sL_hi _ _ _ _ (by decide)), fun r' b => ?_, fun r' w' b gw' => ?_, fun r' w' b gw' => ?_, fun r' w' gw' => ?_, fun r' w' gw' => ?_, fun r' w' gw' => ?_⟩
    · rw [sL_k _ _ _ _ _ (by decide), sL_k _ _ _ _ _ (by decide)]
      exact ⟨Or.inl, fun h => h.elim id (fun q => absurd q.2.1 n1)⟩
    · rw [sL_k _ _ _ _ _ (by decide), sL_ix _ _ _ _ _ _ _ gw gw']
      by_cases h : r' = r ∧ w' = w
      · rw [if_pos h, lb_or, lb_bit ga, h.1, h.2]
        exact ⟨fun q => q.elim Or.inl (fun e => Or.inr ⟨rfl, rfl, k0, e⟩), fun q => q.elim Or.inl (fun e => Or.inr e.2.2.2)⟩
      · rw [if_neg h]
        exact ⟨Or.inl, fun q => q.elim id (fun e => absurd ⟨e.1, e.2.1⟩ h)⟩
    · rw [sL_ix _ _ _ _ _ _ _ gw gw']
      by_cases h : r' = r ∧ w' = w
      · rw [if_pos h, lb_or, lb_andn, lb_bit ga, h.1, h.2]
        exact ⟨fun q => q.elim (fun e => Or.inl ⟨e, fun f => n1 f.2.2.1⟩) (fun e => Or.inr ⟨rfl, rfl, k0, e.1, e.2⟩), fun q => q.elim (fun e => Or.inl e.1) (fun e => Or.inr ⟨e.2.2.2.1, e.2.2.2.2⟩)⟩
      · rw [if_neg h, sL_k _ _ _ _ _ (by decide)]
        exact ⟨fun q => Or.inl ⟨q, fun f => n1 f.2.2.1⟩, fun q => q.elim (fun e => e.1) (fun e => absurd ⟨e.1, e.2.1⟩ h)⟩
    · exact (cT_f (fun q => n2 q.2.2.1) _ _).symm
    · exact (cT_f (fun q => n4 q.2.2.1) _ _).symm
    · exact (cT_f (fun q => n3 q.2.2) _ _).symm
  · have k1 : y.2.1 1 a = 1 := ek
    have n0 : ¬ y.2.1 1 a = 0 := by rw [k1]; decide
    have n2 : ¬ y.2.1 1 a = 2 := by rw [k1]; decide
    have n3 : ¬ y.2.1 1 a = 3 := by rw [k1]; decide
    have n4 : ¬ y.2.1 1 a = 4 := by rw [k1]; decide
    rw [xRow_1 ew gw k1]
    refine ⟨(sL_hi _ _ _ _ (by decide)).tr (sL_hi _ _ _ _ (by decide)), fun r' b => ?_, fun r' w' b gw' => ?_, fun r' w' b gw' => ?_, fun r' w' gw' => ?_, fun r' w' gw' => ?_, fun r' w' gw' => ?_⟩
    · rw [sL_k _ _ _ _ _ (by decide), sL_at]
      by_cases h : r' = r
      · rw [if_pos ⟨rfl, h⟩, lb_or, h]
        exact ⟨fun q => q.elim Or.inl (fun e => Or.inr ⟨rfl, k1, e⟩), fun q => q.elim Or.inl (fun e => Or.inr e.2.2)⟩
      · rw [if_neg (fun q => h q.2)]
        exact ⟨Or.inl, fun q => q.elim id (fun e => absurd e.1 h)⟩
    · rw [sL_k _ _ _ _ _ (by decide), sL_k _ _ _ _ _ (by decide)]
      exact ⟨Or.inl, fun h => h.elim id (fun q => absurd q.2.2.1 n0)⟩
    · rw [sL_ix _ _ _ _ _ _ _ gw gw']
      by_cases h : r' = r ∧ w' = w
      · rw [if_pos h, lb_andn, h.1, h.2]
        exact ⟨fun q => Or.inl ⟨q.1, fun f => q.2 f.2.2.2⟩, fun q => q.elim (fun e => ⟨e.1, fun f => e.2 ⟨rfl, rfl, k1, f⟩⟩) (fun e => absurd e.2.2.1 n0)⟩
      · rw [if_neg h, sL_k _ _ _ _ _ (by decide)]
        exact ⟨fun q => Or.inl ⟨q, fun f => h ⟨f.1, f.2.1⟩⟩, fun q => q.elim (fun e => e.1) (fun e => absurd ⟨e.1, e.2.1⟩ h)⟩
    · exact (cT_f (fun q => n2 q.2.2.1) _ _).symm
    · exact (cT_f (fun q => n4 q.2.2.1) _ _).symm
    · exact (cT_f (fun q => n3 q.2.2) _ _).symm
  · have k2 : y.2.1 1 a = 2 := ek
    have n0 : ¬ y.2.1 1 a = 0 := by rw [k2]; decide
    have n1 : ¬ y.2.1 1 a = 1 := by rw [k2]; decide
    have n3 : ¬ y.2.1 1 a = 3 := by rw [k2]; decide
    have n4 : ¬ y.2.1 1 a = 4 := by rw [k2]; decide
    rw [xRow_2 ew gw k2]
    have key : ∀ d : TS, sameBut y d → d.2.2 = y.2.2 → d.2.1 13 = y.2.1 13 → d.2.1 14 = y.2.1 14 → (∀ r' w', w' < 8 → d.2.1 12 (r' * 8 + w') = cT (r' = r ∧ w' = w ∧ y.2.1 1 a = 2 ∧ lat y a (y.2.1 12 (r' * 8 + w'))) (nI a) (y.2.1 12 (r' * 8 + w'))) → rowChg y d r a w := by
      intro d h1 h2 h3 h4 h5
      refine ⟨h1, fun r' b => ?_, fun r' w' b gw' => ?_, fun r' w' b gw' => ?_, h5, fun r' w' gw' => ?_, fun r' w' gw' => ?_⟩
      · rw [h2]; exact ⟨Or.inl, fun h => h.elim id (fun q => absurd q.2.1 n1)⟩
      · rw [h2]; exact ⟨Or.inl, fun h => h.elim id (fun q => absurd q.2.2.1 n0)⟩
      · rw [h2]; exact ⟨fun q => Or.inl ⟨q, fun f => n1 f.2.2.1⟩, fun q => q.elim (fun e => e.1) (fun e => absurd e.2.2.1 n0)⟩
      · rw [h3]; exact (cT_f (fun q => n4 q.2.2.1) _ _).symm
      · rw [h4]; exact (cT_f (fun q => n3 q.2.2) _ _).symm
    by_cases hl : lat y a (y.2.1 12 (r * 8 + w))
    · rw [cT_t hl]
      refine key _ (sI_hi _ _ _ _ (by decide)) rfl (sI_k _ _ _ _ _ (by decide)) (sI_k _ _ _ _ _ (by decide)) (fun r' w' gw' => ?_)
      rw [sI_ix _ _ _ _ _ _ _ gw gw']
      by_cases h : r' = r ∧ w' = w
      · rw [if_pos h, cT_t ⟨h.1, h.2, k2, by rw [h.1, h.2]; exact hl⟩]
      · rw [if_neg h, cT_f (fun q => h ⟨q.1, q.2.1⟩)]
    · rw [cT_f hl]
      refine key _ ⟨rfl, fun _ _ => rfl, fun _ _ => rfl⟩ rfl rfl rfl (fun r' w' gw' => ?_)
      exact (cT_f (fun q => hl (by rw [← q.1, ← q.2.1]; exact q.2.2.2)) _ _).symm
  · have k3 : y.2.1 1 a = 3 := ek
    have n0 : ¬ y.2.1 1 a = 0 := by rw [k3]; decide
    have n1 : ¬ y.2.1 1 a = 1 := by rw [k3]; decide
    have n2 : ¬ y.2.1 1 a = 2 := by rw [k3]; decide
    have n4 : ¬ y.2.1 1 a = 4 := by rw [k3]; decide
    rw [xRow_3 ew gw k3]
    refine ⟨sI_hi _ _ _ _ (by decide), fun r' b => ?_, fun r' w' b gw' => ?_, fun r' w' b gw' => ?_, fun r' w' gw' => ?_, fun r' w' gw' => ?_, fun r' w' gw' => ?_⟩
    · exact ⟨Or.inl, fun h => h.elim id (fun q => absurd q.2.1 n1)⟩
    · exact ⟨Or.inl, fun h => h.elim id (fun q => absurd q.2.2.1 n0)⟩
    · exact ⟨fun q => Or.inl ⟨q, fun f => n1 f.2.2.1⟩, fun q => q.elim (fun e => e.1) (fun e => absurd e.2.2.1 n0)⟩
    · rw [sI_k _ _ _ _ _ (by decide)]; exact (cT_f (fun q => n2 q.2.2.1) _ _).symm
    · rw [sI_k _ _ _ _ _ (by decide)]; exact (cT_f (fun q => n4 q.2.2.1) _ _).symm
    · rw [sI_ix _ _ _ _ _ _ _ gw gw']
      by_cases h : r' = r ∧ w' = w
      · rw [if_pos h, cT_t ⟨h.1, h.2, k3⟩, h.1, h.2]
      · rw [if_neg h, cT_f (fun q => h ⟨q.1, q.2.1⟩)]
  · have k4 : y.2.1 1 a = 4 := ek
    have n0 : ¬ y.2.1 1 a = 0 := by rw [k4]; decide
    have n1 : ¬ y.2.1 1 a = 1 := by rw [k4]; decide
    have n2 : ¬ y.2.1 1 a = 2 := by rw [k4]; decide
    have n3 : ¬ y.2.1 1 a = 3 := by rw [k4]; decide
    rw [xRow_4 ew gw k4]
    have key : ∀ d : TS, sameBut y d → d.2.2 = y.2.2 → d.2.1 12 = y.2.1 12 → d.2.1 14 = y.2.1 14 → (∀ r' w', w' < 8 → d.2.1 13 (r' * 8 + w') = cT (r' = r ∧ w' = w ∧ y.2.1 1 a = 4 ∧ lat y a (y.2.1 13 (r' * 8 + w'))) (nI a) (y.2.1 13 (r' * 8 + w'))) → rowChg y d r a w := by
      intro d h1 h2 h3 h4 h5
      refine ⟨h1, fun r' b => ?_, fun r' w' b gw' => ?_, fun r' w' b gw' => ?_, fun r' w' gw' => ?_, h5, fun r' w' gw' => ?_⟩
      · rw [h2]; exact ⟨Or.inl, fun h => h.elim id (fun q => absurd q.2.1 n1)⟩
      · rw [h2]; exact ⟨Or.inl, fun h => h.elim id (fun q => absurd q.2.2.1 n0)⟩
      · rw [h2]; exact ⟨fun q => Or.inl ⟨q, fun f => n1 f.2.2.1⟩, fun q => q.elim (fun e => e.1) (fun e => absurd e.2.2.1 n0)⟩
      · rw [h3]; exact (cT_f (fun q => n2 q.2.2.1) _ _).symm
      · rw [h4]; exact (cT_f (fun q => n3 q.2.2) _ _).symm
    by_cases hl : lat y a (y.2.1 13 (r * 8 + w))
    · rw [cT_t hl]
      refine key _ (sI_hi _ _ _ _ (by decide)) rfl (sI_k _ _ _ _ _ (by decide)) (sI_k _ _ _ _ _ (by decide)) (fun r' w' gw' => ?_)
      rw [sI_ix _ _ _ _ _ _ _ gw gw']
      by_cases h : r' = r ∧ w' = w
      · rw [if_pos h, cT_t ⟨h.1, h.2, k4, by rw [h.1, h.2]; exact hl⟩]
      · rw [if_neg h, cT_f (fun q => h ⟨q.1, q.2.1⟩)]
    · rw [cT_f hl]
      refine key _ ⟨rfl, fun _ _ => rfl, fun _ _ => rfl⟩ rfl rfl rfl (fun r' w' gw' => ?_)
      exact (cT_f (fun q => hl (by rw [← q.1, ← q.2.1]; exact q.2.2.2)) _ _).symm
/-- behind the known set and the stamp: the same rows as before -/
theorem xSt_same (x : TS) (r a : Nat) : (xSt (sL x 8 r (x.2.2 8 r ||| bitL a)) r a).1 = x.1 ∧ (∀ k, k ≠ 7 → (xSt (sL x 8 r (x.2.2 8 r ||| bitL a)) r a).2.1 k = x.2.1 k) ∧ (∀ k, k ≠ 8 → (xSt (sL x 8 r (x.2.2 8 r ||| bitL a)) r a).2.2 k = x.2.2 k) ∧ (∀ r', (xSt (sL x 8 r (x.2.2 8 r ||| bitL a)) r a).2.1 7 r' = cT (r' = r ∧ x.2.1 7 r < x.2.1 4 a) (x.2.1 4 a) (x.2.1 7 r')) ∧ (∀ r', (xSt (sL x 8 r (x.2.2 8 r ||| bitL a)) r a).2.2 8 r' = if r' = r then x.2.2 8 r ||| bitL a else x.2.2 8 r') := by
  have hL : ∀ r', (sL x 8 r (x.2.2 8 r ||| bitL a)).2.2 8 r' = if r' = r then x.2.2 8 r ||| bitL a else x.2.2 8 r' := by
    intro r'
    rw [sL_at]
    by_cases e : r' = r
    · rw [if_pos ⟨rfl, e⟩, if_pos e]
    · rw [if_neg (fun q => e q.2), if_neg e]
  unfold xSt
  by_cases h : x.2.1 7 r < x.2.1 4 a
  · have h' : (sL x 8 r (x.2.2 8 r ||| bitL a)).2.1 7 r < (sL x 8 r (x.2.2 8 r ||| bitL a)).2.1 4 a := h
    rw [cT_t h']
    refine ⟨rfl, fun k hk => sI_k _ _ _ _ _ hk, fun k hk => sL_k _ _ _ _ _ hk, fun r' => ?_, hL⟩
    rw [sI_at]
    by_cases e : r' = r
    · rw [if_pos ⟨rfl, e⟩, cT_t ⟨e, h⟩]; rfl
    · rw [if_neg (fun q => e q.2), cT_f (fun q => e q.1)]; rfl
  · have h' : ¬ (sL x 8 r (x.2.2 8 r ||| bitL a)).2.1 7 r < (sL x 8 r (x.2.2 8 r ||| bitL a)).2.1 4 a := h
    rw [cT_f h']
    refine ⟨rfl, fun k _ => rfl, fun k hk => sL_k _ _ _ _ _ hk, fun r' => ?_, hL⟩
    rw [cT_f (fun q => h q.2)]; rfl
theorem mTake_same (x : TS) (r a : Nat) : (∀ k, k ≠ 8 → (mTake x r a).2.1 k = x.2.1 k) ∧ (∀ k, k ≠ 7 → (mTake x r a).2.2 k = x.2.2 k) ∧ (∀ r', (mTake x r a).2.1 8 r' = cT (r' = r ∧ x.2.1 8 r < x.2.1 4 a) (x.2.1 4 a) (x.2.1 8 r')) ∧ (∀ r', (mTake x r a).2.2 7 r' = if r' = r then x.2.2 7 r ||| bitL a else x.2.2 7 r') := by
  have hL : ∀ r', (sL x 7 r (x.2.2 7 r ||| bitL a)).2.2 7 r' = if r' = r then x.2.2 7 r ||| bitL a else x.2.2 7 r' := by
    intro r'
    rw [sL_at]
    by_cases e : r' = r
    · rw [if_pos ⟨rfl, e⟩, if_pos e]
    · rw [if_neg (fun q => e q.2), if_neg e]
  unfold mTake mSt
  by_cases h : x.2.1 8 r < x.2.1 4 a
  · have h' : (sL x 7 r (x.2.2 7 r ||| bitL a)).2.1 8 r < (sL x 7 r (x.2.2 7 r ||| bitL a)).2.1 4 a := h
    rw [cT_t h']
    refine ⟨fun k hk => sI_k _ _ _ _ _ hk, fun k hk => sL_k _ _ _ _ _ hk, fun r' => ?_, hL⟩
    rw [sI_at]
    by_cases e : r' = r
    · rw [if_pos ⟨rfl, e⟩, cT_t ⟨e, h⟩]; rfl
    · rw [if_neg (fun q => e q.2), cT_f (fun q => e q.1)]; rfl
  · have h' : ¬ (sL x 7 r (x.2.2 7 r ||| bitL a)).2.1 8 r < (sL x 7 r (x.2.2 7 r ||| bitL a)).2.1 4 a := h
    rw [cT_f h']
    refine ⟨fun k _ => rfl, fun k hk => sL_k _ _ _ _ _ hk, fun r' => ?_, hL⟩
    rw [cT_f (fun q => h q.2)]; rfl
theorem mTake_K {m : TS} {r a : Nat} (ga : a < 64) (r' b : Nat) : lb ((mTake m r a).2.2 7 r') b ↔ lb (m.2.2 7 r') b ∨ (r' = r ∧ b = a) := by
  rw [(mTake_same m r a).2.2.2 r']
  by_cases e : r' = r
  · rw [if_pos e, lb_or, lb_bit ga, e]
    exact ⟨fun q => q.elim Or.inl (fun x => Or.inr ⟨rfl, x⟩), fun q => q.elim Or.inl (fun x => Or.inr x.2)⟩
  · rw [if_neg e]
    exact ⟨Or.inl, fun q => q.elim id (fun x => absurd x.1 e)⟩
end
section
/-! PLAIN LAW, 2: what ties the two tables, and that taking an action in keeps it -/
def MI (m : TS) : Prop :=
  m.1 ≤ 60 ∧ (∀ r a, r < 3 → lb (m.2.2 7 r) a → a < m.1) ∧ (∀ a, ∃ j, j < 8 ∧ m.2.1 2 a = nI j) ∧ (∀ a, a < m.1 → ∃ j, j < 5 ∧ m.2.1 1 a = nI j) ∧
  (∀ a, a < m.1 → m.2.1 1 a = 4 → m.2.1 3 a = -1 ∨ ∃ j, j < 8 ∧ m.2.1 3 a = nI j) ∧
  (∀ a, a < m.1 → ∃ o, o < 3 ∧ m.2.1 5 a = nI o ∧ (lb (m.2.2 7 o) a → (m.2.1 4 a).toInt ≤ (m.2.1 8 o).toInt)) ∧
  (∀ r, r < 3 → 0 ≤ (m.2.1 8 r).toInt ∧ (m.2.1 8 r).toInt ≤ m.1) ∧
  (∀ a b, a < b → b < m.1 → m.2.1 5 a = m.2.1 5 b → (m.2.1 4 a).toInt < (m.2.1 4 b).toInt) ∧
  (∀ a b, a < m.1 → lb (m.2.2 6 a) b → b < a) ∧ (∀ a, a < m.1 → (m.2.1 4 a).toInt ≤ m.1)
/-- every action is known to its own replica -/
def FI (m : TS) : Prop := ∀ a, a < m.1 → ∀ o, o < 3 → m.2.1 5 a = nI o → lb (m.2.2 7 o) a
def isL (m : TS) (r : Nat) (w k v : Int32) : Prop := (v = -1 ∧ ∀ a, ¬ mHit m r w k a) ∨ ∃ b, b < m.1 ∧ v = nI b ∧ mHit m r w k b ∧ ∀ a, mHit m r w k a → a = b ∨ latN m b a
def EqA (x m : TS) : Prop := x.1 = m.1 ∧ x.2.1 1 = m.2.1 1 ∧ x.2.1 2 = m.2.1 2 ∧ x.2.1 3 = m.2.1 3 ∧ x.2.1 4 = m.2.1 4 ∧ x.2.1 5 = m.2.1 5 ∧ x.2.1 7 = m.2.1 8 ∧ x.2.2 8 = m.2.2 7
def XI (x m : TS) : Prop :=
  EqA x m ∧ (∀ a b, a < m.1 → (lb (x.2.2 6 a) b ↔ m.2.1 1 a = 1 ∧ m.2.1 1 b = 0 ∧ m.2.1 2 b = m.2.1 2 a ∧ lb (m.2.2 6 a) b)) ∧
  (∀ r b, r < 3 → (lb (x.2.2 9 r) b ↔ ∃ a, lb (m.2.2 7 r) a ∧ lb (x.2.2 6 a) b)) ∧
  (∀ r w b, r < 3 → w < 8 → (lb (x.2.2 10 (r * 8 + w)) b ↔ lb (m.2.2 7 r) b ∧ m.2.1 1 b = 0 ∧ m.2.1 2 b = nI w)) ∧
  (∀ r w b, r < 3 → w < 8 → (lb (x.2.2 11 (r * 8 + w)) b ↔ lb (m.2.2 7 r) b ∧ m.2.1 1 b = 0 ∧ m.2.1 2 b = nI w ∧ ¬ lb (x.2.2 9 r) b)) ∧
  (∀ r w, r < 3 → w < 8 → isL m r (nI w) 2 (x.2.1 12 (r * 8 + w))) ∧ (∀ r w, r < 3 → w < 8 → isL m r (nI w) 4 (x.2.1 13 (r * 8 + w))) ∧
  (∀ r w, r < 3 → w < 8 → x.2.1 14 (r * 8 + w) = mSumR m r (nI w) m.1)
/-! order of actions -/
theorem latN_i (z : TS) (a b : Nat) : latN z a b ↔ (z.2.1 4 b).toInt < (z.2.1 4 a).toInt ∨ ((z.2.1 4 a).toInt = (z.2.1 4 b).toInt ∧ (z.2.1 5 b).toInt < (z.2.1 5 a).toInt) := by
  show ((¬ z.2.1 4 a = z.2.1 4 b ∧ z.2.1 4 b < z.2.1 4 a) ∨ (z.2.1 4 a = z.2.1 4 b ∧ z.2.1 5 b < z.2.1 5 a)) ↔ _
  rw [Int32.lt_iff_toInt_lt, Int32.lt_iff_toInt_lt, ← Int32.toInt_inj]
  constructor
  · rintro (h | h)
    · exact Or.inl h.2
    · exact Or.inr h
  · rintro (h | h)
    · exact Or.inl ⟨by omega, h⟩
    · exact Or.inr h
theorem latN_tr {z : TS} {a b c : Nat} (h1 : latN z a b) (h2 : latN z b c) : latN z a c := by
  rw [latN_i] at h1 h2 ⊢
  omega
theorem latN_as {z : TS} {a b : Nat} (h1 : latN z a b) (h2 : latN z b a) : False := by
  rw [latN_i] at h1 h2
  omega
theorem latN_tot {m : TS} (hM : MI m) {a b : Nat} (ha : a < m.1) (hb : b < m.1) (hne : a ≠ b) : latN m a b ∨ latN m b a := by
  obtain ⟨-, -, -, -, -, -, -, h7, -, -⟩ := hM
  rw [latN_i, latN_i]
  by_cases e : m.2.1 5 a = m.2.1 5 b
  · rcases Nat.lt_or_gt_of_ne hne with q | q
    · have := h7 a b q hb e; omega
    · have := h7 b a q ha e.symm; omega
  · have e' : ¬ (m.2.1 5 a).toInt = (m.2.1 5 b).toInt := fun q => e (Int32.toInt_inj.mp q)
    omega
theorem mBet_i {z : TS} {a b : Nat} (gb : b < 2 ^ 31) : mBet z a (nI b) ↔ latN z a b := by
  unfold mBet
  rw [nI_clamp gb, latN_i, Int32.lt_iff_toInt_lt, Int32.lt_iff_toInt_lt, Int32.lt_iff_toInt_lt, ← Int32.toInt_inj]
  constructor
  · rintro (h | h | h)
    · exact absurd (Int32.lt_iff_toInt_lt.mpr h) (nI_pos gb)
    · exact Or.inl h
    · exact Or.inr h
  · rintro (h | h)
    · exact Or.inr (Or.inl h)
    · exact Or.inr (Or.inr h)
/-- the model's search finds the last one -/
theorem isL_mLast {m : TS} (hM : MI m) {r : Nat} (gr : r < 3) (w k : Int32) : isL m r w k (mLast m r w k m.1) := by
  have key : ∀ i, i ≤ m.1 → (mLast m r w k i = -1 ∧ ∀ a, a < i → ¬ mHit m r w k a) ∨ ∃ b, b < i ∧ mLast m r w k i = nI b ∧ mHit m r w k b ∧ ∀ a, a < i → mHit m r w k a → a = b ∨ latN m b a := by
    intro i
    induction i with
    | zero => intro _; exact Or.inl ⟨rfl, fun a h => absurd h (Nat.not_lt_zero _)⟩
    | succ i ih =>
      intro hi
      have h60 := hM.1
      have ih := ih (by omega)
      by_cases hh : mHit m r w k i
      · rcases ih with ⟨e, hn⟩ | ⟨b, gb, e, hb, hall⟩
        · have hc : mHit m r w k i ∧ mBet m i (mLast m r w k i) := ⟨hh, by rw [e]; exact Or.inl (by decide)⟩
          refine Or.inr ⟨i, Nat.lt_succ_self i, cT_t hc _ _, hh, fun a ha h => Or.inl ?_⟩
          rcases Nat.lt_or_ge a i with q | q
          · exact absurd h (hn a q)
          · omega
        · by_cases hl : latN m i b
          · have hc : mHit m r w k i ∧ mBet m i (mLast m r w k i) := ⟨hh, by rw [e]; exact (mBet_i (by omega)).mpr hl⟩
            refine Or.inr ⟨i, Nat.lt_succ_self i, cT_t hc _ _, hh, fun a ha h => ?_⟩
            rcases Nat.lt_or_ge a i with q | q
            · refine Or.inr ?_
              rcases hall a q h with rfl | t
              · exact hl
              · exact latN_tr hl t
            · exact Or.inl (by omega)
          · have hc : ¬ (mHit m r w k i ∧ mBet m i (mLast m r w k i)) := fun q => hl ((mBet_i (b := b) (by omega)).mp (by rw [← e]; exact q.2))
            refine Or.inr ⟨b, by omega, (cT_f hc _ _).trans e, hb, fun a ha h => ?_⟩
            rcases Nat.lt_or_ge a i with q | q
            · exact hall a q h
            · have ea : a = i := by omega
              subst ea
              rcases latN_tot hM (a := a) (b := b) (by omega) (by omega) (by omega) with t | t
              · exact absurd t hl
              · exact Or.inr t
      · have hc : ¬ (mHit m r w k i ∧ mBet m i (mLast m r w k i)) := fun q => hh q.1
        rcases ih with ⟨e, hn⟩ | ⟨b, gb, e, hb, hall⟩
        · refine Or.inl ⟨(cT_f hc _ _).trans e, fun a ha h => ?_⟩
          rcases Nat.lt_or_ge a i with q | q
          · exact hn a q h
          · have ea : a = i := by omega
            subst ea; exact hh h
        · refine Or.inr ⟨b, by omega, (cT_f hc _ _).trans e, hb, fun a ha h => ?_⟩
          rcases Nat.lt_or_ge a i with q | q
          · exact hall a q h
          · have ea : a = i := by omega
            subst ea; exact absurd h hh
  have hlt : ∀ a, mHit m r w k a → a < m.1 := fun a h => hM.2.1 r a gr h.1
  rcases key m.1 (Nat.le_refl _) with ⟨e, hn⟩ | ⟨b, gb, e, hb, hall⟩
  · exact Or.inl ⟨e, fun a h => hn a (hlt a h) h⟩
  · exact Or.inr ⟨b, gb, e, hb, fun a h => hall a (hlt a h) h⟩
theorem isL_uni {m : TS} {r : Nat} {w k v v' : Int32} (h : isL m r w k v) (h' : isL m r w k v') : v = v' := by
  rcases h with ⟨e, hn⟩ | ⟨b, gb, e, hb, hall⟩
  · rcases h' with ⟨e', hn'⟩ | ⟨b', gb', e', hb', hall'⟩
    · rw [e, e']
    · exact absurd hb' (hn b')
  · rcases h' with ⟨e', hn'⟩ | ⟨b', gb', e', hb', hall'⟩
    · exact absurd hb (hn' b)
    · rcases hall b' hb' with q | q
      · rw [e, e', q]
      · rcases hall' b hb with q' | q'
        · rw [e, e', q']
        · exact (latN_as q q').elim
/-! taking in, at the model -/
theorem latN_take (m : TS) (r a b c : Nat) : latN (mTake m r a) b c ↔ latN m b c := by
  have h := (mTake_same m r a).1
  show ((¬ (mTake m r a).2.1 4 b = (mTake m r a).2.1 4 c ∧ (mTake m r a).2.1 4 c < (mTake m r a).2.1 4 b) ∨ ((mTake m r a).2.1 4 b = (mTake m r a).2.1 4 c ∧ (mTake m r a).2.1 5 c < (mTake m r a).2.1 5 b)) ↔ _
  rw [h 4 (by decide), h 5 (by decide)]
theorem mHit_take {m : TS} {r a : Nat} (ga : a < 64) (r' : Nat) (w k : Int32) (b : Nat) : mHit (mTake m r a) r' w k b ↔ mHit m r' w k b ∨ (r' = r ∧ b = a ∧ m.2.1 1 a = k ∧ m.2.1 2 a = w) := by
  have h := (mTake_same m r a).1
  unfold mHit
  rw [mTake_K ga, h 1 (by decide), h 2 (by decide)]
  constructor
  · rintro ⟨h1 | h1, h2, h3⟩
    · exact Or.inl ⟨h1, h2, h3⟩
    · exact Or.inr ⟨h1.1, h1.2, by rw [← h1.2]; exact h2, by rw [← h1.2]; exact h3⟩
  · rintro (⟨h1, h2, h3⟩ | ⟨h1, h2, h3, h4⟩)
    · exact ⟨Or.inl h1, h2, h3⟩
    · exact ⟨Or.inr ⟨h1, h2⟩, by rw [h2]; exact h3, by rw [h2]; exact h4⟩
theorem MI_take {m : TS} (h : MI m) {r a : Nat} (gr : r < 3) (ga : a < m.1) : MI (mTake m r a) := by
  obtain ⟨h0, h1, h2, h3, h4, h5, h6, h7, h8, h9⟩ := h
  obtain ⟨s1, s2, s3, s4⟩ := mTake_same m r a
  have hn := mTake_n m r a
  have ga64 : a < 64 := by omega
  refine ⟨by rw [hn]; exact h0, fun r' b gr' hb => ?_, fun b => ?_, fun b hb => ?_, fun b hb => ?_, fun b hb => ?_, fun r' gr' => ?_, fun b c hbc hc => ?_, fun b c hb => ?_, fun b hb => ?_⟩
  · rw [mTake_K ga64] at hb
    rw [hn]
    rcases hb with q | q
    · exact h1 r' b gr' q
    · rw [q.2]; exact ga
  · rw [s1 2 (by decide)]; exact h2 b
  · rw [hn] at hb; rw [s1 1 (by decide)]; exact h3 b hb
  · rw [hn] at hb; rw [s1 1 (by decide), s1 3 (by decide)]; exact h4 b hb
  · rw [hn] at hb
    obtain ⟨o, go, e, hs⟩ := h5 b hb
    refine ⟨o, go, by rw [s1 5 (by decide)]; exact e, fun hk => ?_⟩
    rw [mTake_K ga64] at hk
    rw [s1 4 (by decide), s3 o]
    by_cases c : o = r ∧ m.2.1 8 r < m.2.1 4 a
    · rw [cT_t c]
      have c2 := Int32.lt_iff_toInt_lt.mp c.2
      rcases hk with q | q
      · have := hs q; rw [c.1] at this; omega
      · rw [q.2]; exact Int.le_refl _
    · rw [cT_f c]
      rcases hk with q | q
      · exact hs q
      · have hnl : ¬ m.2.1 8 r < m.2.1 4 a := fun x => c ⟨q.1, x⟩
        rw [Int32.lt_iff_toInt_lt] at hnl
        rw [q.1, q.2]; omega
  · rw [s3 r', hn]
    by_cases c : r' = r ∧ m.2.1 8 r < m.2.1 4 a
    · rw [cT_t c]
      have c2 := Int32.lt_iff_toInt_lt.mp c.2
      have := h6 r gr
      exact ⟨by omega, h9 a ga⟩
    · rw [cT_f c]; exact h6 r' gr'
  · rw [hn] at hc; rw [s1 5 (by decide), s1 4 (by decide)]; exact h7 b c hbc hc
  · rw [hn] at hb; rw [s2 6 (by decide)]; exact h8 b c hb
  · rw [hn] at hb; rw [s1 4 (by decide), hn]; exact h9 b hb
theorem FI_take {m : TS} (h : FI m) {r a : Nat} (ga : a < 64) : FI (mTake m r a) := by
  intro b hb o go e
  rw [mTake_n] at hb
  rw [(mTake_same m r a).1 5 (by decide)] at e
  rw [mTake_K ga]
  exact Or.inl (h b hb o go e)
theorem isL_keep {m m' : TS} {r : Nat} {w k v : Int32} (h : isL m r w k v) (hn : m.1 ≤ m'.1) (hh : ∀ a, mHit m' r w k a ↔ mHit m r w k a) (hl : ∀ a b, mHit m r w k a → mHit m r w k b → (latN m' a b ↔ latN m a b)) : isL m' r w k v := by
  rcases h with ⟨e, hno⟩ | ⟨b, gb, e, hb, hall⟩
  · exact Or.inl ⟨e, fun a q => hno a ((hh a).mp q)⟩
  · refine Or.inr ⟨b, by omega, e, (hh b).mpr hb, fun a q => ?_⟩
    rcases hall a ((hh a).mp q) with t | t
    · exact Or.inl t
    · exact Or.inr ((hl b a hb ((hh a).mp q)).mpr t)
theorem isL_take {m : TS} (hM : MI m) {r a : Nat} (gr : r < 3) (ga : a < m.1) (hna : ¬ lb (m.2.2 7 r) a) {r' : Nat} {w k v : Int32} (gr' : r' < 3) (h : isL m r' w k v) : isL (mTake m r a) r' w k (cT ((r' = r ∧ m.2.1 1 a = k ∧ m.2.1 2 a = w) ∧ lat m a v) (nI a) v) := by
  have h60 := hM.1
  have ga64 : a < 64 := by omega
  have hn := mTake_n m r a
  have hit := fun b => mHit_take (m := m) (r := r) ga64 r' w k b
  by_cases c : r' = r ∧ m.2.1 1 a = k ∧ m.2.1 2 a = w
  · obtain ⟨rfl, c1, c2⟩ := c
    have hita : mHit (mTake m r' a) r' w k a := (hit a).mpr (Or.inr ⟨rfl, rfl, c1, c2⟩)
    rcases h with ⟨e, hno⟩ | ⟨b, gb, e, hb, hall⟩
    · rw [cT_t ⟨⟨rfl, c1, c2⟩, by rw [e]; exact lat_neg (by decide)⟩]
      refine Or.inr ⟨a, by rw [hn]; exact ga, rfl, hita, fun a' q => Or.inl ?_⟩
      rcases (hit a').mp q with t | t
      · exact absurd t (hno a')
      · exact t.2.1
    · have hab : a ≠ b := fun x => hna (by rw [x]; exact hb.1)
      by_cases hl : latN m a b
      · rw [cT_t ⟨⟨rfl, c1, c2⟩, by rw [e]; exact (lat_nI (by omega)).mpr hl⟩]
        refine Or.inr ⟨a, by rw [hn]; exact ga, rfl, hita, fun a' q => ?_⟩
        rcases (hit a').mp q with t | t
        · refine Or.inr ((latN_take m r' a a a').mpr ?_)
          rcases hall a' t with rfl | t2
          · exact hl
          · exact latN_tr hl t2
        · exact Or.inl t.2.1
      · rw [cT_f (fun q => hl ((lat_nI (by omega)).mp (by rw [← e]; exact q.2)))]
        refine Or.inr ⟨b, by rw [hn]; exact gb, e, (hit b).mpr (Or.inl hb), fun a' q => ?_⟩
        rcases (hit a').mp q with t | t
        · rcases hall a' t with t2 | t2
          · exact Or.inl t2
          · exact Or.inr ((latN_take m r' a b a').mpr t2)
        · rw [t.2.1]
          rcases latN_tot hM ga gb hab with t2 | t2
          · exact absurd t2 hl
          · exact Or.inr ((latN_take m r' a b a).mpr t2)
  · rw [cT_f (fun q => c q.1)]
    refine isL_keep h (by rw [hn]; exact Nat.le_refl _) (fun b => ?_) (fun b d _ _ => latN_take m r a b d)
    rw [hit b]
    exact ⟨fun q => q.elim id (fun t => absurd ⟨t.1, t.2.2.1, t.2.2.2⟩ c), Or.inl⟩
/-! sums -/
theorem sum_same {m m' : TS} {r r' : Nat} {w : Int32} (hv : m'.2.1 3 = m.2.1 3) : ∀ i, (∀ b, b < i → (mHit m' r' w 3 b ↔ mHit m r w 3 b)) → mSumR m' r' w i = mSumR m r w i
  | 0, _ => rfl
  | i + 1, h => by
    have ih := sum_same (m := m) (m' := m') (r := r) (r' := r') (w := w) hv i (fun b hb => h b (by omega))
    show cT (mHit m' r' w 3 i) (mSumR m' r' w i + m'.2.1 3 i) (mSumR m' r' w i) = cT (mHit m r w 3 i) (mSumR m r w i + m.2.1 3 i) (mSumR m r w i)
    rw [ih, hv]
    exact cT_c (h i (Nat.lt_succ_self i)) (fun _ => rfl) (fun _ => rfl)
theorem sum_add {m m' : TS} {r a : Nat} {w : Int32} (hv : m'.2.1 3 = m.2.1 3) (ho : ∀ b, b ≠ a → (mHit m' r w 3 b ↔ mHit m r w 3 b)) (h1 : mHit m' r w 3 a) (h0 : ¬ mHit m r w 3 a) : ∀ i, a < i → mSumR m' r w i = mSumR m r w i + m.2.1 3 a
  | 0, h => absurd h (Nat.not_lt_zero _)
  | i + 1, h => by
    show cT (mHit m' r w 3 i) (mSumR m' r w i + m'.2.1 3 i) (mSumR m' r w i) = cT (mHit m r w 3 i) (mSumR m r w i + m.2.1 3 i) (mSumR m r w i) + m.2.1 3 a
    by_cases e : i = a
    · subst e
      rw [cT_t h1, cT_f h0, hv, sum_same (m := m) (m' := m') (r := r) (r' := r) (w := w) hv i (fun b hb => ho b (by omega))]
    · have ih := sum_add hv ho h1 h0 i (by omega)
      rw [ih, hv]
      by_cases c : mHit m r w 3 i
      · rw [cT_t ((ho i e).mpr c), cT_t c, Int32.add_assoc, Int32.add_comm (m.2.1 3 a), ← Int32.add_assoc]
      · rw [cT_f (fun q => c ((ho i e).mp q)), cT_f c]
end
section
/-! PLAIN LAW, 3: taking in and acting keep what ties the two tables -/
theorem XI_take {x m : TS} (hX : XI x m) (hM : MI m) {r a : Nat} (gr : r < 3) (ga : a < m.1) (hna : ¬ lb (m.2.2 7 r) a) : XI (xTake x r a) (mTake m r a) := by
  obtain ⟨⟨e0, e1, e2, e3, e4, e5, e7, e8⟩, c1, c2, c3, c4, c5, c5', c6⟩ := hX
  have h60 := hM.1
  have ga64 : a < 64 := by omega
  obtain ⟨w, gw, ew⟩ := hM.2.2.1 a
  obtain ⟨s1, s2, s3, s4⟩ := mTake_same m r a
  have sn := mTake_n m r a
  have sK := fun r' b => mTake_K (m := m) (r := r) ga64 r' b
  obtain ⟨y0, yI, yL, y7, y8⟩ := xSt_same x r a
  show XI (xRow (xSt (sL x 8 r (x.2.2 8 r ||| bitL a)) r a) r a) (mTake m r a)
  generalize xSt (sL x 8 r (x.2.2 8 r ||| bitL a)) r a = y at y0 yI yL y7 y8
  have k1 : y.2.1 1 = m.2.1 1 := (yI 1 (by decide)).trans e1
  have k2 : y.2.1 2 = m.2.1 2 := (yI 2 (by decide)).trans e2
  have k3 : y.2.1 3 = m.2.1 3 := (yI 3 (by decide)).trans e3
  have k4 : y.2.1 4 = m.2.1 4 := (yI 4 (by decide)).trans e4
  have k5 : y.2.1 5 = m.2.1 5 := (yI 5 (by decide)).trans e5
  have l6 : y.2.2 6 = x.2.2 6 := yL 6 (by decide)
  have l9 : y.2.2 9 = x.2.2 9 := yL 9 (by decide)
  have l10 : y.2.2 10 = x.2.2 10 := yL 10 (by decide)
  have l11 : y.2.2 11 = x.2.2 11 := yL 11 (by decide)
  have i12 : y.2.1 12 = x.2.1 12 := yI 12 (by decide)
  have i13 : y.2.1 13 = x.2.1 13 := yI 13 (by decide)
  have i14 : y.2.1 14 = x.2.1 14 := yI 14 (by decide)
  have hch := xRow_chg (y := y) (r := r) (a := a) (w := w) (by rw [k2]; exact ew) gw ga64 (by rw [k1]; exact hM.2.2.2.1 a ga)
  generalize xRow y r a = d at hch
  obtain ⟨⟨d0, dI, dL⟩, d9, d10, d11, d12, d13, d14⟩ := hch
  have m6 : d.2.2 6 = x.2.2 6 := (dL 6 (by decide)).trans l6
  rw [k1, l6, l9] at d9
  rw [k1, l10] at d10
  rw [k1, l6, l9, l11] at d11
  rw [k1, i12] at d12
  rw [k1, i13] at d13
  rw [k1, k3, i14] at d14
  have hlat : ∀ v, lat y a v ↔ lat m a v := by
    intro v
    show (v < 0 ∨ ((¬ y.2.1 4 a = y.2.1 4 v.toNatClampNeg ∧ y.2.1 4 v.toNatClampNeg < y.2.1 4 a) ∨ (y.2.1 4 a = y.2.1 4 v.toNatClampNeg ∧ y.2.1 5 v.toNatClampNeg < y.2.1 5 a))) ↔ _
    rw [k4, k5]
    exact Iff.rfl
  have hw : ∀ w', w' < 8 → (m.2.1 2 a = nI w' ↔ w' = w) := by
    intro w' gw'
    rw [ew]
    exact ⟨fun q => (nI_in_lt (by decide) gw gw' q).symm, fun q => by rw [q]⟩
  refine ⟨⟨?_, ?_, ?_, ?_, ?_, ?_, ?_, ?_⟩, fun a' b ha' => ?_, fun r' b gr' => ?_, fun r' w' b gr' gw' => ?_, fun r' w' b gr' gw' => ?_, fun r' w' gr' gw' => ?_, fun r' w' gr' gw' => ?_, fun r' w' gr' gw' => ?_⟩
  · rw [d0, y0, e0, sn]
  · rw [dI 1 (by decide), k1, s1 1 (by decide)]
  · rw [dI 2 (by decide), k2, s1 2 (by decide)]
  · rw [dI 3 (by decide), k3, s1 3 (by decide)]
  · rw [dI 4 (by decide), k4, s1 4 (by decide)]
  · rw [dI 5 (by decide), k5, s1 5 (by decide)]
  · rw [dI 7 (by decide)]
    funext r'
    rw [y7 r', s3 r', e7, e4]
  · rw [dL 8 (by decide)]
    funext r'
    rw [y8 r', s4 r', e8]
  · rw [sn] at ha'
    rw [m6, s1 1 (by decide), s1 2 (by decide), s2 6 (by decide)]
    exact c1 a' b ha'
  · rw [d9 r' b, m6, c2 r' b gr']
    constructor
    · rintro (⟨a', q1, q2⟩ | ⟨q0, q1, q2⟩)
      · exact ⟨a', (sK r' a').mpr (Or.inl q1), q2⟩
      · exact ⟨a, (sK r' a).mpr (Or.inr ⟨q0, rfl⟩), q2⟩
    · rintro ⟨a', q1, q2⟩
      rcases (sK r' a').mp q1 with t | t
      · exact Or.inl ⟨a', t, q2⟩
      · rw [t.2] at q2
        exact Or.inr ⟨t.1, ((c1 a b ga).mp q2).1, q2⟩
  · rw [d10 r' w' b gw', c3 r' w' b gr' gw', sK, s1 1 (by decide), s1 2 (by decide)]
    constructor
    · rintro (⟨q1, q2, q3⟩ | ⟨q1, q2, q3, q4⟩)
      · exact ⟨Or.inl q1, q2, q3⟩
      · rw [q4]; exact ⟨Or.inr ⟨q1, rfl⟩, q3, (hw w' gw').mpr q2⟩
    · rintro ⟨q1 | q1, q2, q3⟩
      · exact Or.inl ⟨q1, q2, q3⟩
      · rw [q1.2] at q2 q3
        exact Or.inr ⟨q1.1, (hw w' gw').mp q3, q2, q1.2⟩
  · rw [d11 r' w' b gw', c4 r' w' b gr' gw', sK, s1 1 (by decide), s1 2 (by decide), d9 r' b]
    constructor
    · rintro (⟨⟨q1, q2, q3, q4⟩, q5⟩ | ⟨q1, q2, q3, q4, q5⟩)
      · refine ⟨Or.inl q1, q2, q3, fun t => ?_⟩
        rcases t with t | t
        · exact q4 t
        · have h1 := (c1 a b ga).mp t.2.2
          exact q5 ⟨t.1, (hw w' gw').mp (by rw [← h1.2.2.1]; exact q3), t.2.1, t.2.2⟩
      · rw [q4]
        refine ⟨Or.inr ⟨q1, rfl⟩, q3, (hw w' gw').mpr q2, fun t => ?_⟩
        rcases t with t | t
        · rw [q4, ← q1] at q5; exact q5 t
        · rw [q3] at t; exact absurd t.2.1 (by decide)
    · rintro ⟨q1 | q1, q2, q3, q4⟩
      · exact Or.inl ⟨⟨q1, q2, q3, fun t => q4 (Or.inl t)⟩, fun t => q4 (Or.inr ⟨t.1, t.2.2.1, t.2.2.2⟩)⟩
      · refine Or.inr ⟨q1.1, (hw w' gw').mp (by rw [← q1.2]; exact q3), by rw [← q1.2]; exact q2, q1.2, fun t => q4 (Or.inl (by rw [q1.1]; exact t))⟩
  · have h := isL_take hM gr ga hna (k := 2) gr' (c5 r' w' gr' gw')
    rw [d12 r' w' gw']
    rw [cT_c (x' := nI a) (y' := x.2.1 12 (r' * 8 + w')) (q := (r' = r ∧ m.2.1 1 a = 2 ∧ m.2.1 2 a = nI w') ∧ lat m a (x.2.1 12 (r' * 8 + w'))) ?_ (fun _ => rfl) (fun _ => rfl)]
    · exact h
    · rw [hlat, hw w' gw']
      exact ⟨fun q => ⟨⟨q.1, q.2.2.1, q.2.1⟩, q.2.2.2⟩, fun q => ⟨q.1.1, q.1.2.2, q.1.2.1, q.2⟩⟩
  · have h := isL_take hM gr ga hna (k := 4) gr' (c5' r' w' gr' gw')
    rw [d13 r' w' gw']
    rw [cT_c (x' := nI a) (y' := x.2.1 13 (r' * 8 + w')) (q := (r' = r ∧ m.2.1 1 a = 4 ∧ m.2.1 2 a = nI w') ∧ lat m a (x.2.1 13 (r' * 8 + w'))) ?_ (fun _ => rfl) (fun _ => rfl)]
    · exact h
    · rw [hlat, hw w' gw']
      exact ⟨fun q => ⟨⟨q.1, q.2.2.1, q.2.1⟩, q.2.2.2⟩, fun q => ⟨q.1.1, q.1.2.2, q.1.2.1, q.2⟩⟩
  · rw [d14 r' w' gw', sn, c6 r' w' gr' gw']
    have hv : (mTake m r a).2.1 3 = m.2.1 3 := s1 3 (by decide)
    by_cases c : r' = r ∧ w' = w ∧ m.2.1 1 a = 3
    · rw [cT_t c]
      obtain ⟨rfl, rfl, k⟩ := c
      refine (sum_add hv (fun b hb => ?_) ?_ ?_ m.1 ga).symm
      · rw [mHit_take ga64]
        exact ⟨fun q => q.elim id (fun t => absurd t.2.1 hb), Or.inl⟩
      · rw [mHit_take ga64]
        exact Or.inr ⟨rfl, rfl, k, ew⟩
      · exact fun q => hna q.1
    · rw [cT_f c]
      refine (sum_same hv m.1 (fun b hb => ?_)).symm
      rw [mHit_take ga64]
      exact ⟨fun q => q.elim id (fun t => absurd ⟨t.1, (hw w' gw').mp t.2.2.2, t.2.2.1⟩ c), Or.inl⟩
/-! a new action, not yet known to anybody -/
def App (z : TS) (k w v t o : Int32) (c : Int64) : TS := sN (sL (sI (sI (sI (sI (sI z 1 z.1 k) 2 z.1 w) 3 z.1 v) 4 z.1 t) 5 z.1 o) 6 z.1 c)
def mApp (m : TS) (r k w : Nat) (v : Int32) : TS := App m (nI k) (nI w) v (m.2.1 8 r + 1) (nI r) (m.2.2 7 r)
theorem App_I {z : TS} {k w v t o : Int32} {c : Int64} (j : Nat) (hj : 6 ≤ j) : (App z k w v t o c).2.1 j = z.2.1 j := by
  unfold App
  rw [sN_I, sL_I, sI_k _ _ _ _ _ (by omega), sI_k _ _ _ _ _ (by omega), sI_k _ _ _ _ _ (by omega), sI_k _ _ _ _ _ (by omega), sI_k _ _ _ _ _ (by omega)]
theorem App_L {z : TS} {k w v t o : Int32} {c : Int64} (j : Nat) (hj : j ≠ 6) : (App z k w v t o c).2.2 j = z.2.2 j := by
  unfold App
  rw [sN_L, sL_k _ _ _ _ _ hj]
  rfl
theorem App_1 {z : TS} {k w v t o : Int32} {c : Int64} : (App z k w v t o c).2.1 1 = upd (z.2.1 1) z.1 k := rfl
theorem App_2 {z : TS} {k w v t o : Int32} {c : Int64} : (App z k w v t o c).2.1 2 = upd (z.2.1 2) z.1 w := rfl
theorem App_3 {z : TS} {k w v t o : Int32} {c : Int64} : (App z k w v t o c).2.1 3 = upd (z.2.1 3) z.1 v := rfl
theorem App_4 {z : TS} {k w v t o : Int32} {c : Int64} : (App z k w v t o c).2.1 4 = upd (z.2.1 4) z.1 t := rfl
theorem App_5 {z : TS} {k w v t o : Int32} {c : Int64} : (App z k w v t o c).2.1 5 = upd (z.2.1 5) z.1 o := rfl
theorem App_6 {z : TS} {k w v t o : Int32} {c : Int64} : (App z k w v t o c).2.2 6 = vp_updL (z.2.2 6) z.1 c := rfl
theorem App_n {z : TS} {k w v t o : Int32} {c : Int64} : (App z k w v t o c).1 = z.1 + 1 := rfl
theorem inc_toInt {x : Int32} (h0 : 0 ≤ x.toInt) (h1 : x.toInt ≤ 60) : (x + 1).toInt = x.toInt + 1 := by
  have hz : (0 : Int32).toInt = 0 := by decide
  obtain ⟨j, hj, rfl⟩ := nI_of (x := x) (by rw [Int32.lt_iff_toInt_lt]; omega)
  rw [nI_toInt hj] at h1
  rw [nI_1, nI_toInt (by omega), nI_toInt hj]
  omega
theorem MI_app {m : TS} (h : MI m) (hF : FI m) (gn : m.1 < 60) {r k w : Nat} {v : Int32} (gr : r < 3) (gk : k < 5) (gw : w < 8) (hv : k = 4 → v = -1 ∨ ∃ j, j < 8 ∧ v = nI j) : MI (mApp m r k w v) := by
  obtain ⟨h0, h1, h2, h3, h4, h5, h6, h7, h8, h9⟩ := h
  unfold mApp
  have hs := h6 r gr
  have ht := inc_toInt hs.1 (by omega)
  have ne : ∀ {b : Nat}, b < m.1 → b ≠ m.1 := fun q => Nat.ne_of_lt q
  refine ⟨by rw [App_n]; omega, fun r' b gr' hb => ?_, fun b => ?_, fun b hb => ?_, fun b hb => ?_, fun b hb => ?_, fun r' gr' => ?_, fun a b hab hb => ?_, fun a b ha => ?_, fun b hb => ?_⟩
  · rw [App_L 7 (by decide)] at hb
    rw [App_n]
    have := h1 r' b gr' hb
    omega
  · rw [App_2]
    by_cases e : b = m.1
    · subst e; rw [pk_us]; exact ⟨w, gw, rfl⟩
    · rw [pk_un e]; exact h2 b
  · rw [App_1]
    rw [App_n] at hb
    by_cases e : b = m.1
    · subst e; rw [pk_us]; exact ⟨k, gk, rfl⟩
    · rw [pk_un e]; exact h3 b (by omega)
  · rw [App_n] at hb
    rw [App_1, App_3]
    by_cases e : b = m.1
    · subst e
      rw [pk_us, pk_us]
      intro q
      exact hv ((nI_eq (a := k) (b := 4) (by omega) (by decide)).mp q)
    · rw [pk_un e, pk_un e]; exact h4 b (by omega)
  · rw [App_n] at hb
    rw [App_5, App_4]
    by_cases e : b = m.1
    · subst e
      rw [pk_us]
      refine ⟨r, gr, rfl, fun q => ?_⟩
      rw [App_L 7 (by decide)] at q
      exact absurd (h1 r _ gr q) (Nat.lt_irrefl _)
    · rw [pk_un e, pk_un e]
      obtain ⟨o, go, eo, ho⟩ := h5 b (by omega)
      refine ⟨o, go, eo, fun q => ?_⟩
      rw [App_L 7 (by decide)] at q
      rw [App_I 8 (by decide)]
      exact ho q
  · rw [App_I 8 (by decide), App_n]
    have := h6 r' gr'
    exact ⟨this.1, by omega⟩
  · rw [App_n] at hb
    rw [App_5, App_4]
    have ea : a ≠ m.1 := by omega
    rw [pk_un ea, pk_un ea]
    by_cases e : b = m.1
    · subst e
      rw [pk_us, pk_us]
      intro q
      have hk := hF a hab r gr q
      obtain ⟨o, go, eo, ho⟩ := h5 a hab
      have eor : o = r := nI_in_lt (by decide) go gr (eo.symm.trans q)
      subst eor
      have := ho hk
      omega
    · rw [pk_un e, pk_un e]; exact h7 a b hab (by omega)
  · rw [App_n] at ha
    rw [App_6]
    by_cases e : a = m.1
    · subst e; rw [pk_uLs]; exact h1 r b gr
    · rw [pk_uLn e]; exact h8 a b (by omega)
  · rw [App_n] at hb
    rw [App_4, App_n]
    by_cases e : b = m.1
    · subst e; rw [pk_us, ht]; omega
    · rw [pk_un e]; have := h9 b (by omega); omega
theorem xApp_App (x : TS) (r k w : Nat) (v : Int32) : xApp x r k w v = App x (nI k) (nI w) v (x.2.1 7 r + 1) (nI r) (if k = 1 then x.2.2 10 (r * 8 + w) else 0) := rfl
theorem XI_app {x m : TS} (hX : XI x m) (hM : MI m) {r k w : Nat} {v : Int32} (gr : r < 3) (gk : k < 5) (gw : w < 8) : XI (xApp x r k w v) (mApp m r k w v) := by
  obtain ⟨⟨e0, e1, e2, e3, e4, e5, e7, e8⟩, c1, c2, c3, c4, c5, c5', c6⟩ := hX
  have hK := hM.2.1
  have h8 := hM.2.2.2.2.2.2.2.2.1
  rw [xApp_App]
  unfold mApp
  have ne : ∀ {b : Nat}, b < m.1 → b ≠ m.1 := fun q => Nat.ne_of_lt q
  have l6 : ∀ a, a < m.1 → vp_updL (x.2.2 6) m.1 (if k = 1 then x.2.2 10 (r * 8 + w) else 0) a = x.2.2 6 a := fun a ha => pk_uLn (ne ha)
  have hit : ∀ r' w' k' b, r' < 3 → (mHit (App m (nI k) (nI w) v (m.2.1 8 r + 1) (nI r) (m.2.2 7 r)) r' w' k' b ↔ mHit m r' w' k' b) := by
    intro r' w' k' b gr'
    unfold mHit
    rw [App_L 7 (by decide), App_1, App_2]
    constructor
    · rintro ⟨q1, q2, q3⟩
      have hb := ne (hK r' b gr' q1)
      rw [pk_un hb] at q2 q3
      exact ⟨q1, q2, q3⟩
    · rintro ⟨q1, q2, q3⟩
      have hb := ne (hK r' b gr' q1)
      rw [pk_un hb, pk_un hb]
      exact ⟨q1, q2, q3⟩
  have ltN : ∀ a b, a < m.1 → b < m.1 → (latN (App m (nI k) (nI w) v (m.2.1 8 r + 1) (nI r) (m.2.2 7 r)) a b ↔ latN m a b) := by
    intro a b ha hb
    rw [latN_i, latN_i, App_4, App_5, pk_un (ne ha), pk_un (ne hb), pk_un (ne ha), pk_un (ne hb)]
  refine ⟨⟨?_, ?_, ?_, ?_, ?_, ?_, ?_, ?_⟩, fun a b ha => ?_, fun r' b gr' => ?_, fun r' w' b gr' gw' => ?_, fun r' w' b gr' gw' => ?_, fun r' w' gr' gw' => ?_, fun r' w' gr' gw' => ?_, fun r' w' gr' gw' => ?_⟩
  · rw [App_n, App_n, e0]
  · rw [App_1, App_1, e1, e0]
  · rw [App_2, App_2, e2, e0]
  · rw [App_3, App_3, e3, e0]
  · rw [App_4, App_4, e4, e0, e7]
  · rw [App_5, App_5, e5, e0]
  · rw [App_I 7 (by decide), App_I 8 (by decide), e7]
  · rw [App_L 8 (by decide), App_L 7 (by decide), e8]
  · rw [App_n] at ha
    rw [App_6, App_6, App_1, App_2, e0]
    by_cases e : a = m.1
    · subst e
      rw [pk_uLs, pk_uLs, pk_us, pk_us]
      by_cases ek : k = 1
      · subst ek
        rw [if_pos rfl, c3 r w b gr gw]
        constructor
        · rintro ⟨q1, q2, q3⟩
          have hb := ne (hK r b gr q1)
          rw [pk_un hb, pk_un hb]
          exact ⟨rfl, q2, q3, q1⟩
        · rintro ⟨-, q2, q3, q1⟩
          have hb := ne (hK r b gr q1)
          rw [pk_un hb] at q2 q3
          exact ⟨q1, q2, q3⟩
      · rw [if_neg ek]
        exact ⟨fun q => absurd q (lb_0 b), fun q => absurd ((nI_eq (a := k) (b := 1) (by omega) (by decide)).mp q.1) ek⟩
    · rw [pk_uLn e, pk_uLn e, pk_un e, pk_un e, c1 a b (by omega)]
      constructor
      · rintro ⟨q1, q2, q3, q4⟩
        have hb : b ≠ m.1 := by have := h8 a b (by omega) q4; omega
        rw [pk_un hb, pk_un hb]
        exact ⟨q1, q2, q3, q4⟩
      · rintro ⟨q1, q2, q3, q4⟩
        have hb : b ≠ m.1 := by have := h8 a b (by omega) q4; omega
        rw [pk_un hb] at q2 q3
        exact ⟨q1, q2, q3, q4⟩
  · rw [App_L 9 (by decide), App_L 7 (by decide), App_6, c2 r' b gr', e0]
    constructor
    · rintro ⟨a, q1, q2⟩
      exact ⟨a, q1, by rw [l6 a (hK r' a gr' q1)]; exact q2⟩
    · rintro ⟨a, q1, q2⟩
      rw [l6 a (hK r' a gr' q1)] at q2
      exact ⟨a, q1, q2⟩
  · rw [App_L 10 (by decide), App_L 7 (by decide), App_1, App_2, c3 r' w' b gr' gw']
    constructor
    · rintro ⟨q1, q2, q3⟩
      have hb := ne (hK r' b gr' q1)
      rw [pk_un hb, pk_un hb]
      exact ⟨q1, q2, q3⟩
    · rintro ⟨q1, q2, q3⟩
      have hb := ne (hK r' b gr' q1)
      rw [pk_un hb] at q2 q3
      exact ⟨q1, q2, q3⟩
  · rw [App_L 11 (by decide), App_L 9 (by decide), App_L 7 (by decide), App_1, App_2, c4 r' w' b gr' gw']
    constructor
    · rintro ⟨q1, q2, q3⟩
      have hb := ne (hK r' b gr' q1)
      rw [pk_un hb, pk_un hb]
      exact ⟨q1, q2, q3⟩
    · rintro ⟨q1, q2, q3⟩
      have hb := ne (hK r' b gr' q1)
      rw [pk_un hb] at q2 q3
      exact ⟨q1, q2, q3⟩
  · rw [App_I 12 (by decide)]
    exact isL_keep (c5 r' w' gr' gw') (by rw [App_n]; omega) (fun b => hit r' _ _ b gr') (fun a b ha hb => ltN a b (hK r' a gr' ha.1) (hK r' b gr' hb.1))
  · rw [App_I 13 (by decide)]
    exact isL_keep (c5' r' w' gr' gw') (by rw [App_n]; omega) (fun b => hit r' _ _ b gr') (fun a b ha hb => ltN a b (hK r' a gr' ha.1) (hK r' b gr' hb.1))
  · rw [App_I 14 (by decide), c6 r' w' gr' gw', App_n]
    have hnot : ¬ mHit (App m (nI k) (nI w) v (m.2.1 8 r + 1) (nI r) (m.2.2 7 r)) r' (nI w') 3 m.1 := fun q => absurd (hK r' m.1 gr' ((hit r' _ _ _ gr').mp q).1) (Nat.lt_irrefl _)
    have hval : ∀ i, i ≤ m.1 → mSumR (App m (nI k) (nI w) v (m.2.1 8 r + 1) (nI r) (m.2.2 7 r)) r' (nI w') i = mSumR m r' (nI w') i := by
      intro i
      induction i with
      | zero => intro _; rfl
      | succ i ih =>
        intro hi
        show cT (mHit (App m (nI k) (nI w) v (m.2.1 8 r + 1) (nI r) (m.2.2 7 r)) r' (nI w') 3 i) (mSumR (App m (nI k) (nI w) v (m.2.1 8 r + 1) (nI r) (m.2.2 7 r)) r' (nI w') i + (App m (nI k) (nI w) v (m.2.1 8 r + 1) (nI r) (m.2.2 7 r)).2.1 3 i) (mSumR (App m (nI k) (nI w) v (m.2.1 8 r + 1) (nI r) (m.2.2 7 r)) r' (nI w') i) = cT (mHit m r' (nI w') 3 i) (mSumR m r' (nI w') i + m.2.1 3 i) (mSumR m r' (nI w') i)
        rw [ih (by omega), App_3, pk_un (ne (show i < m.1 by omega))]
        exact cT_c (hit r' _ _ i gr') (fun _ => rfl) (fun _ => rfl)
    show _ = cT (mHit (App m (nI k) (nI w) v (m.2.1 8 r + 1) (nI r) (m.2.2 7 r)) r' (nI w') 3 m.1) (mSumR (App m (nI k) (nI w) v (m.2.1 8 r + 1) (nI r) (m.2.2 7 r)) r' (nI w') m.1 + (App m (nI k) (nI w) v (m.2.1 8 r + 1) (nI r) (m.2.2 7 r)).2.1 3 m.1) (mSumR (App m (nI k) (nI w) v (m.2.1 8 r + 1) (nI r) (m.2.2 7 r)) r' (nI w') m.1)
    rw [cT_f hnot, hval m.1 (Nat.le_refl _)]
end
section
/-! PLAIN LAW, 4: the tie holds at the start, through every action and every learning; and tied tables answer the same -/
/-- the two tables are tied -/
def Inv (x m : TS) : Prop := MI m ∧ XI x m ∧ FI m
theorem mAct_eq {m : TS} {r k w : Nat} {v : Int32} (h : m.2.1 8 r < m.2.1 8 r + 1) : mAct m r k w v = mTake (mApp m r k w v) r m.1 := by
  have e8 : (mApp m r k w v).2.1 8 = m.2.1 8 := App_I 8 (by decide)
  have e7 : (mApp m r k w v).2.2 7 = m.2.2 7 := App_L 7 (by decide)
  have e4 : (mApp m r k w v).2.1 4 m.1 = m.2.1 8 r + 1 := by
    show (App m (nI k) (nI w) v (m.2.1 8 r + 1) (nI r) (m.2.2 7 r)).2.1 4 m.1 = _
    rw [App_4, pk_us]
  unfold mTake mSt
  have hc : (sL (mApp m r k w v) 7 r ((mApp m r k w v).2.2 7 r ||| bitL m.1)).2.1 8 r < (sL (mApp m r k w v) 7 r ((mApp m r k w v).2.2 7 r ||| bitL m.1)).2.1 4 m.1 := by
    show (mApp m r k w v).2.1 8 r < (mApp m r k w v).2.1 4 m.1
    rw [e8, e4]; exact h
  rw [cT_t hc]
  refine Prod.ext rfl (Prod.ext (funext fun k' => funext fun j => ?_) (funext fun k' => funext fun j => ?_))
  · rw [sI_at, sL_I, e4]
    unfold mAct mApp App
    simp only [sN_I, sL_I, sI_at]
    by_cases h8 : k' = 8
    · subst h8; simp
    · by_cases h4 : k' = 4
      · subst h4; simp
      · simp [h8, h4]
  · show _ = (sL (mApp m r k w v) 7 r ((mApp m r k w v).2.2 7 r ||| bitL m.1)).2.2 k' j
    rw [sL_at, e7]
    unfold mAct mApp App
    simp only [sN_L, sI_L, sL_at]
theorem Inv_act {x m : TS} (h : Inv x m) (gn : m.1 < 60) {r k w : Nat} {v : Int32} (gr : r < 3) (gk : k < 5) (gw : w < 8) (hv : k = 4 → v = -1 ∨ ∃ j, j < 8 ∧ v = nI j) : Inv (xAct x r k w v) (mAct m r k w v) := by
  obtain ⟨hM, hX, hF⟩ := h
  have hs := hM.2.2.2.2.2.2.1 r gr
  have ht := inc_toInt hs.1 (by omega)
  have hlt : m.2.1 8 r < m.2.1 8 r + 1 := by rw [Int32.lt_iff_toInt_lt, ht]; omega
  have hM1 := MI_app hM hF gn (v := v) gr gk gw hv
  have hX1 := XI_app hX hM (v := v) gr gk gw
  have e0 : x.1 = m.1 := hX.1.1
  have hna : ¬ lb ((mApp m r k w v).2.2 7 r) m.1 := by
    show ¬ lb ((App m (nI k) (nI w) v (m.2.1 8 r + 1) (nI r) (m.2.2 7 r)).2.2 7 r) m.1
    rw [App_L 7 (by decide)]
    exact fun q => absurd (hM.2.1 r m.1 gr q) (Nat.lt_irrefl _)
  have gn1 : m.1 < (mApp m r k w v).1 := Nat.lt_succ_self _
  have ex : xAct x r k w v = xTake (xApp x r k w v) r m.1 := by unfold xAct; rw [e0]
  rw [mAct_eq hlt, ex]
  refine ⟨MI_take hM1 gr gn1, XI_take hX1 hM1 gr gn1 hna, ?_⟩
  intro a ha o go e
  rw [mTake_n] at ha
  have ha : a < m.1 + 1 := ha
  rw [(mTake_same _ r m.1).1 5 (by decide)] at e
  rw [mTake_K (by omega)]
  have e : (App m (nI k) (nI w) v (m.2.1 8 r + 1) (nI r) (m.2.2 7 r)).2.1 5 a = nI o := e
  rw [App_5] at e
  by_cases ea : a = m.1
  · subst ea
    rw [pk_us] at e
    exact Or.inr ⟨(nI_in_lt (by decide) gr go e).symm, rfl⟩
  · rw [pk_un ea] at e
    refine Or.inl ?_
    show lb ((App m (nI k) (nI w) v (m.2.1 8 r + 1) (nI r) (m.2.2 7 r)).2.2 7 o) a
    rw [App_L 7 (by decide)]
    exact hF a (by omega) o go e
theorem Inv_take {x m : TS} (h : Inv x m) {r a : Nat} (gr : r < 3) (ga : a < m.1) (hna : ¬ lb (m.2.2 7 r) a) : Inv (xTake x r a) (mTake m r a) := by
  have := h.1.1
  exact ⟨MI_take h.1 gr ga, XI_take h.2.1 h.1 gr ga hna, FI_take h.2.2 (by omega)⟩
/-- at the start -/
theorem Inv_0 {x : TS} (h : Ini x 24) : Inv x z00 := by
  obtain ⟨h1, h2, h3, h4⟩ := h
  have nb : ∀ (k r b : Nat), ¬ lb (z00.2.2 k r) b := fun k r b => lb_0 b
  have nx : ∀ (k r b : Nat), ¬ lb (x.2.2 k r) b := fun k r b => by rw [h4]; exact lb_0 b
  refine ⟨⟨Nat.zero_le _, fun r a _ q => absurd q (nb 7 r a), fun a => ⟨0, by decide, rfl⟩, fun a q => absurd q (Nat.not_lt_zero _), fun a q => absurd q (Nat.not_lt_zero _), fun a q => absurd q (Nat.not_lt_zero _), fun r _ => (show 0 ≤ (0 : Int32).toInt ∧ (0 : Int32).toInt ≤ ((0 : Nat) : Int) from ⟨by decide, by decide⟩), fun a b _ q => absurd q (Nat.not_lt_zero _), fun a b q => absurd q (Nat.not_lt_zero _), fun a q => absurd q (Nat.not_lt_zero _)⟩, ⟨⟨h1, ?_, ?_, ?_, ?_, ?_, ?_, ?_⟩, fun a b q => absurd q (Nat.not_lt_zero _), fun r b _ => ⟨fun q => absurd q (nx 9 r b), fun q => q.elim (fun a t => absurd t.1 (nb 7 r a))⟩, fun r w b _ _ => ⟨fun q => absurd q (nx 10 _ b), fun q => absurd q.1 (nb 7 r b)⟩, fun r w b _ _ => ⟨fun q => absurd q (nx 11 _ b), fun q => absurd q.1 (nb 7 r b)⟩, fun r w gr gw => Or.inl ⟨(h2 _ (by omega)).1, fun a q => nb 7 r a q.1⟩, fun r w gr gw => Or.inl ⟨(h2 _ (by omega)).2, fun a q => nb 7 r a q.1⟩, fun r w gr gw => by rw [h3 14 (by decide) (by decide)]; rfl⟩, fun a q => absurd q (Nat.not_lt_zero _)⟩
  · exact h3 1 (by decide) (by decide)
  · exact h3 2 (by decide) (by decide)
  · exact h3 3 (by decide) (by decide)
  · exact h3 4 (by decide) (by decide)
  · exact h3 5 (by decide) (by decide)
  · exact h3 7 (by decide) (by decide)
  · rw [h4]
/-- what the walks ask of the table -/
theorem Inv_n {x m : TS} (h : Inv x m) : x.1 ≤ 60 := by rw [h.2.1.1.1]; exact h.1.1
theorem ix_of {i : Nat} (h : i < 24) : ∃ r w, r < 3 ∧ w < 8 ∧ i = r * 8 + w := ⟨i / 8, i % 8, by omega, by omega, by omega⟩
theorem isL_b {m : TS} {r : Nat} {w k v : Int32} (h : isL m r w k v) (hn : m.1 ≤ 60) : v < 0 ∨ ∃ b, b < 60 ∧ v = nI b := by
  rcases h with ⟨e, -⟩ | ⟨b, gb, e, -⟩
  · exact Or.inl (by rw [e]; decide)
  · exact Or.inr ⟨b, by omega, e⟩
theorem Inv_w {x m : TS} (h : Inv x m) : WFw x := by
  obtain ⟨hM, ⟨⟨e0, e1, e2, e3, e4, e5, e7, e8⟩, c1, c2, c3, c4, c5, c5', c6⟩, hF⟩ := h
  refine ⟨fun a _ => by rw [e2]; exact hM.2.2.1 a, fun i hi => ?_, fun i hi => ?_⟩
  · obtain ⟨r, w, gr, gw, rfl⟩ := ix_of hi
    exact isL_b (c5 r w gr gw) hM.1
  · obtain ⟨r, w, gr, gw, rfl⟩ := ix_of hi
    exact isL_b (c5' r w gr gw) hM.1
theorem Inv_l {x m : TS} (h : Inv x m) : WFl x := by
  obtain ⟨hM, ⟨⟨e0, e1, e2, e3, e4, e5, e7, e8⟩, c1, c2, c3, c4, c5, c5', c6⟩, hF⟩ := h
  intro i b hi gb e
  obtain ⟨r, w, gr, gw, rfl⟩ := ix_of hi
  rw [e3]
  rcases c5' r w gr gw with ⟨q, -⟩ | ⟨b', gb', q, hb, -⟩
  · rw [q] at e
    exact absurd (show nI b < 0 by rw [← e]; decide) (nI_pos (by omega))
  · have hbb : b' = b := nI_in_lt (N := 60) (by decide) (by have := hM.1; omega) gb (q.symm.trans e)
    subst hbb
    rcases hM.2.2.2.2.1 b' gb' hb.2.1 with t | t
    · exact Or.inl (by rw [t]; decide)
    · exact Or.inr t
/-! answers -/
theorem th_same {x m : TS} (h : Inv x m) {a b : Nat} (ga : a < 3) (gb : b < 8) : xThB x a b ↔ mThB m a (nI b) := by
  obtain ⟨hM, ⟨⟨e0, e1, e2, e3, e4, e5, e7, e8⟩, c1, c2, c3, c4, c5, c5', c6⟩, hF⟩ := h
  have hcan : ∀ c, m.2.1 1 c = 0 → (lb (x.2.2 9 a) c ↔ mCanc m a c) := by
    intro c kc
    rw [c2 a c ga]
    constructor
    · rintro ⟨d, q1, q2⟩
      have hd := hM.2.1 a d ga q1
      have q3 := (c1 d c hd).mp q2
      exact ⟨d, hd, q1, q3.1, q3.2.2.1.symm, q3.2.2.2⟩
    · rintro ⟨d, hd, q1, q2, q3, q4⟩
      exact ⟨d, q1, (c1 d c hd).mpr ⟨q2, kc, q3.symm, q4⟩⟩
  unfold xThB
  rw [lb_ne]
  constructor
  · rintro ⟨c, q⟩
    obtain ⟨q1, q2, q3, q4⟩ := (c4 a b c ga gb).mp q
    exact ⟨c, hM.2.1 a c ga q1, q1, q2, q3, fun t => q4 ((hcan c q2).mpr t)⟩
  · rintro ⟨c, hc, q1, q2, q3, q4⟩
    exact ⟨c, (c4 a b c ga gb).mpr ⟨q1, q2, q3, fun t => q4 ((hcan c q2).mp t)⟩⟩
theorem xTh_same {x m : TS} (h : Inv x m) {a b : Nat} (ga : a < 3) (gb : b < 8) : xTh x a b = mTh m a b := bI_c (th_same h ga gb)
theorem name_same {x m : TS} (h : Inv x m) {a b : Nat} (ga : a < 3) (gb : b < 8) : xName x a b = mName m a b := by
  have e : x.2.1 12 (a * 8 + b) = mLast m a (nI b) 2 m.1 := isL_uni (h.2.1.2.2.2.2.2.1 a b ga gb) (isL_mLast h.1 ga _ _)
  unfold xName mName
  rw [e, h.2.1.1.2.2.2.1]
  exact cT_c (th_same h ga gb) (fun _ => rfl) (fun _ => rfl)
theorem count_same {x m : TS} (h : Inv x m) {a b : Nat} (ga : a < 3) (gb : b < 8) : xCount x a b = mCount m a b := by
  unfold xCount mCount
  rw [h.2.1.2.2.2.2.2.2.2 a b ga gb]
  exact cT_c (th_same h ga gb) (fun _ => rfl) (fun _ => rfl)
theorem link_same {x m : TS} (h : Inv x m) {a b : Nat} (ga : a < 3) (gb : b < 8) : xLink x a b = mLink m a b := by
  have hL := isL_mLast h.1 ga (nI b) 4
  have e : x.2.1 13 (a * 8 + b) = mLast m a (nI b) 4 m.1 := isL_uni (h.2.1.2.2.2.2.2.2.1 a b ga gb) hL
  have h60 := h.1.1
  unfold xLink mLink
  rw [e, h.2.1.1.2.2.2.1]
  refine cT_c (th_same h ga gb) (fun _ => ?_) (fun _ => rfl)
  rcases hL with ⟨q, -⟩ | ⟨j, gj, q, hj, -⟩
  · rw [q, cT_t (Or.inl (by decide)), cT_f (fun t => t.1 (by decide))]
  · have ec : (mLast m a (nI b) 4 m.1).toNatClampNeg = j := by rw [q]; exact nI_clamp (by omega)
    have hn : ¬ mLast m a (nI b) 4 m.1 < 0 := by rw [q]; exact nI_pos (by omega)
    rw [ec]
    rcases h.1.2.2.2.2.1 j gj hj.2.1 with t | ⟨w, gw, t⟩
    · rw [cT_t (Or.inr (by rw [t]; decide)), cT_f]
      rintro ⟨-, t2, -⟩
      exact rr_neg (by decide) (by rw [t]; decide) t2
    · have hnn : ¬ m.2.1 3 j < 0 := by rw [t]; exact nI_pos (by omega)
      have hcl : (m.2.1 3 j).toNatClampNeg = w := by rw [t]; exact nI_clamp (by omega)
      rw [cT_f (fun z => z.elim hn hnn), hcl, t]
      refine cT_c ?_ (fun _ => rfl) (fun _ => rfl)
      rw [th_same h ga gw]
      exact ⟨fun z => ⟨hn, rr_mk gw, z⟩, fun z => z.2.2⟩
theorem rows_same {x m : TS} (h : Inv x m) {a : Nat} (ga : a < 3) : ∀ k, k ≤ 8 → xRows x a k = mRows m a k
  | 0, _ => rfl
  | k + 1, hk => by
    show xRows x a k + xTh x a k = mRows m a k + mTh m a k
    rw [rows_same h ga k (by omega), xTh_same h ga (by omega)]
theorem sum8_same {x m : TS} (h : Inv x m) {a : Nat} (ga : a < 3) : ∀ k, k ≤ 8 → xSum x a k = mSum m a k
  | 0, _ => rfl
  | k + 1, hk => by
    show xSum x a k + xCount x a k = mSum m a k + mCount m a k
    rw [sum8_same h ga k (by omega), count_same h ga (by omega)]
theorem known_same {x m : TS} (h : Inv x m) (a : Nat) : ∀ k, xKnown x a k = mKnown m a k
  | 0 => rfl
  | k + 1 => by
    show xKnown x a k + bI (lb (x.2.2 8 a) k) = mKnown m a k + bI (lb (m.2.2 7 a) k)
    rw [known_same h a k, h.2.1.1.2.2.2.2.2.2.2]
theorem same_same {x m : TS} (h : Inv x m) {a b k : Nat} (ga : a < 3) (gb : b < 3) (gk : k < 8) : xSame x a b k ↔ mSame m a b k := by
  unfold xSame mSame
  rw [th_same h ga gk, th_same h gb gk, name_same h ga gk, name_same h gb gk, count_same h ga gk, count_same h gb gk, link_same h ga gk, link_same h gb gk]
theorem agree_same {x m : TS} (h : Inv x m) {a b : Nat} (ga : a < 3) (gb : b < 3) : xAgree x a b = mAgree m a b :=
  bI_c ⟨fun q k gk => (same_same h ga gb gk).mp (q k gk), fun q k gk => (same_same h ga gb gk).mpr (q k gk)⟩
/-! actions and learning -/
theorem act_same {x m u u' : TS} (h : Inv x m) {p q v r r' : Int32} {k : Nat} (gk : k < 5) (hx : actR p q k v (xThB x) (60 ≤ x.1) x.1 x (fun a b => xAct x a k b v) r u) (hm : actR p q k v (fun a b => mThB m a (nI b)) (m.1 = 60) m.1 m (fun a b => mAct m a k b v) r' u') : r = r' ∧ Inv u u' := by
  have e0 : x.1 = m.1 := h.2.1.1.1
  have h60 := h.1.1
  by_cases hp : rr 3 p
  · by_cases hq : rr 8 q
    · obtain ⟨a, ga, rfl⟩ := hp
      obtain ⟨b, gb, rfl⟩ := hq
      obtain ⟨x1, x2⟩ := hx.2.2 a b ga gb rfl rfl
      obtain ⟨m1, m2⟩ := hm.2.2 a b ga gb rfl rfl
      by_cases h4 : k = 4 ∧ ¬ v = -1 ∧ ¬ rr 8 v
      · obtain ⟨rfl, rfl⟩ := x1 h4
        obtain ⟨rfl, rfl⟩ := m1 h4
        exact ⟨rfl, h⟩
      · obtain ⟨x3, x4⟩ := x2 h4
        obtain ⟨m3, m4⟩ := m2 h4
        have ht := th_same h ga gb
        by_cases hok : k = 0 ∨ xThB x a b
        · obtain ⟨x5, x6⟩ := x4 hok
          obtain ⟨m5, m6⟩ := m4 (hok.elim Or.inl (fun t => Or.inr (ht.mp t)))
          by_cases hf : m.1 = 60
          · obtain ⟨rfl, rfl⟩ := x5 (by rw [e0, hf]; exact Nat.le_refl _)
            obtain ⟨rfl, rfl⟩ := m5 hf
            exact ⟨rfl, h⟩
          · obtain ⟨er, eu⟩ := x6 (fun t => hf (Nat.le_antisymm h60 (by rw [← e0]; exact t)))
            obtain ⟨er', eu'⟩ := m6 hf
            rw [er, er', eu, eu', e0]
            refine ⟨rfl, Inv_act h (Nat.lt_of_le_of_ne h60 hf) ga gk gb (fun hk => ?_)⟩
            by_cases hv : v = -1
            · exact Or.inl hv
            · exact Or.inr (Classical.byContradiction (fun t => h4 ⟨hk, hv, t⟩))
        · have hn : ¬ k = 0 ∧ ¬ xThB x a b := ⟨fun t => hok (Or.inl t), fun t => hok (Or.inr t)⟩
          obtain ⟨rfl, rfl⟩ := x3 hn
          obtain ⟨rfl, rfl⟩ := m3 ⟨hn.1, fun t => hn.2 (ht.mpr t)⟩
          exact ⟨rfl, h⟩
    · obtain ⟨rfl, rfl⟩ := hx.2.1 hp hq
      obtain ⟨rfl, rfl⟩ := hm.2.1 hp hq
      exact ⟨rfl, h⟩
  · obtain ⟨rfl, rfl⟩ := hx.1 hp
    obtain ⟨rfl, rfl⟩ := hm.1 hp
    exact ⟨rfl, h⟩
theorem mLr_stop (to fr : Nat) (lim : Int32) : ∀ (k i d : Nat) (z : TS), lim ≤ nI d → mLr to fr lim k i d z = (z, d)
  | 0, _, _, _, _ => rfl
  | k + 1, i, d, z, h => by
    show cT (nI d < lim ∧ lb (z.2.2 7 fr) i ∧ ¬ lb (z.2.2 7 to) i) (mLr to fr lim k (i + 1) (d + 1) (mTake z to i)) (mLr to fr lim k (i + 1) d z) = (z, d)
    rw [cT_f (fun q => i_nlt h q.1)]
    exact mLr_stop to fr lim k (i + 1) d z h
theorem lr_same {to fr : Nat} {lim : Int32} {fresh : Int64} (gt : to < 3) (hne : ¬ to = fr) : ∀ (k i d : Nat) (x m : TS), Inv x m → i + k = m.1 → (∀ j, i ≤ j → (lb fresh j ↔ lb (m.2.2 7 fr) j ∧ ¬ lb (m.2.2 7 to) j)) → (xLr to fresh lim k i d x).2 = (mLr to fr lim k i d m).2 ∧ Inv (xLr to fresh lim k i d x).1 (mLr to fr lim k i d m).1
  | 0, _, _, _, _, h, _, _ => ⟨rfl, h⟩
  | k + 1, i, d, x, m, h, hk, hf => by
    have hrx : xLr to fresh lim (k + 1) i d x = cT (lim ≤ nI d) (x, d) (cT (lb fresh i) (xLr to fresh lim k (i + 1) (d + 1) (xTake x to i)) (xLr to fresh lim k (i + 1) d x)) := rfl
    have hrm : mLr to fr lim (k + 1) i d m = cT (nI d < lim ∧ lb (m.2.2 7 fr) i ∧ ¬ lb (m.2.2 7 to) i) (mLr to fr lim k (i + 1) (d + 1) (mTake m to i)) (mLr to fr lim k (i + 1) d m) := rfl
    have h60 := h.1.1
    by_cases hl : lim ≤ nI d
    · rw [mLr_stop to fr lim (k + 1) i d m hl, hrx, cT_t hl]
      exact ⟨rfl, h⟩
    · rw [hrx, hrm, cT_f hl]
      by_cases hb : lb fresh i
      · have hb2 := (hf i (Nat.le_refl _)).mp hb
        rw [cT_t hb, cT_t ⟨i_lt hl, hb2.1, hb2.2⟩]
        refine lr_same gt hne k (i + 1) (d + 1) _ _ (Inv_take h gt (by omega) hb2.2) (by rw [mTake_n]; omega) (fun j hj => ?_)
        rw [hf j (by omega), mTake_K (by omega), mTake_K (by omega)]
        constructor
        · rintro ⟨q1, q2⟩
          exact ⟨Or.inl q1, fun t => t.elim q2 (fun s => by omega)⟩
        · rintro ⟨q1, q2⟩
          exact ⟨q1.elim id (fun s => absurd s.1.symm hne), fun t => q2 (Or.inl t)⟩
      · rw [cT_f hb, cT_f (fun q => hb ((hf i (Nat.le_refl _)).mpr q.2))]
        exact lr_same gt hne k (i + 1) d x m h (by omega) (fun j hj => hf j (by omega))
theorem lrn_same {x m u u' : TS} (h : Inv x m) {p q lim r r' : Int32} (hx : lrnR p q x (fun a b => xLr a (x.2.2 8 b &&& (x.2.2 8 a ^^^ (-1))) lim x.1 0 0 x) r u) (hm : lrnR p q m (fun a b => mLr a b lim m.1 0 0 m) r' u') : r = r' ∧ Inv u u' := by
  by_cases hv : rr 3 p ∧ rr 3 q
  · obtain ⟨⟨a, ga, rfl⟩, ⟨b, gb, rfl⟩⟩ := hv
    obtain ⟨x1, x2⟩ := hx.2 a b ga gb rfl rfl
    obtain ⟨m1, m2⟩ := hm.2 a b ga gb rfl rfl
    by_cases e : a = b
    · obtain ⟨rfl, rfl⟩ := x1 e
      obtain ⟨rfl, rfl⟩ := m1 e
      exact ⟨rfl, h⟩
    · obtain ⟨rfl, rfl⟩ := x2 e
      obtain ⟨rfl, rfl⟩ := m2 e
      have e0 : x.1 = m.1 := h.2.1.1.1
      have e8 : x.2.2 8 = m.2.2 7 := h.2.1.1.2.2.2.2.2.2.2
      have key := lr_same (lim := lim) (fresh := x.2.2 8 b &&& (x.2.2 8 a ^^^ (-1))) ga e m.1 0 0 x m h (Nat.zero_add _) (fun j _ => by rw [lb_andn, e8])
      rw [e0]
      exact ⟨by rw [key.1], key.2⟩
  · obtain ⟨rfl, rfl⟩ := hx.1 hv
    obtain ⟨rfl, rfl⟩ := hm.1 hv
    exact ⟨rfl, h⟩
end
section
/-! the law's own entry -/
set_option maxRecDepth 100000
abbrev cL_law : ByteArray := code
theorem dL_law_0 : decode cL_law 0 = .ok (.new 7, 3) := by decide +kernel
theorem dL_law_3 : decode cL_law 3 = .ok (.dup, 1) := by decide +kernel
theorem dL_law_4 : decode cL_law 4 = .ok (.invokespecial 9, 3) := by decide +kernel
theorem dL_law_7 : decode cL_law 7 = .ok (.astore_n 1, 1) := by decide +kernel
theorem dL_law_8 : decode cL_law 8 = .ok (.new 10, 3) := by decide +kernel
theorem dL_law_11 : decode cL_law 11 = .ok (.dup, 1) := by decide +kernel
theorem dL_law_12 : decode cL_law 12 = .ok (.invokespecial 12, 3) := by decide +kernel
theorem dL_law_15 : decode cL_law 15 = .ok (.astore_n 2, 1) := by decide +kernel
theorem dL_law_16 : decode cL_law 16 = .ok (.iconst 0, 1) := by decide +kernel
theorem dL_law_17 : decode cL_law 17 = .ok (.istore_n 3, 1) := by decide +kernel
theorem dL_law_18 : decode cL_law 18 = .ok (.iload_n 3, 1) := by decide +kernel
theorem dL_law_19 : decode cL_law 19 = .ok (.aload_n 0, 1) := by decide +kernel
theorem dL_law_20 : decode cL_law 20 = .ok (.arraylength, 1) := by decide +kernel
theorem dL_law_21 : decode cL_law 21 = .ok (.iconst 4, 1) := by decide +kernel
theorem dL_law_22 : decode cL_law 22 = .ok (.isub, 1) := by decide +kernel
theorem dL_law_23 : decode cL_law 23 = .ok (.if_icmp .gt 596, 3) := by decide +kernel
theorem dL_law_26 : decode cL_law 26 = .ok (.aload_n 0, 1) := by decide +kernel
theorem dL_law_27 : decode cL_law 27 = .ok (.iload_n 3, 1) := by decide +kernel
theorem dL_law_28 : decode cL_law 28 = .ok (.iaload, 1) := by decide +kernel
theorem dL_law_29 : decode cL_law 29 = .ok (.bipush 15, 2) := by decide +kernel
theorem dL_law_31 : decode cL_law 31 = .ok (.iand, 1) := by decide +kernel
theorem dL_law_32 : decode cL_law 32 = .ok (.tableswitch 581 0 14 #[76, 109, 142, 185, 228, 271, 304, 347, 380, 413, 446, 479, 502, 525, 548], 76) := by decide +kernel
theorem dL_law_108 : decode cL_law 108 = .ok (.aload_n 1, 1) := by decide +kernel
theorem dL_law_109 : decode cL_law 109 = .ok (.aload_n 0, 1) := by decide +kernel
theorem dL_law_110 : decode cL_law 110 = .ok (.iload_n 3, 1) := by decide +kernel
theorem dL_law_111 : decode cL_law 111 = .ok (.iconst 1, 1) := by decide +kernel
theorem dL_law_112 : decode cL_law 112 = .ok (.iadd, 1) := by decide +kernel
theorem dL_law_113 : decode cL_law 113 = .ok (.iaload, 1) := by decide +kernel
theorem dL_law_114 : decode cL_law 114 = .ok (.aload_n 0, 1) := by decide +kernel
theorem dL_law_115 : decode cL_law 115 = .ok (.iload_n 3, 1) := by decide +kernel
theorem dL_law_116 : decode cL_law 116 = .ok (.iconst 2, 1) := by decide +kernel
theorem dL_law_117 : decode cL_law 117 = .ok (.iadd, 1) := by decide +kernel
theorem dL_law_118 : decode cL_law 118 = .ok (.iaload, 1) := by decide +kernel
theorem dL_law_119 : decode cL_law 119 = .ok (.invokevirtual 13, 3) := by decide +kernel
theorem dL_law_122 : decode cL_law 122 = .ok (.aload_n 2, 1) := by decide +kernel
theorem dL_law_123 : decode cL_law 123 = .ok (.aload_n 0, 1) := by decide +kernel
theorem dL_law_124 : decode cL_law 124 = .ok (.iload_n 3, 1) := by decide +kernel
theorem dL_law_125 : decode cL_law 125 = .ok (.iconst 1, 1) := by decide +kernel
theorem dL_law_126 : decode cL_law 126 = .ok (.iadd, 1) := by decide +kernel
theorem dL_law_127 : decode cL_law 127 = .ok (.iaload, 1) := by decide +kernel
theorem dL_law_128 : decode cL_law 128 = .ok (.aload_n 0, 1) := by decide +kernel
theorem dL_law_129 : decode cL_law 129 = .ok (.iload_n 3, 1) := by decide +kernel
theorem dL_law_130 : decode cL_law 130 = .ok (.iconst 2, 1) := by decide +kernel
theorem dL_law_131 : decode cL_law 131 = .ok (.iadd, 1) := by decide +kernel
theorem dL_law_132 : decode cL_law 132 = .ok (.iaload, 1) := by decide +kernel
theorem dL_law_133 : decode cL_law 133 = .ok (.invokevirtual 17, 3) := by decide +kernel
theorem dL_law_136 : decode cL_law 136 = .ok (.if_icmp .eq 477, 3) := by decide +kernel
theorem dL_law_139 : decode cL_law 139 = .ok (.iconst 0, 1) := by decide +kernel
theorem dL_law_140 : decode cL_law 140 = .ok (.ireturn, 1) := by decide +kernel
theorem dL_law_141 : decode cL_law 141 = .ok (.aload_n 1, 1) := by decide +kernel
theorem dL_law_142 : decode cL_law 142 = .ok (.aload_n 0, 1) := by decide +kernel
theorem dL_law_143 : decode cL_law 143 = .ok (.iload_n 3, 1) := by decide +kernel
theorem dL_law_144 : decode cL_law 144 = .ok (.iconst 1, 1) := by decide +kernel
theorem dL_law_145 : decode cL_law 145 = .ok (.iadd, 1) := by decide +kernel
theorem dL_law_146 : decode cL_law 146 = .ok (.iaload, 1) := by decide +kernel
theorem dL_law_147 : decode cL_law 147 = .ok (.aload_n 0, 1) := by decide +kernel
theorem dL_law_148 : decode cL_law 148 = .ok (.iload_n 3, 1) := by decide +kernel
theorem dL_law_149 : decode cL_law 149 = .ok (.iconst 2, 1) := by decide +kernel
theorem dL_law_150 : decode cL_law 150 = .ok (.iadd, 1) := by decide +kernel
theorem dL_law_151 : decode cL_law 151 = .ok (.iaload, 1) := by decide +kernel
theorem dL_law_152 : decode cL_law 152 = .ok (.invokevirtual 18, 3) := by decide +kernel
theorem dL_law_155 : decode cL_law 155 = .ok (.aload_n 2, 1) := by decide +kernel
theorem dL_law_156 : decode cL_law 156 = .ok (.aload_n 0, 1) := by decide +kernel
theorem dL_law_157 : decode cL_law 157 = .ok (.iload_n 3, 1) := by decide +kernel
theorem dL_law_158 : decode cL_law 158 = .ok (.iconst 1, 1) := by decide +kernel
theorem dL_law_159 : decode cL_law 159 = .ok (.iadd, 1) := by decide +kernel
theorem dL_law_160 : decode cL_law 160 = .ok (.iaload, 1) := by decide +kernel
theorem dL_law_161 : decode cL_law 161 = .ok (.aload_n 0, 1) := by decide +kernel
theorem dL_law_162 : decode cL_law 162 = .ok (.iload_n 3, 1) := by decide +kernel
theorem dL_law_163 : decode cL_law 163 = .ok (.iconst 2, 1) := by decide +kernel
theorem dL_law_164 : decode cL_law 164 = .ok (.iadd, 1) := by decide +kernel
theorem dL_law_165 : decode cL_law 165 = .ok (.iaload, 1) := by decide +kernel
theorem dL_law_166 : decode cL_law 166 = .ok (.invokevirtual 21, 3) := by decide +kernel
theorem dL_law_169 : decode cL_law 169 = .ok (.if_icmp .eq 444, 3) := by decide +kernel
theorem dL_law_172 : decode cL_law 172 = .ok (.iconst 0, 1) := by decide +kernel
theorem dL_law_173 : decode cL_law 173 = .ok (.ireturn, 1) := by decide +kernel
theorem dL_law_174 : decode cL_law 174 = .ok (.aload_n 1, 1) := by decide +kernel
theorem dL_law_175 : decode cL_law 175 = .ok (.aload_n 0, 1) := by decide +kernel
theorem dL_law_176 : decode cL_law 176 = .ok (.iload_n 3, 1) := by decide +kernel
theorem dL_law_177 : decode cL_law 177 = .ok (.iconst 1, 1) := by decide +kernel
theorem dL_law_178 : decode cL_law 178 = .ok (.iadd, 1) := by decide +kernel
theorem dL_law_179 : decode cL_law 179 = .ok (.iaload, 1) := by decide +kernel
theorem dL_law_180 : decode cL_law 180 = .ok (.aload_n 0, 1) := by decide +kernel
theorem dL_law_181 : decode cL_law 181 = .ok (.iload_n 3, 1) := by decide +kernel
theorem dL_law_182 : decode cL_law 182 = .ok (.iconst 2, 1) := by decide +kernel
theorem dL_law_183 : decode cL_law 183 = .ok (.iadd, 1) := by decide +kernel
theorem dL_law_184 : decode cL_law 184 = .ok (.iaload, 1) := by decide +kernel
theorem dL_law_185 : decode cL_law 185 = .ok (.aload_n 0, 1) := by decide +kernel
theorem dL_law_186 : decode cL_law 186 = .ok (.iload_n 3, 1) := by decide +kernel
theorem dL_law_187 : decode cL_law 187 = .ok (.iconst 3, 1) := by decide +kernel
theorem dL_law_188 : decode cL_law 188 = .ok (.iadd, 1) := by decide +kernel
theorem dL_law_189 : decode cL_law 189 = .ok (.iaload, 1) := by decide +kernel
theorem dL_law_190 : decode cL_law 190 = .ok (.invokevirtual 22, 3) := by decide +kernel
theorem dL_law_193 : decode cL_law 193 = .ok (.aload_n 2, 1) := by decide +kernel
theorem dL_law_194 : decode cL_law 194 = .ok (.aload_n 0, 1) := by decide +kernel
theorem dL_law_195 : decode cL_law 195 = .ok (.iload_n 3, 1) := by decide +kernel
theorem dL_law_196 : decode cL_law 196 = .ok (.iconst 1, 1) := by decide +kernel
theorem dL_law_197 : decode cL_law 197 = .ok (.iadd, 1) := by decide +kernel
theorem dL_law_198 : decode cL_law 198 = .ok (.iaload, 1) := by decide +kernel
theorem dL_law_199 : decode cL_law 199 = .ok (.aload_n 0, 1) := by decide +kernel
theorem dL_law_200 : decode cL_law 200 = .ok (.iload_n 3, 1) := by decide +kernel
theorem dL_law_201 : decode cL_law 201 = .ok (.iconst 2, 1) := by decide +kernel
theorem dL_law_202 : decode cL_law 202 = .ok (.iadd, 1) := by decide +kernel
theorem dL_law_203 : decode cL_law 203 = .ok (.iaload, 1) := by decide +kernel
theorem dL_law_204 : decode cL_law 204 = .ok (.aload_n 0, 1) := by decide +kernel
theorem dL_law_205 : decode cL_law 205 = .ok (.iload_n 3, 1) := by decide +kernel
theorem dL_law_206 : decode cL_law 206 = .ok (.iconst 3, 1) := by decide +kernel
theorem dL_law_207 : decode cL_law 207 = .ok (.iadd, 1) := by decide +kernel
theorem dL_law_208 : decode cL_law 208 = .ok (.iaload, 1) := by decide +kernel
theorem dL_law_209 : decode cL_law 209 = .ok (.invokevirtual 26, 3) := by decide +kernel
theorem dL_law_212 : decode cL_law 212 = .ok (.if_icmp .eq 401, 3) := by decide +kernel
theorem dL_law_215 : decode cL_law 215 = .ok (.iconst 0, 1) := by decide +kernel
theorem dL_law_216 : decode cL_law 216 = .ok (.ireturn, 1) := by decide +kernel
theorem dL_law_217 : decode cL_law 217 = .ok (.aload_n 1, 1) := by decide +kernel
theorem dL_law_218 : decode cL_law 218 = .ok (.aload_n 0, 1) := by decide +kernel
theorem dL_law_219 : decode cL_law 219 = .ok (.iload_n 3, 1) := by decide +kernel
theorem dL_law_220 : decode cL_law 220 = .ok (.iconst 1, 1) := by decide +kernel
theorem dL_law_221 : decode cL_law 221 = .ok (.iadd, 1) := by decide +kernel
theorem dL_law_222 : decode cL_law 222 = .ok (.iaload, 1) := by decide +kernel
theorem dL_law_223 : decode cL_law 223 = .ok (.aload_n 0, 1) := by decide +kernel
theorem dL_law_224 : decode cL_law 224 = .ok (.iload_n 3, 1) := by decide +kernel
theorem dL_law_225 : decode cL_law 225 = .ok (.iconst 2, 1) := by decide +kernel
theorem dL_law_226 : decode cL_law 226 = .ok (.iadd, 1) := by decide +kernel
theorem dL_law_227 : decode cL_law 227 = .ok (.iaload, 1) := by decide +kernel
theorem dL_law_228 : decode cL_law 228 = .ok (.aload_n 0, 1) := by decide +kernel
theorem dL_law_229 : decode cL_law 229 = .ok (.iload_n 3, 1) := by decide +kernel
theorem dL_law_230 : decode cL_law 230 = .ok (.iconst 3, 1) := by decide +kernel
theorem dL_law_231 : decode cL_law 231 = .ok (.iadd, 1) := by decide +kernel
theorem dL_law_232 : decode cL_law 232 = .ok (.iaload, 1) := by decide +kernel
theorem dL_law_233 : decode cL_law 233 = .ok (.invokevirtual 27, 3) := by decide +kernel
theorem dL_law_236 : decode cL_law 236 = .ok (.aload_n 2, 1) := by decide +kernel
theorem dL_law_237 : decode cL_law 237 = .ok (.aload_n 0, 1) := by decide +kernel
theorem dL_law_238 : decode cL_law 238 = .ok (.iload_n 3, 1) := by decide +kernel
theorem dL_law_239 : decode cL_law 239 = .ok (.iconst 1, 1) := by decide +kernel
theorem dL_law_240 : decode cL_law 240 = .ok (.iadd, 1) := by decide +kernel
theorem dL_law_241 : decode cL_law 241 = .ok (.iaload, 1) := by decide +kernel
theorem dL_law_242 : decode cL_law 242 = .ok (.aload_n 0, 1) := by decide +kernel
theorem dL_law_243 : decode cL_law 243 = .ok (.iload_n 3, 1) := by decide +kernel
theorem dL_law_244 : decode cL_law 244 = .ok (.iconst 2, 1) := by decide +kernel
theorem dL_law_245 : decode cL_law 245 = .ok (.iadd, 1) := by decide +kernel
theorem dL_law_246 : decode cL_law 246 = .ok (.iaload, 1) := by decide +kernel
theorem dL_law_247 : decode cL_law 247 = .ok (.aload_n 0, 1) := by decide +kernel
theorem dL_law_248 : decode cL_law 248 = .ok (.iload_n 3, 1) := by decide +kernel
theorem dL_law_249 : decode cL_law 249 = .ok (.iconst 3, 1) := by decide +kernel
theorem dL_law_250 : decode cL_law 250 = .ok (.iadd, 1) := by decide +kernel
theorem dL_law_251 : decode cL_law 251 = .ok (.iaload, 1) := by decide +kernel
theorem dL_law_252 : decode cL_law 252 = .ok (.invokevirtual 30, 3) := by decide +kernel
theorem dL_law_255 : decode cL_law 255 = .ok (.if_icmp .eq 358, 3) := by decide +kernel
theorem dL_law_258 : decode cL_law 258 = .ok (.iconst 0, 1) := by decide +kernel
theorem dL_law_259 : decode cL_law 259 = .ok (.ireturn, 1) := by decide +kernel
end
section
set_option maxRecDepth 100000
theorem dL_law_260 : decode cL_law 260 = .ok (.aload_n 1, 1) := by decide +kernel
theorem dL_law_261 : decode cL_law 261 = .ok (.aload_n 0, 1) := by decide +kernel
theorem dL_law_262 : decode cL_law 262 = .ok (.iload_n 3, 1) := by decide +kernel
theorem dL_law_263 : decode cL_law 263 = .ok (.iconst 1, 1) := by decide +kernel
theorem dL_law_264 : decode cL_law 264 = .ok (.iadd, 1) := by decide +kernel
theorem dL_law_265 : decode cL_law 265 = .ok (.iaload, 1) := by decide +kernel
theorem dL_law_266 : decode cL_law 266 = .ok (.aload_n 0, 1) := by decide +kernel
theorem dL_law_267 : decode cL_law 267 = .ok (.iload_n 3, 1) := by decide +kernel
theorem dL_law_268 : decode cL_law 268 = .ok (.iconst 2, 1) := by decide +kernel
theorem dL_law_269 : decode cL_law 269 = .ok (.iadd, 1) := by decide +kernel
theorem dL_law_270 : decode cL_law 270 = .ok (.iaload, 1) := by decide +kernel
theorem dL_law_271 : decode cL_law 271 = .ok (.aload_n 0, 1) := by decide +kernel
theorem dL_law_272 : decode cL_law 272 = .ok (.iload_n 3, 1) := by decide +kernel
theorem dL_law_273 : decode cL_law 273 = .ok (.iconst 3, 1) := by decide +kernel
theorem dL_law_274 : decode cL_law 274 = .ok (.iadd, 1) := by decide +kernel
theorem dL_law_275 : decode cL_law 275 = .ok (.iaload, 1) := by decide +kernel
theorem dL_law_276 : decode cL_law 276 = .ok (.invokevirtual 31, 3) := by decide +kernel
theorem dL_law_279 : decode cL_law 279 = .ok (.aload_n 2, 1) := by decide +kernel
theorem dL_law_280 : decode cL_law 280 = .ok (.aload_n 0, 1) := by decide +kernel
theorem dL_law_281 : decode cL_law 281 = .ok (.iload_n 3, 1) := by decide +kernel
theorem dL_law_282 : decode cL_law 282 = .ok (.iconst 1, 1) := by decide +kernel
theorem dL_law_283 : decode cL_law 283 = .ok (.iadd, 1) := by decide +kernel
theorem dL_law_284 : decode cL_law 284 = .ok (.iaload, 1) := by decide +kernel
theorem dL_law_285 : decode cL_law 285 = .ok (.aload_n 0, 1) := by decide +kernel
theorem dL_law_286 : decode cL_law 286 = .ok (.iload_n 3, 1) := by decide +kernel
theorem dL_law_287 : decode cL_law 287 = .ok (.iconst 2, 1) := by decide +kernel
theorem dL_law_288 : decode cL_law 288 = .ok (.iadd, 1) := by decide +kernel
theorem dL_law_289 : decode cL_law 289 = .ok (.iaload, 1) := by decide +kernel
theorem dL_law_290 : decode cL_law 290 = .ok (.aload_n 0, 1) := by decide +kernel
theorem dL_law_291 : decode cL_law 291 = .ok (.iload_n 3, 1) := by decide +kernel
theorem dL_law_292 : decode cL_law 292 = .ok (.iconst 3, 1) := by decide +kernel
theorem dL_law_293 : decode cL_law 293 = .ok (.iadd, 1) := by decide +kernel
theorem dL_law_294 : decode cL_law 294 = .ok (.iaload, 1) := by decide +kernel
theorem dL_law_295 : decode cL_law 295 = .ok (.invokevirtual 34, 3) := by decide +kernel
theorem dL_law_298 : decode cL_law 298 = .ok (.if_icmp .eq 315, 3) := by decide +kernel
theorem dL_law_301 : decode cL_law 301 = .ok (.iconst 0, 1) := by decide +kernel
theorem dL_law_302 : decode cL_law 302 = .ok (.ireturn, 1) := by decide +kernel
theorem dL_law_303 : decode cL_law 303 = .ok (.aload_n 1, 1) := by decide +kernel
theorem dL_law_304 : decode cL_law 304 = .ok (.aload_n 0, 1) := by decide +kernel
theorem dL_law_305 : decode cL_law 305 = .ok (.iload_n 3, 1) := by decide +kernel
theorem dL_law_306 : decode cL_law 306 = .ok (.iconst 1, 1) := by decide +kernel
theorem dL_law_307 : decode cL_law 307 = .ok (.iadd, 1) := by decide +kernel
theorem dL_law_308 : decode cL_law 308 = .ok (.iaload, 1) := by decide +kernel
theorem dL_law_309 : decode cL_law 309 = .ok (.aload_n 0, 1) := by decide +kernel
theorem dL_law_310 : decode cL_law 310 = .ok (.iload_n 3, 1) := by decide +kernel
theorem dL_law_311 : decode cL_law 311 = .ok (.iconst 2, 1) := by decide +kernel
theorem dL_law_312 : decode cL_law 312 = .ok (.iadd, 1) := by decide +kernel
theorem dL_law_313 : decode cL_law 313 = .ok (.iaload, 1) := by decide +kernel
theorem dL_law_314 : decode cL_law 314 = .ok (.invokevirtual 35, 3) := by decide +kernel
theorem dL_law_317 : decode cL_law 317 = .ok (.aload_n 2, 1) := by decide +kernel
theorem dL_law_318 : decode cL_law 318 = .ok (.aload_n 0, 1) := by decide +kernel
theorem dL_law_319 : decode cL_law 319 = .ok (.iload_n 3, 1) := by decide +kernel
theorem dL_law_320 : decode cL_law 320 = .ok (.iconst 1, 1) := by decide +kernel
theorem dL_law_321 : decode cL_law 321 = .ok (.iadd, 1) := by decide +kernel
theorem dL_law_322 : decode cL_law 322 = .ok (.iaload, 1) := by decide +kernel
theorem dL_law_323 : decode cL_law 323 = .ok (.aload_n 0, 1) := by decide +kernel
theorem dL_law_324 : decode cL_law 324 = .ok (.iload_n 3, 1) := by decide +kernel
theorem dL_law_325 : decode cL_law 325 = .ok (.iconst 2, 1) := by decide +kernel
theorem dL_law_326 : decode cL_law 326 = .ok (.iadd, 1) := by decide +kernel
theorem dL_law_327 : decode cL_law 327 = .ok (.iaload, 1) := by decide +kernel
theorem dL_law_328 : decode cL_law 328 = .ok (.invokevirtual 38, 3) := by decide +kernel
theorem dL_law_331 : decode cL_law 331 = .ok (.if_icmp .eq 282, 3) := by decide +kernel
theorem dL_law_334 : decode cL_law 334 = .ok (.iconst 0, 1) := by decide +kernel
theorem dL_law_335 : decode cL_law 335 = .ok (.ireturn, 1) := by decide +kernel
theorem dL_law_336 : decode cL_law 336 = .ok (.aload_n 1, 1) := by decide +kernel
theorem dL_law_337 : decode cL_law 337 = .ok (.aload_n 0, 1) := by decide +kernel
theorem dL_law_338 : decode cL_law 338 = .ok (.iload_n 3, 1) := by decide +kernel
theorem dL_law_339 : decode cL_law 339 = .ok (.iconst 1, 1) := by decide +kernel
theorem dL_law_340 : decode cL_law 340 = .ok (.iadd, 1) := by decide +kernel
theorem dL_law_341 : decode cL_law 341 = .ok (.iaload, 1) := by decide +kernel
theorem dL_law_342 : decode cL_law 342 = .ok (.aload_n 0, 1) := by decide +kernel
theorem dL_law_343 : decode cL_law 343 = .ok (.iload_n 3, 1) := by decide +kernel
theorem dL_law_344 : decode cL_law 344 = .ok (.iconst 2, 1) := by decide +kernel
theorem dL_law_345 : decode cL_law 345 = .ok (.iadd, 1) := by decide +kernel
theorem dL_law_346 : decode cL_law 346 = .ok (.iaload, 1) := by decide +kernel
theorem dL_law_347 : decode cL_law 347 = .ok (.aload_n 0, 1) := by decide +kernel
theorem dL_law_348 : decode cL_law 348 = .ok (.iload_n 3, 1) := by decide +kernel
theorem dL_law_349 : decode cL_law 349 = .ok (.iconst 3, 1) := by decide +kernel
theorem dL_law_350 : decode cL_law 350 = .ok (.iadd, 1) := by decide +kernel
theorem dL_law_351 : decode cL_law 351 = .ok (.iaload, 1) := by decide +kernel
theorem dL_law_352 : decode cL_law 352 = .ok (.invokevirtual 39, 3) := by decide +kernel
theorem dL_law_355 : decode cL_law 355 = .ok (.aload_n 2, 1) := by decide +kernel
theorem dL_law_356 : decode cL_law 356 = .ok (.aload_n 0, 1) := by decide +kernel
theorem dL_law_357 : decode cL_law 357 = .ok (.iload_n 3, 1) := by decide +kernel
theorem dL_law_358 : decode cL_law 358 = .ok (.iconst 1, 1) := by decide +kernel
theorem dL_law_359 : decode cL_law 359 = .ok (.iadd, 1) := by decide +kernel
theorem dL_law_360 : decode cL_law 360 = .ok (.iaload, 1) := by decide +kernel
theorem dL_law_361 : decode cL_law 361 = .ok (.aload_n 0, 1) := by decide +kernel
theorem dL_law_362 : decode cL_law 362 = .ok (.iload_n 3, 1) := by decide +kernel
theorem dL_law_363 : decode cL_law 363 = .ok (.iconst 2, 1) := by decide +kernel
theorem dL_law_364 : decode cL_law 364 = .ok (.iadd, 1) := by decide +kernel
theorem dL_law_365 : decode cL_law 365 = .ok (.iaload, 1) := by decide +kernel
theorem dL_law_366 : decode cL_law 366 = .ok (.aload_n 0, 1) := by decide +kernel
theorem dL_law_367 : decode cL_law 367 = .ok (.iload_n 3, 1) := by decide +kernel
theorem dL_law_368 : decode cL_law 368 = .ok (.iconst 3, 1) := by decide +kernel
theorem dL_law_369 : decode cL_law 369 = .ok (.iadd, 1) := by decide +kernel
theorem dL_law_370 : decode cL_law 370 = .ok (.iaload, 1) := by decide +kernel
theorem dL_law_371 : decode cL_law 371 = .ok (.invokevirtual 42, 3) := by decide +kernel
theorem dL_law_374 : decode cL_law 374 = .ok (.if_icmp .eq 239, 3) := by decide +kernel
theorem dL_law_377 : decode cL_law 377 = .ok (.iconst 0, 1) := by decide +kernel
theorem dL_law_378 : decode cL_law 378 = .ok (.ireturn, 1) := by decide +kernel
theorem dL_law_379 : decode cL_law 379 = .ok (.aload_n 1, 1) := by decide +kernel
theorem dL_law_380 : decode cL_law 380 = .ok (.aload_n 0, 1) := by decide +kernel
theorem dL_law_381 : decode cL_law 381 = .ok (.iload_n 3, 1) := by decide +kernel
theorem dL_law_382 : decode cL_law 382 = .ok (.iconst 1, 1) := by decide +kernel
theorem dL_law_383 : decode cL_law 383 = .ok (.iadd, 1) := by decide +kernel
theorem dL_law_384 : decode cL_law 384 = .ok (.iaload, 1) := by decide +kernel
theorem dL_law_385 : decode cL_law 385 = .ok (.aload_n 0, 1) := by decide +kernel
theorem dL_law_386 : decode cL_law 386 = .ok (.iload_n 3, 1) := by decide +kernel
theorem dL_law_387 : decode cL_law 387 = .ok (.iconst 2, 1) := by decide +kernel
theorem dL_law_388 : decode cL_law 388 = .ok (.iadd, 1) := by decide +kernel
theorem dL_law_389 : decode cL_law 389 = .ok (.iaload, 1) := by decide +kernel
theorem dL_law_390 : decode cL_law 390 = .ok (.invokevirtual 43, 3) := by decide +kernel
theorem dL_law_393 : decode cL_law 393 = .ok (.aload_n 2, 1) := by decide +kernel
theorem dL_law_394 : decode cL_law 394 = .ok (.aload_n 0, 1) := by decide +kernel
theorem dL_law_395 : decode cL_law 395 = .ok (.iload_n 3, 1) := by decide +kernel
theorem dL_law_396 : decode cL_law 396 = .ok (.iconst 1, 1) := by decide +kernel
theorem dL_law_397 : decode cL_law 397 = .ok (.iadd, 1) := by decide +kernel
theorem dL_law_398 : decode cL_law 398 = .ok (.iaload, 1) := by decide +kernel
theorem dL_law_399 : decode cL_law 399 = .ok (.aload_n 0, 1) := by decide +kernel
theorem dL_law_400 : decode cL_law 400 = .ok (.iload_n 3, 1) := by decide +kernel
theorem dL_law_401 : decode cL_law 401 = .ok (.iconst 2, 1) := by decide +kernel
theorem dL_law_402 : decode cL_law 402 = .ok (.iadd, 1) := by decide +kernel
theorem dL_law_403 : decode cL_law 403 = .ok (.iaload, 1) := by decide +kernel
theorem dL_law_404 : decode cL_law 404 = .ok (.invokevirtual 47, 3) := by decide +kernel
theorem dL_law_407 : decode cL_law 407 = .ok (.if_icmp .eq 206, 3) := by decide +kernel
theorem dL_law_410 : decode cL_law 410 = .ok (.iconst 0, 1) := by decide +kernel
theorem dL_law_411 : decode cL_law 411 = .ok (.ireturn, 1) := by decide +kernel
theorem dL_law_412 : decode cL_law 412 = .ok (.aload_n 1, 1) := by decide +kernel
theorem dL_law_413 : decode cL_law 413 = .ok (.aload_n 0, 1) := by decide +kernel
theorem dL_law_414 : decode cL_law 414 = .ok (.iload_n 3, 1) := by decide +kernel
theorem dL_law_415 : decode cL_law 415 = .ok (.iconst 1, 1) := by decide +kernel
theorem dL_law_416 : decode cL_law 416 = .ok (.iadd, 1) := by decide +kernel
theorem dL_law_417 : decode cL_law 417 = .ok (.iaload, 1) := by decide +kernel
theorem dL_law_418 : decode cL_law 418 = .ok (.aload_n 0, 1) := by decide +kernel
theorem dL_law_419 : decode cL_law 419 = .ok (.iload_n 3, 1) := by decide +kernel
theorem dL_law_420 : decode cL_law 420 = .ok (.iconst 2, 1) := by decide +kernel
theorem dL_law_421 : decode cL_law 421 = .ok (.iadd, 1) := by decide +kernel
theorem dL_law_422 : decode cL_law 422 = .ok (.iaload, 1) := by decide +kernel
theorem dL_law_423 : decode cL_law 423 = .ok (.invokevirtual 48, 3) := by decide +kernel
theorem dL_law_426 : decode cL_law 426 = .ok (.aload_n 2, 1) := by decide +kernel
theorem dL_law_427 : decode cL_law 427 = .ok (.aload_n 0, 1) := by decide +kernel
theorem dL_law_428 : decode cL_law 428 = .ok (.iload_n 3, 1) := by decide +kernel
theorem dL_law_429 : decode cL_law 429 = .ok (.iconst 1, 1) := by decide +kernel
theorem dL_law_430 : decode cL_law 430 = .ok (.iadd, 1) := by decide +kernel
theorem dL_law_431 : decode cL_law 431 = .ok (.iaload, 1) := by decide +kernel
theorem dL_law_432 : decode cL_law 432 = .ok (.aload_n 0, 1) := by decide +kernel
theorem dL_law_433 : decode cL_law 433 = .ok (.iload_n 3, 1) := by decide +kernel
theorem dL_law_434 : decode cL_law 434 = .ok (.iconst 2, 1) := by decide +kernel
theorem dL_law_435 : decode cL_law 435 = .ok (.iadd, 1) := by decide +kernel
end
section
set_option maxRecDepth 100000
theorem dL_law_436 : decode cL_law 436 = .ok (.iaload, 1) := by decide +kernel
theorem dL_law_437 : decode cL_law 437 = .ok (.invokevirtual 51, 3) := by decide +kernel
theorem dL_law_440 : decode cL_law 440 = .ok (.if_icmp .eq 173, 3) := by decide +kernel
theorem dL_law_443 : decode cL_law 443 = .ok (.iconst 0, 1) := by decide +kernel
theorem dL_law_444 : decode cL_law 444 = .ok (.ireturn, 1) := by decide +kernel
theorem dL_law_445 : decode cL_law 445 = .ok (.aload_n 1, 1) := by decide +kernel
theorem dL_law_446 : decode cL_law 446 = .ok (.aload_n 0, 1) := by decide +kernel
theorem dL_law_447 : decode cL_law 447 = .ok (.iload_n 3, 1) := by decide +kernel
theorem dL_law_448 : decode cL_law 448 = .ok (.iconst 1, 1) := by decide +kernel
theorem dL_law_449 : decode cL_law 449 = .ok (.iadd, 1) := by decide +kernel
theorem dL_law_450 : decode cL_law 450 = .ok (.iaload, 1) := by decide +kernel
theorem dL_law_451 : decode cL_law 451 = .ok (.aload_n 0, 1) := by decide +kernel
theorem dL_law_452 : decode cL_law 452 = .ok (.iload_n 3, 1) := by decide +kernel
theorem dL_law_453 : decode cL_law 453 = .ok (.iconst 2, 1) := by decide +kernel
theorem dL_law_454 : decode cL_law 454 = .ok (.iadd, 1) := by decide +kernel
theorem dL_law_455 : decode cL_law 455 = .ok (.iaload, 1) := by decide +kernel
theorem dL_law_456 : decode cL_law 456 = .ok (.invokevirtual 52, 3) := by decide +kernel
theorem dL_law_459 : decode cL_law 459 = .ok (.aload_n 2, 1) := by decide +kernel
theorem dL_law_460 : decode cL_law 460 = .ok (.aload_n 0, 1) := by decide +kernel
theorem dL_law_461 : decode cL_law 461 = .ok (.iload_n 3, 1) := by decide +kernel
theorem dL_law_462 : decode cL_law 462 = .ok (.iconst 1, 1) := by decide +kernel
theorem dL_law_463 : decode cL_law 463 = .ok (.iadd, 1) := by decide +kernel
theorem dL_law_464 : decode cL_law 464 = .ok (.iaload, 1) := by decide +kernel
theorem dL_law_465 : decode cL_law 465 = .ok (.aload_n 0, 1) := by decide +kernel
theorem dL_law_466 : decode cL_law 466 = .ok (.iload_n 3, 1) := by decide +kernel
theorem dL_law_467 : decode cL_law 467 = .ok (.iconst 2, 1) := by decide +kernel
theorem dL_law_468 : decode cL_law 468 = .ok (.iadd, 1) := by decide +kernel
theorem dL_law_469 : decode cL_law 469 = .ok (.iaload, 1) := by decide +kernel
theorem dL_law_470 : decode cL_law 470 = .ok (.invokevirtual 55, 3) := by decide +kernel
theorem dL_law_473 : decode cL_law 473 = .ok (.if_icmp .eq 140, 3) := by decide +kernel
theorem dL_law_476 : decode cL_law 476 = .ok (.iconst 0, 1) := by decide +kernel
theorem dL_law_477 : decode cL_law 477 = .ok (.ireturn, 1) := by decide +kernel
theorem dL_law_478 : decode cL_law 478 = .ok (.aload_n 1, 1) := by decide +kernel
theorem dL_law_479 : decode cL_law 479 = .ok (.aload_n 0, 1) := by decide +kernel
theorem dL_law_480 : decode cL_law 480 = .ok (.iload_n 3, 1) := by decide +kernel
theorem dL_law_481 : decode cL_law 481 = .ok (.iconst 1, 1) := by decide +kernel
theorem dL_law_482 : decode cL_law 482 = .ok (.iadd, 1) := by decide +kernel
theorem dL_law_483 : decode cL_law 483 = .ok (.iaload, 1) := by decide +kernel
theorem dL_law_484 : decode cL_law 484 = .ok (.aload_n 0, 1) := by decide +kernel
theorem dL_law_485 : decode cL_law 485 = .ok (.iload_n 3, 1) := by decide +kernel
theorem dL_law_486 : decode cL_law 486 = .ok (.iconst 2, 1) := by decide +kernel
theorem dL_law_487 : decode cL_law 487 = .ok (.iadd, 1) := by decide +kernel
theorem dL_law_488 : decode cL_law 488 = .ok (.iaload, 1) := by decide +kernel
theorem dL_law_489 : decode cL_law 489 = .ok (.invokevirtual 56, 3) := by decide +kernel
theorem dL_law_492 : decode cL_law 492 = .ok (.aload_n 2, 1) := by decide +kernel
theorem dL_law_493 : decode cL_law 493 = .ok (.aload_n 0, 1) := by decide +kernel
theorem dL_law_494 : decode cL_law 494 = .ok (.iload_n 3, 1) := by decide +kernel
theorem dL_law_495 : decode cL_law 495 = .ok (.iconst 1, 1) := by decide +kernel
theorem dL_law_496 : decode cL_law 496 = .ok (.iadd, 1) := by decide +kernel
theorem dL_law_497 : decode cL_law 497 = .ok (.iaload, 1) := by decide +kernel
theorem dL_law_498 : decode cL_law 498 = .ok (.aload_n 0, 1) := by decide +kernel
theorem dL_law_499 : decode cL_law 499 = .ok (.iload_n 3, 1) := by decide +kernel
theorem dL_law_500 : decode cL_law 500 = .ok (.iconst 2, 1) := by decide +kernel
theorem dL_law_501 : decode cL_law 501 = .ok (.iadd, 1) := by decide +kernel
theorem dL_law_502 : decode cL_law 502 = .ok (.iaload, 1) := by decide +kernel
theorem dL_law_503 : decode cL_law 503 = .ok (.invokevirtual 59, 3) := by decide +kernel
theorem dL_law_506 : decode cL_law 506 = .ok (.if_icmp .eq 107, 3) := by decide +kernel
theorem dL_law_509 : decode cL_law 509 = .ok (.iconst 0, 1) := by decide +kernel
theorem dL_law_510 : decode cL_law 510 = .ok (.ireturn, 1) := by decide +kernel
theorem dL_law_511 : decode cL_law 511 = .ok (.aload_n 1, 1) := by decide +kernel
theorem dL_law_512 : decode cL_law 512 = .ok (.aload_n 0, 1) := by decide +kernel
theorem dL_law_513 : decode cL_law 513 = .ok (.iload_n 3, 1) := by decide +kernel
theorem dL_law_514 : decode cL_law 514 = .ok (.iconst 1, 1) := by decide +kernel
theorem dL_law_515 : decode cL_law 515 = .ok (.iadd, 1) := by decide +kernel
theorem dL_law_516 : decode cL_law 516 = .ok (.iaload, 1) := by decide +kernel
theorem dL_law_517 : decode cL_law 517 = .ok (.invokevirtual 60, 3) := by decide +kernel
theorem dL_law_520 : decode cL_law 520 = .ok (.aload_n 2, 1) := by decide +kernel
theorem dL_law_521 : decode cL_law 521 = .ok (.aload_n 0, 1) := by decide +kernel
theorem dL_law_522 : decode cL_law 522 = .ok (.iload_n 3, 1) := by decide +kernel
theorem dL_law_523 : decode cL_law 523 = .ok (.iconst 1, 1) := by decide +kernel
theorem dL_law_524 : decode cL_law 524 = .ok (.iadd, 1) := by decide +kernel
theorem dL_law_525 : decode cL_law 525 = .ok (.iaload, 1) := by decide +kernel
theorem dL_law_526 : decode cL_law 526 = .ok (.invokevirtual 64, 3) := by decide +kernel
theorem dL_law_529 : decode cL_law 529 = .ok (.if_icmp .eq 84, 3) := by decide +kernel
theorem dL_law_532 : decode cL_law 532 = .ok (.iconst 0, 1) := by decide +kernel
theorem dL_law_533 : decode cL_law 533 = .ok (.ireturn, 1) := by decide +kernel
theorem dL_law_534 : decode cL_law 534 = .ok (.aload_n 1, 1) := by decide +kernel
theorem dL_law_535 : decode cL_law 535 = .ok (.aload_n 0, 1) := by decide +kernel
theorem dL_law_536 : decode cL_law 536 = .ok (.iload_n 3, 1) := by decide +kernel
theorem dL_law_537 : decode cL_law 537 = .ok (.iconst 1, 1) := by decide +kernel
theorem dL_law_538 : decode cL_law 538 = .ok (.iadd, 1) := by decide +kernel
theorem dL_law_539 : decode cL_law 539 = .ok (.iaload, 1) := by decide +kernel
theorem dL_law_540 : decode cL_law 540 = .ok (.invokevirtual 65, 3) := by decide +kernel
theorem dL_law_543 : decode cL_law 543 = .ok (.aload_n 2, 1) := by decide +kernel
theorem dL_law_544 : decode cL_law 544 = .ok (.aload_n 0, 1) := by decide +kernel
theorem dL_law_545 : decode cL_law 545 = .ok (.iload_n 3, 1) := by decide +kernel
theorem dL_law_546 : decode cL_law 546 = .ok (.iconst 1, 1) := by decide +kernel
theorem dL_law_547 : decode cL_law 547 = .ok (.iadd, 1) := by decide +kernel
theorem dL_law_548 : decode cL_law 548 = .ok (.iaload, 1) := by decide +kernel
theorem dL_law_549 : decode cL_law 549 = .ok (.invokevirtual 68, 3) := by decide +kernel
theorem dL_law_552 : decode cL_law 552 = .ok (.if_icmp .eq 61, 3) := by decide +kernel
theorem dL_law_555 : decode cL_law 555 = .ok (.iconst 0, 1) := by decide +kernel
theorem dL_law_556 : decode cL_law 556 = .ok (.ireturn, 1) := by decide +kernel
theorem dL_law_557 : decode cL_law 557 = .ok (.aload_n 1, 1) := by decide +kernel
theorem dL_law_558 : decode cL_law 558 = .ok (.aload_n 0, 1) := by decide +kernel
theorem dL_law_559 : decode cL_law 559 = .ok (.iload_n 3, 1) := by decide +kernel
theorem dL_law_560 : decode cL_law 560 = .ok (.iconst 1, 1) := by decide +kernel
theorem dL_law_561 : decode cL_law 561 = .ok (.iadd, 1) := by decide +kernel
theorem dL_law_562 : decode cL_law 562 = .ok (.iaload, 1) := by decide +kernel
theorem dL_law_563 : decode cL_law 563 = .ok (.invokevirtual 69, 3) := by decide +kernel
theorem dL_law_566 : decode cL_law 566 = .ok (.aload_n 2, 1) := by decide +kernel
theorem dL_law_567 : decode cL_law 567 = .ok (.aload_n 0, 1) := by decide +kernel
theorem dL_law_568 : decode cL_law 568 = .ok (.iload_n 3, 1) := by decide +kernel
theorem dL_law_569 : decode cL_law 569 = .ok (.iconst 1, 1) := by decide +kernel
theorem dL_law_570 : decode cL_law 570 = .ok (.iadd, 1) := by decide +kernel
theorem dL_law_571 : decode cL_law 571 = .ok (.iaload, 1) := by decide +kernel
theorem dL_law_572 : decode cL_law 572 = .ok (.invokevirtual 72, 3) := by decide +kernel
theorem dL_law_575 : decode cL_law 575 = .ok (.if_icmp .eq 38, 3) := by decide +kernel
theorem dL_law_578 : decode cL_law 578 = .ok (.iconst 0, 1) := by decide +kernel
theorem dL_law_579 : decode cL_law 579 = .ok (.ireturn, 1) := by decide +kernel
theorem dL_law_580 : decode cL_law 580 = .ok (.aload_n 1, 1) := by decide +kernel
theorem dL_law_581 : decode cL_law 581 = .ok (.aload_n 0, 1) := by decide +kernel
theorem dL_law_582 : decode cL_law 582 = .ok (.iload_n 3, 1) := by decide +kernel
theorem dL_law_583 : decode cL_law 583 = .ok (.iconst 1, 1) := by decide +kernel
theorem dL_law_584 : decode cL_law 584 = .ok (.iadd, 1) := by decide +kernel
theorem dL_law_585 : decode cL_law 585 = .ok (.iaload, 1) := by decide +kernel
theorem dL_law_586 : decode cL_law 586 = .ok (.aload_n 0, 1) := by decide +kernel
theorem dL_law_587 : decode cL_law 587 = .ok (.iload_n 3, 1) := by decide +kernel
theorem dL_law_588 : decode cL_law 588 = .ok (.iconst 2, 1) := by decide +kernel
theorem dL_law_589 : decode cL_law 589 = .ok (.iadd, 1) := by decide +kernel
theorem dL_law_590 : decode cL_law 590 = .ok (.iaload, 1) := by decide +kernel
theorem dL_law_591 : decode cL_law 591 = .ok (.invokevirtual 73, 3) := by decide +kernel
theorem dL_law_594 : decode cL_law 594 = .ok (.aload_n 2, 1) := by decide +kernel
theorem dL_law_595 : decode cL_law 595 = .ok (.aload_n 0, 1) := by decide +kernel
theorem dL_law_596 : decode cL_law 596 = .ok (.iload_n 3, 1) := by decide +kernel
theorem dL_law_597 : decode cL_law 597 = .ok (.iconst 1, 1) := by decide +kernel
theorem dL_law_598 : decode cL_law 598 = .ok (.iadd, 1) := by decide +kernel
theorem dL_law_599 : decode cL_law 599 = .ok (.iaload, 1) := by decide +kernel
theorem dL_law_600 : decode cL_law 600 = .ok (.aload_n 0, 1) := by decide +kernel
theorem dL_law_601 : decode cL_law 601 = .ok (.iload_n 3, 1) := by decide +kernel
theorem dL_law_602 : decode cL_law 602 = .ok (.iconst 2, 1) := by decide +kernel
theorem dL_law_603 : decode cL_law 603 = .ok (.iadd, 1) := by decide +kernel
theorem dL_law_604 : decode cL_law 604 = .ok (.iaload, 1) := by decide +kernel
theorem dL_law_605 : decode cL_law 605 = .ok (.invokevirtual 76, 3) := by decide +kernel
theorem dL_law_608 : decode cL_law 608 = .ok (.if_icmp .eq 5, 3) := by decide +kernel
theorem dL_law_611 : decode cL_law 611 = .ok (.iconst 0, 1) := by decide +kernel
theorem dL_law_612 : decode cL_law 612 = .ok (.ireturn, 1) := by decide +kernel
theorem dL_law_613 : decode cL_law 613 = .ok (.iinc 3 4, 3) := by decide +kernel
theorem dL_law_616 : decode cL_law 616 = .ok (.goto (-598), 3) := by decide +kernel
theorem dL_law_619 : decode cL_law 619 = .ok (.iconst 1, 1) := by decide +kernel
theorem dL_law_620 : decode cL_law 620 = .ok (.ireturn, 1) := by decide +kernel
end
section
/-! THE CLAIM OUT OF ONE WALK OF THE LAW'S BODY. Your part is whole_start (and what it stands on); all else here is the same for every law, but numbers. -/
def R_law : String := "CrdtTableLaw"
def lw_P (b : Addr) (xs : List Int32) (args : Array Value) (s : State) : Prop := args = #[.ref b] ∧ s.IntsAt b xs ∧ xs.length ≤ 256 ∧ (Jvm.Cond.and given_1 narrow_1).before args s = true
def lw_Q (_ : Array Value) (s : State) (o : Outcome) (t : State) : Prop := o = .returned (some (.int 1)) ∧ Framed s o t [] 600000 7290000
def lw_Z (below : List Frame) (a : Array Value) (s : State) : State → Prop := fun t => ∃ o, t.status = .running ∧ Ended t below o ∧ lw_Q a s o t
/-- the law's own end, with 1 on the stack, nothing written that was there before, its room as the claim has it -/
theorem lw_ret {p : Program} {l : Launch} {e : Env} {s : State} {m : MethodId} {below : List Frame} {meth : Method} {c : Code} {b : Nat} (hx : p.tables.exec = Jvm.exec) (hb : c.code = code) (hr : meth.sig.returnType = ret) (hlocks : meth.locks = false) {pc : Nat} {H : Heap} {ls : Array Slot} (hdg : decode code pc = .ok (.ireturn, 1)) : W p l e room_1 s m #[Value.ref b] below meth c H [] 600000 7290000 (lw_Z below #[Value.ref b] s) (F0 m pc ls [.int 1]) := by
  intro T hT X
  obtain ⟨fs, hret, hrun, hended, hW, hframe⟩ := X.leave (v := some (.int 1)) (hlocks := hlocks) (fun h => by rw [hr] at h; cases h)
  have hmeth' : T.vm.method? m = some meth := X.method'
  refine ⟨T.setFrames fs, ?_, .returned (some (.int 1)), hrun, hended, rfl, ⟨_, rfl⟩, hW, hframe⟩
  jvm_step X.here [X.here.top, hx, hb, hdg, hmeth', hr, ret, narrow_b1]
  (try refine ⟨rfl, ?_⟩); (try refine ⟨rfl, ?_⟩)
  first | (intro acts; rw [hret _ acts rfl rfl rfl]) | rw [hret _ _ rfl rfl rfl]
  exact Steps.refl _
/-- what holds at the law's entry: the machine, the code, the tables' words (any of lw_tbl by 'hts w (by decide +kernel)'), the script of L ints xs at the cell b, what the Statement gives of the start (any of its parts by flat_of_before) -/
def lw_At (p : Program) (s : State) (m : MethodId) (meth : Method) (c : Code) (b L : Nat) (xs : Nat → Int32) : Prop :=
  p.tables.exec = Jvm.exec ∧ c.code = code ∧ meth.sig.returnType = ret ∧ c.maxLocals = 4 ∧ s.vm.findClass R_law = some m.cls ∧ (∀ w ∈ lw_tbl, w.before #[Value.ref b] s = true) ∧ va_X b L xs s s.heap ∧ b < s.heap.size ∧ meth.locks = false ∧ (Jvm.Cond.and given_1 narrow_1).before #[Value.ref b] s = true
end
section
/-! THE LAW: calls over both tables, a case each, the loop -/
set_option maxRecDepth 100000
/-- the cells of both tables -/
def wl (G : ClassId × ClassId) (ad ad' : Nat → Nat) (x z : TS) : va_W := wx G ad x ++ wm G ad' z
section LAWC
variable {p : Program} {l : Launch} {e : Env} {R : Room} {s : State} {m : MethodId} {args : Array Value} {below : List Frame} {meth : Method} {c : Code} {H : Heap} {locs : List Loc} {cells slots : Nat} {Q : State → Prop}
variable {cc : ByteArray} {pc : Nat} {ls : Array Slot} {rest st0 : List Value} {D : va_G} {G : ClassId × ClassId} {A : Nat → Prop} {ad ad' : Nat → Nat} {x z : TS}
theorem n_sld {b L : Nat} {xs : Nat → Int32} {H0 : Heap} {j : Nat} (hx : p.tables.exec = Jvm.exec) (hb : c.code = cc) (hX : va_X b L xs s H0) (hbl : b < H0.size) (hbA : ¬ A b) (hS : va_S A H0 H locs) (hj : j < L) (hL : L < 2 ^ 31) (hdg : decode cc pc = .ok (.iaload, 1))
    (kk : W p l e R s m args below meth c H locs cells slots Q (F0 m (pc + 1) ls (.int (xs j) :: rest))) : W p l e R s m args below meth c H locs cells slots Q (F0 m pc ls (.int (nI j) :: .ref b :: rest)) := by
  refine va_sld hx hb hX hbl hbA hS (vp_in_nI hj hL) hdg ?_
  rw [nI_clamp (Nat.lt_trans hj hL)]
  exact kk
theorem lcallX {y : MethodName} {d : Nat} {post : Int32 → TS → Prop} {As : List Value} {bytes : ByteArray} {maxL nL n index : Nat} {ret : Option FieldType} {own : String}
    (S : CallFix p m c cc nL s args lw_all own) (hM : KI l D G (wx G ad) y (ws_ y bytes maxL ret) d (.ref (ad 0) :: As) x post)
    (hT : GoodIn lw_all (wsV own index y.cls y (ws_ y bytes maxL ret))) (hc : y.cls = RX0)
    (hn : As.length = n) (hd : y.cls ≠ "java/lang/invoke/MethodHandle" ∧ y.cls ≠ "java/lang/invoke/VarHandle" ∧ (parseMethodDescriptor y.desc).map (fun d => d.parameters.length) = some n)
    (hR : d + 1 ≤ R.frames ∧ 8 + (maxL + 11) + 31 * d ≤ R.locals)
    (hK : va_K D vwCl (tyz G) s) (hP : va_P D vwCl (wl G ad ad' x z) H) (hD : va_D A (wl G ad ad' x z)) (hS : va_S A s.heap H locs) (hA : ∀ q : Nat, s.heap.size ≤ q → A q)
    (hl : ls.size = nL) (hst : st0 = As.reverse ++ .ref (ad 0) :: rest) (hW : (rest.map fun v => v.category).sum ≤ 8)
    (hdg : decode cc pc = .ok (.invokevirtual index, 3)) (hf : cells ≤ R.cells ∧ slots ≤ R.slots)
    (kk : ∀ (r : Int32) (u : TS) (H1 : Heap) (locs1 : List Loc), post r u → va_P D vwCl (wl G ad ad' u z) H1 → va_D A (wl G ad ad' u z) → va_S A s.heap H1 locs1 → W p l e R s m args below meth c H1 locs1 cells slots Q (F0 m (pc + 3) ls (.int r :: rest))) :
    W p l e R s m args below meth c H locs cells slots Q (F0 m pc ls st0) := by
  subst hst
  have hPc : va_P D vwCl (wx G ad x) H := hP.sub [0, 1, 2, 3, 4, 5, 6, 7, 8, 9, 10, 11, 12, 13, 14] rfl
  have hDc : va_D A (wx G ad x) := hD.sub [0, 1, 2, 3, 4, 5, 6, 7, 8, 9, 10, 11, 12, 13, 14] (by decide) rfl
  have hFc : ∀ q, va_A (wx G ad x) H.size q → A q := va_free hD hS hA [0, 1, 2, 3, 4, 5, 6, 7, 8, 9, 10, 11, 12, 13, 14] rfl
  have hpre : PreV s H y.cls (ad 0) (va_Pc (.ref (ad 0) :: As) (PQ D G (wx G ad) H.size x)) As := by
    refine ⟨fun a U g mk q => ?_, by rw [hc]; exact x_rv hK hPc, fun U hU hW => ?_⟩
    · obtain ⟨q0, q1, qP, qK, qD⟩ := q
      exact ⟨q0, q1, qP, va_K.moved (u := U) (U := U.calling g mk a) (Vm.Alike.refl U.vm) qK, qD⟩
    · exact ⟨rfl, by rw [hU], by rw [hU]; exact hPc, va_K.moved hW.alike hK, hDc.weaken (fun _ _ _ _ => trivial)⟩
  refine va_calli (va_runV (As := As) (rest := rest) S (hM H.size) (cwV n S.2.2.2.2 hT rfl rfl rfl ⟨rfl, hd⟩ hR) hpre rfl hn hl rfl (lv_room hW) hdg hf) hS (fun q _ h => hFc q h) hFc (fun r u t H1 locs1 ht hvm hw hB hz hk hS1 => ?_)
  obtain ⟨hP1, hK1, hD1⟩ := hB
  rw [ht] at hP1
  obtain ⟨hP2, hD2⟩ := va_join (wr := wm G ad' z) (w1 := wx G ad u) hP hD [0, 1, 2, 3, 4, 5, 6, 7, 8, 9, 10, 11, 12, 13, 14] [15, 16, 17, 18, 19, 20, 21, 22, 23] rfl rfl (by decide) (by decide) hk hFc hP1 hD1
  exact kk r u H1 locs1 hw (hP2.sub [9, 10, 11, 12, 13, 14, 15, 16, 17, 18, 19, 20, 21, 22, 23, 0, 1, 2, 3, 4, 5, 6, 7, 8] rfl) (hD2.sub [9, 10, 11, 12, 13, 14, 15, 16, 17, 18, 19, 20, 21, 22, 23, 0, 1, 2, 3, 4, 5, 6, 7, 8] (by decide) rfl) hS1
theorem lcallM {y : MethodName} {d : Nat} {post : Int32 → TS → Prop} {As : List Value} {bytes : ByteArray} {maxL nL n index : Nat} {ret : Option FieldType} {own : String}
    (S : CallFix p m c cc nL s args lw_all own) (hM : KI l D G (wm G ad') y (ws_ y bytes maxL ret) d (.ref (ad' 0) :: As) z post)
    (hT : GoodIn lw_all (wsV own index y.cls y (ws_ y bytes maxL ret))) (hc : y.cls = RX1)
    (hn : As.length = n) (hd : y.cls ≠ "java/lang/invoke/MethodHandle" ∧ y.cls ≠ "java/lang/invoke/VarHandle" ∧ (parseMethodDescriptor y.desc).map (fun d => d.parameters.length) = some n)
    (hR : d + 1 ≤ R.frames ∧ 8 + (maxL + 11) + 31 * d ≤ R.locals)
    (hK : va_K D vwCl (tyz G) s) (hP : va_P D vwCl (wl G ad ad' x z) H) (hD : va_D A (wl G ad ad' x z)) (hS : va_S A s.heap H locs) (hA : ∀ q : Nat, s.heap.size ≤ q → A q)
    (hl : ls.size = nL) (hst : st0 = As.reverse ++ .ref (ad' 0) :: rest) (hW : (rest.map fun v => v.category).sum ≤ 8)
    (hdg : decode cc pc = .ok (.invokevirtual index, 3)) (hf : cells ≤ R.cells ∧ slots ≤ R.slots)
    (kk : ∀ (r : Int32) (u : TS) (H1 : Heap) (locs1 : List Loc), post r u → va_P D vwCl (wl G ad ad' x u) H1 → va_D A (wl G ad ad' x u) → va_S A s.heap H1 locs1 → W p l e R s m args below meth c H1 locs1 cells slots Q (F0 m (pc + 3) ls (.int r :: rest))) :
    W p l e R s m args below meth c H locs cells slots Q (F0 m pc ls st0) := by
  subst hst
  have hPc : va_P D vwCl (wm G ad' z) H := hP.sub [15, 16, 17, 18, 19, 20, 21, 22, 23] rfl
  have hDc : va_D A (wm G ad' z) := hD.sub [15, 16, 17, 18, 19, 20, 21, 22, 23] (by decide) rfl
  have hFc : ∀ q, va_A (wm G ad' z) H.size q → A q := va_free hD hS hA [15, 16, 17, 18, 19, 20, 21, 22, 23] rfl
  have hpre : PreV s H y.cls (ad' 0) (va_Pc (.ref (ad' 0) :: As) (PQ D G (wm G ad') H.size z)) As := by
    refine ⟨fun a U g mk q => ?_, by rw [hc]; exact m_rv hK hPc, fun U hU hW => ?_⟩
    · obtain ⟨q0, q1, qP, qK, qD⟩ := q
      exact ⟨q0, q1, qP, va_K.moved (u := U) (U := U.calling g mk a) (Vm.Alike.refl U.vm) qK, qD⟩
    · exact ⟨rfl, by rw [hU], by rw [hU]; exact hPc, va_K.moved hW.alike hK, hDc.weaken (fun _ _ _ _ => trivial)⟩
  refine va_calli (va_runV (As := As) (rest := rest) S (hM H.size) (cwV n S.2.2.2.2 hT rfl rfl rfl ⟨rfl, hd⟩ hR) hpre rfl hn hl rfl (lv_room hW) hdg hf) hS (fun q _ h => hFc q h) hFc (fun r u t H1 locs1 ht hvm hw hB hz hk hS1 => ?_)
  obtain ⟨hP1, hK1, hD1⟩ := hB
  rw [ht] at hP1
  obtain ⟨hP2, hD2⟩ := va_join (wr := wx G ad x) (w1 := wm G ad' u) hP hD [15, 16, 17, 18, 19, 20, 21, 22, 23] [0, 1, 2, 3, 4, 5, 6, 7, 8, 9, 10, 11, 12, 13, 14] rfl rfl (by decide) (by decide) hk hFc hP1 hD1
  exact kk r u H1 locs1 hw hP2 hD2 hS1
end LAWC
end
section
/-! THE LAW, a case each -/
set_option maxRecDepth 100000
set_option maxHeartbeats 4000000 in
/-- the law's case add -/
theorem law_add {p : Program} {l : Launch} {e : Env} {s : State} {m : MethodId} {below : List Frame} {meth : Method} {c : Code} {D : va_G} {G : ClassId × ClassId} {ad ad' : Nat → Nat} {b L : Nat} {xs : Nat → Int32} (hL : L ≤ 256) (C0 : lw_At p s m meth c b L xs) (hK : va_K D vwCl (tyz G) s) {j : Nat} (hj : j + 4 ≤ L) {x z : TS} (hI : Inv x z) (kb : ∀ (x z : TS) (H : Heap) (locs : List Loc) (ls : Array Slot), Inv x z → va_P D vwCl (wl G ad ad' x z) H → va_D (fun q : Nat => s.heap.size ≤ q) (wl G ad ad' x z) → va_S (fun q : Nat => s.heap.size ≤ q) s.heap H locs → lv_has ls 4 [(0, .ref b), (1, .ref (ad 0)), (2, .ref (ad' 0)), (3, .int (nI j))] → W p l e room_1 s m #[Value.ref b] below meth c H locs 600000 7290000 (lw_Z below #[Value.ref b] s) (F0 m 613 ls [])) (H : Heap) (locs : List Loc) (ls : Array Slot) (hP : va_P D vwCl (wl G ad ad' x z) H) (hD : va_D (fun q : Nat => s.heap.size ≤ q) (wl G ad ad' x z)) (hS : va_S (fun q : Nat => s.heap.size ≤ q) s.heap H locs) (hl : lv_has ls 4 [(0, .ref b), (1, .ref (ad 0)), (2, .ref (ad' 0)), (3, .int (nI j))]) : W p l e room_1 s m #[Value.ref b] below meth c H locs 600000 7290000 (lw_Z below #[Value.ref b] s) (F0 m 108 ls []) := by
  obtain ⟨hx, hb, hr, hml, hown, hts0, hX, hbl, hlocks, hgv⟩ := C0
  have hts : ∀ w ∈ lw_all, w.before #[Value.ref b] s = true := fun w h => hts0 w (lw_all_tbl h)
  have hA : ∀ q : Nat, s.heap.size ≤ q → (fun q : Nat => s.heap.size ≤ q) q := fun _ h => h
  have hbA : ¬ (fun q : Nat => s.heap.size ≤ q) b := Nat.not_le.mpr hbl
  have gx := Inv_n hI
  have gz : z.1 ≤ 60 := hI.1.1
  have hwf := Inv_w hI
  have hwl := Inv_l hI
  refine lv_aload_n hx hb dL_law_108 rfl (lv_at hl 1 rfl) ?_
  refine lv_aload_n hx hb dL_law_109 rfl (lv_at hl 0 rfl) ?_
  refine lv_iload_n hx hb dL_law_110 rfl (lv_at hl 3 rfl) ?_
  refine lv_iconst (v := 1) hx hb dL_law_111 (by decide) ?_
  refine lv_iadd hx hb dL_law_112 ?_
  refine w_ti (y := nI (j + 1)) (nI_add j 1) ?_
  refine n_sld hx hb hX hbl hbA hS (by omega) (by omega) dL_law_113 ?_
  refine lv_aload_n hx hb dL_law_114 rfl (lv_at hl 0 rfl) ?_
  refine lv_iload_n hx hb dL_law_115 rfl (lv_at hl 3 rfl) ?_
  refine lv_iconst (v := 2) hx hb dL_law_116 (by decide) ?_
  refine lv_iadd hx hb dL_law_117 ?_
  refine w_ti (y := nI (j + 2)) (nI_add j 2) ?_
  refine n_sld hx hb hX hbl hbA hS (by omega) (by omega) dL_law_118 ?_
  refine lcallX (n := 2) (As := [.int (xs (j + 1)), .int (xs (j + 2))]) (rest := []) ⟨hx, hb, hml, hown, hts⟩ (mX_add l D G ad x (xs (j + 1)) (xs (j + 2)) gx hwf) (lw_V q73 q74 q75 q15 q76) rfl rfl (by decide +kernel) ⟨Nat.le_of_ble_eq_true rfl, Nat.le_of_ble_eq_true rfl⟩ hK hP hD hS hA hl.1 rfl (Nat.le_of_ble_eq_true rfl) dL_law_119 ⟨Nat.le_refl _, Nat.le_refl _⟩ (fun r1 u1 H locs hw1 hP hD hS => ?_)
  refine lv_aload_n hx hb dL_law_122 rfl (lv_at hl 2 rfl) ?_
  refine lv_aload_n hx hb dL_law_123 rfl (lv_at hl 0 rfl) ?_
  refine lv_iload_n hx hb dL_law_124 rfl (lv_at hl 3 rfl) ?_
  refine lv_iconst (v := 1) hx hb dL_law_125 (by decide) ?_
  refine lv_iadd hx hb dL_law_126 ?_
  refine w_ti (y := nI (j + 1)) (nI_add j 1) ?_
  refine n_sld hx hb hX hbl hbA hS (by omega) (by omega) dL_law_127 ?_
  refine lv_aload_n hx hb dL_law_128 rfl (lv_at hl 0 rfl) ?_
  refine lv_iload_n hx hb dL_law_129 rfl (lv_at hl 3 rfl) ?_
  refine lv_iconst (v := 2) hx hb dL_law_130 (by decide) ?_
  refine lv_iadd hx hb dL_law_131 ?_
  refine w_ti (y := nI (j + 2)) (nI_add j 2) ?_
  refine n_sld hx hb hX hbl hbA hS (by omega) (by omega) dL_law_132 ?_
  refine lcallM (n := 2) (As := [.int (xs (j + 1)), .int (xs (j + 2))]) (rest := [.int r1]) ⟨hx, hb, hml, hown, hts⟩ (mM_add l D G ad' z (xs (j + 1)) (xs (j + 2)) gz) (lw_V q210 q211 q212 q16 q213) rfl rfl (by decide +kernel) ⟨Nat.le_of_ble_eq_true rfl, Nat.le_of_ble_eq_true rfl⟩ hK hP hD hS hA hl.1 rfl (Nat.le_of_ble_eq_true rfl) dL_law_133 ⟨Nat.le_refl _, Nat.le_refl _⟩ (fun r2 u2 H locs hw2 hP hD hS => ?_)
  have hs := act_same hI (by decide) hw1 hw2
  exact lv_icmp_eq (tgt := 613) hx hb dL_law_136 (by decide) (fun _ => kb _ _ _ _ _ hs.2 hP hD hS hl) (fun q => absurd hs.1 q)
set_option maxHeartbeats 4000000 in
/-- the law's case drop -/
theorem law_drop {p : Program} {l : Launch} {e : Env} {s : State} {m : MethodId} {below : List Frame} {meth : Method} {c : Code} {D : va_G} {G : ClassId × ClassId} {ad ad' : Nat → Nat} {b L : Nat} {xs : Nat → Int32} (hL : L ≤ 256) (C0 : lw_At p s m meth c b L xs) (hK : va_K D vwCl (tyz G) s) {j : Nat} (hj : j + 4 ≤ L) {x z : TS} (hI : Inv x z) (kb : ∀ (x z : TS) (H : Heap) (locs : List Loc) (ls : Array Slot), Inv x z → va_P D vwCl (wl G ad ad' x z) H → va_D (fun q : Nat => s.heap.size ≤ q) (wl G ad ad' x z) → va_S (fun q : Nat => s.heap.size ≤ q) s.heap H locs → lv_has ls 4 [(0, .ref b), (1, .ref (ad 0)), (2, .ref (ad' 0)), (3, .int (nI j))] → W p l e room_1 s m #[Value.ref b] below meth c H locs 600000 7290000 (lw_Z below #[Value.ref b] s) (F0 m 613 ls [])) (H : Heap) (locs : List Loc) (ls : Array Slot) (hP : va_P D vwCl (wl G ad ad' x z) H) (hD : va_D (fun q : Nat => s.heap.size ≤ q) (wl G ad ad' x z)) (hS : va_S (fun q : Nat => s.heap.size ≤ q) s.heap H locs) (hl : lv_has ls 4 [(0, .ref b), (1, .ref (ad 0)), (2, .ref (ad' 0)), (3, .int (nI j))]) : W p l e room_1 s m #[Value.ref b] below meth c H locs 600000 7290000 (lw_Z below #[Value.ref b] s) (F0 m 141 ls []) := by
  obtain ⟨hx, hb, hr, hml, hown, hts0, hX, hbl, hlocks, hgv⟩ := C0
  have hts : ∀ w ∈ lw_all, w.before #[Value.ref b] s = true := fun w h => hts0 w (lw_all_tbl h)
  have hA : ∀ q : Nat, s.heap.size ≤ q → (fun q : Nat => s.heap.size ≤ q) q := fun _ h => h
  have hbA : ¬ (fun q : Nat => s.heap.size ≤ q) b := Nat.not_le.mpr hbl
  have gx := Inv_n hI
  have gz : z.1 ≤ 60 := hI.1.1
  have hwf := Inv_w hI
  have hwl := Inv_l hI
  refine lv_aload_n hx hb dL_law_141 rfl (lv_at hl 1 rfl) ?_
  refine lv_aload_n hx hb dL_law_142 rfl (lv_at hl 0 rfl) ?_
  refine lv_iload_n hx hb dL_law_143 rfl (lv_at hl 3 rfl) ?_
  refine lv_iconst (v := 1) hx hb dL_law_144 (by decide) ?_
  refine lv_iadd hx hb dL_law_145 ?_
  refine w_ti (y := nI (j + 1)) (nI_add j 1) ?_
  refine n_sld hx hb hX hbl hbA hS (by omega) (by omega) dL_law_146 ?_
  refine lv_aload_n hx hb dL_law_147 rfl (lv_at hl 0 rfl) ?_
  refine lv_iload_n hx hb dL_law_148 rfl (lv_at hl 3 rfl) ?_
  refine lv_iconst (v := 2) hx hb dL_law_149 (by decide) ?_
  refine lv_iadd hx hb dL_law_150 ?_
  refine w_ti (y := nI (j + 2)) (nI_add j 2) ?_
  refine n_sld hx hb hX hbl hbA hS (by omega) (by omega) dL_law_151 ?_
  refine lcallX (n := 2) (As := [.int (xs (j + 1)), .int (xs (j + 2))]) (rest := []) ⟨hx, hb, hml, hown, hts⟩ (mX_drop l D G ad x (xs (j + 1)) (xs (j + 2)) gx hwf) (lw_V q100 q101 q102 q15 q103) rfl rfl (by decide +kernel) ⟨Nat.le_of_ble_eq_true rfl, Nat.le_of_ble_eq_true rfl⟩ hK hP hD hS hA hl.1 rfl (Nat.le_of_ble_eq_true rfl) dL_law_152 ⟨Nat.le_refl _, Nat.le_refl _⟩ (fun r1 u1 H locs hw1 hP hD hS => ?_)
  refine lv_aload_n hx hb dL_law_155 rfl (lv_at hl 2 rfl) ?_
  refine lv_aload_n hx hb dL_law_156 rfl (lv_at hl 0 rfl) ?_
  refine lv_iload_n hx hb dL_law_157 rfl (lv_at hl 3 rfl) ?_
  refine lv_iconst (v := 1) hx hb dL_law_158 (by decide) ?_
  refine lv_iadd hx hb dL_law_159 ?_
  refine w_ti (y := nI (j + 1)) (nI_add j 1) ?_
  refine n_sld hx hb hX hbl hbA hS (by omega) (by omega) dL_law_160 ?_
  refine lv_aload_n hx hb dL_law_161 rfl (lv_at hl 0 rfl) ?_
  refine lv_iload_n hx hb dL_law_162 rfl (lv_at hl 3 rfl) ?_
  refine lv_iconst (v := 2) hx hb dL_law_163 (by decide) ?_
  refine lv_iadd hx hb dL_law_164 ?_
  refine w_ti (y := nI (j + 2)) (nI_add j 2) ?_
  refine n_sld hx hb hX hbl hbA hS (by omega) (by omega) dL_law_165 ?_
  refine lcallM (n := 2) (As := [.int (xs (j + 1)), .int (xs (j + 2))]) (rest := [.int r1]) ⟨hx, hb, hml, hown, hts⟩ (mM_drop l D G ad' z (xs (j + 1)) (xs (j + 2)) gz) (lw_V q238 q239 q240 q16 q241) rfl rfl (by decide +kernel) ⟨Nat.le_of_ble_eq_true rfl, Nat.le_of_ble_eq_true rfl⟩ hK hP hD hS hA hl.1 rfl (Nat.le_of_ble_eq_true rfl) dL_law_166 ⟨Nat.le_refl _, Nat.le_refl _⟩ (fun r2 u2 H locs hw2 hP hD hS => ?_)
  have hs := act_same hI (by decide) hw1 hw2
  exact lv_icmp_eq (tgt := 613) hx hb dL_law_169 (by decide) (fun _ => kb _ _ _ _ _ hs.2 hP hD hS hl) (fun q => absurd hs.1 q)
set_option maxHeartbeats 4000000 in
/-- the law's case name -/
theorem law_name {p : Program} {l : Launch} {e : Env} {s : State} {m : MethodId} {below : List Frame} {meth : Method} {c : Code} {D : va_G} {G : ClassId × ClassId} {ad ad' : Nat → Nat} {b L : Nat} {xs : Nat → Int32} (hL : L ≤ 256) (C0 : lw_At p s m meth c b L xs) (hK : va_K D vwCl (tyz G) s) {j : Nat} (hj : j + 4 ≤ L) {x z : TS} (hI : Inv x z) (kb : ∀ (x z : TS) (H : Heap) (locs : List Loc) (ls : Array Slot), Inv x z → va_P D vwCl (wl G ad ad' x z) H → va_D (fun q : Nat => s.heap.size ≤ q) (wl G ad ad' x z) → va_S (fun q : Nat => s.heap.size ≤ q) s.heap H locs → lv_has ls 4 [(0, .ref b), (1, .ref (ad 0)), (2, .ref (ad' 0)), (3, .int (nI j))] → W p l e room_1 s m #[Value.ref b] below meth c H locs 600000 7290000 (lw_Z below #[Value.ref b] s) (F0 m 613 ls [])) (H : Heap) (locs : List Loc) (ls : Array Slot) (hP : va_P D vwCl (wl G ad ad' x z) H) (hD : va_D (fun q : Nat => s.heap.size ≤ q) (wl G ad ad' x z)) (hS : va_S (fun q : Nat => s.heap.size ≤ q) s.heap H locs) (hl : lv_has ls 4 [(0, .ref b), (1, .ref (ad 0)), (2, .ref (ad' 0)), (3, .int (nI j))]) : W p l e room_1 s m #[Value.ref b] below meth c H locs 600000 7290000 (lw_Z below #[Value.ref b] s) (F0 m 174 ls []) := by
  obtain ⟨hx, hb, hr, hml, hown, hts0, hX, hbl, hlocks, hgv⟩ := C0
  have hts : ∀ w ∈ lw_all, w.before #[Value.ref b] s = true := fun w h => hts0 w (lw_all_tbl h)
  have hA : ∀ q : Nat, s.heap.size ≤ q → (fun q : Nat => s.heap.size ≤ q) q := fun _ h => h
  have hbA : ¬ (fun q : Nat => s.heap.size ≤ q) b := Nat.not_le.mpr hbl
  have gx := Inv_n hI
  have gz : z.1 ≤ 60 := hI.1.1
  have hwf := Inv_w hI
  have hwl := Inv_l hI
  refine lv_aload_n hx hb dL_law_174 rfl (lv_at hl 1 rfl) ?_
  refine lv_aload_n hx hb dL_law_175 rfl (lv_at hl 0 rfl) ?_
  refine lv_iload_n hx hb dL_law_176 rfl (lv_at hl 3 rfl) ?_
  refine lv_iconst (v := 1) hx hb dL_law_177 (by decide) ?_
  refine lv_iadd hx hb dL_law_178 ?_
  refine w_ti (y := nI (j + 1)) (nI_add j 1) ?_
  refine n_sld hx hb hX hbl hbA hS (by omega) (by omega) dL_law_179 ?_
  refine lv_aload_n hx hb dL_law_180 rfl (lv_at hl 0 rfl) ?_
  refine lv_iload_n hx hb dL_law_181 rfl (lv_at hl 3 rfl) ?_
  refine lv_iconst (v := 2) hx hb dL_law_182 (by decide) ?_
  refine lv_iadd hx hb dL_law_183 ?_
  refine w_ti (y := nI (j + 2)) (nI_add j 2) ?_
  refine n_sld hx hb hX hbl hbA hS (by omega) (by omega) dL_law_184 ?_
  refine lv_aload_n hx hb dL_law_185 rfl (lv_at hl 0 rfl) ?_
  refine lv_iload_n hx hb dL_law_186 rfl (lv_at hl 3 rfl) ?_
  refine lv_iconst (v := 3) hx hb dL_law_187 (by decide) ?_
  refine lv_iadd hx hb dL_law_188 ?_
  refine w_ti (y := nI (j + 3)) (nI_add j 3) ?_
  refine n_sld hx hb hX hbl hbA hS (by omega) (by omega) dL_law_189 ?_
  refine lcallX (n := 3) (As := [.int (xs (j + 1)), .int (xs (j + 2)), .int (xs (j + 3))]) (rest := []) ⟨hx, hb, hml, hown, hts⟩ (mX_name l D G ad x (xs (j + 1)) (xs (j + 2)) (xs (j + 3)) gx hwf) (lw_V q112 q113 q114 q15 q115) rfl rfl (by decide +kernel) ⟨Nat.le_of_ble_eq_true rfl, Nat.le_of_ble_eq_true rfl⟩ hK hP hD hS hA hl.1 rfl (Nat.le_of_ble_eq_true rfl) dL_law_190 ⟨Nat.le_refl _, Nat.le_refl _⟩ (fun r1 u1 H locs hw1 hP hD hS => ?_)
  refine lv_aload_n hx hb dL_law_193 rfl (lv_at hl 2 rfl) ?_
  refine lv_aload_n hx hb dL_law_194 rfl (lv_at hl 0 rfl) ?_
  refine lv_iload_n hx hb dL_law_195 rfl (lv_at hl 3 rfl) ?_
  refine lv_iconst (v := 1) hx hb dL_law_196 (by decide) ?_
  refine lv_iadd hx hb dL_law_197 ?_
  refine w_ti (y := nI (j + 1)) (nI_add j 1) ?_
  refine n_sld hx hb hX hbl hbA hS (by omega) (by omega) dL_law_198 ?_
  refine lv_aload_n hx hb dL_law_199 rfl (lv_at hl 0 rfl) ?_
  refine lv_iload_n hx hb dL_law_200 rfl (lv_at hl 3 rfl) ?_
  refine lv_iconst (v := 2) hx hb dL_law_201 (by decide) ?_
  refine lv_iadd hx hb dL_law_202 ?_
  refine w_ti (y := nI (j + 2)) (nI_add j 2) ?_
  refine n_sld hx hb hX hbl hbA hS (by omega) (by omega) dL_law_203 ?_
  refine lv_aload_n hx hb dL_law_204 rfl (lv_at hl 0 rfl) ?_
  refine lv_iload_n hx hb dL_law_205 rfl (lv_at hl 3 rfl) ?_
  refine lv_iconst (v := 3) hx hb dL_law_206 (by decide) ?_
  refine lv_iadd hx hb dL_law_207 ?_
  refine w_ti (y := nI (j + 3)) (nI_add j 3) ?_
  refine n_sld hx hb hX hbl hbA hS (by omega) (by omega) dL_law_208 ?_
  refine lcallM (n := 3) (As := [.int (xs (j + 1)), .int (xs (j + 2)), .int (xs (j + 3))]) (rest := [.int r1]) ⟨hx, hb, hml, hown, hts⟩ (mM_name l D G ad' z (xs (j + 1)) (xs (j + 2)) (xs (j + 3)) gz) (lw_V q242 q243 q244 q16 q245) rfl rfl (by decide +kernel) ⟨Nat.le_of_ble_eq_true rfl, Nat.le_of_ble_eq_true rfl⟩ hK hP hD hS hA hl.1 rfl (Nat.le_of_ble_eq_true rfl) dL_law_209 ⟨Nat.le_refl _, Nat.le_refl _⟩ (fun r2 u2 H locs hw2 hP hD hS => ?_)
  have hs := act_same hI (by decide) hw1 hw2
  exact lv_icmp_eq (tgt := 613) hx hb dL_law_212 (by decide) (fun _ => kb _ _ _ _ _ hs.2 hP hD hS hl) (fun q => absurd hs.1 q)
set_option maxHeartbeats 4000000 in
/-- the law's case count -/
theorem law_count {p : Program} {l : Launch} {e : Env} {s : State} {m : MethodId} {below : List Frame} {meth : Method} {c : Code} {D : va_G} {G : ClassId × ClassId} {ad ad' : Nat → Nat} {b L : Nat} {xs : Nat → Int32} (hL : L ≤ 256) (C0 : lw_At p s m meth c b L xs) (hK : va_K D vwCl (tyz G) s) {j : Nat} (hj : j + 4 ≤ L) {x z : TS} (hI : Inv x z) (kb : ∀ (x z : TS) (H : Heap) (locs : List Loc) (ls : Array Slot), Inv x z → va_P D vwCl (wl G ad ad' x z) H → va_D (fun q : Nat => s.heap.size ≤ q) (wl G ad ad' x z) → va_S (fun q : Nat => s.heap.size ≤ q) s.heap H locs → lv_has ls 4 [(0, .ref b), (1, .ref (ad 0)), (2, .ref (ad' 0)), (3, .int (nI j))] → W p l e room_1 s m #[Value.ref b] below meth c H locs 600000 7290000 (lw_Z below #[Value.ref b] s) (F0 m 613 ls [])) (H : Heap) (locs : List Loc) (ls : Array Slot) (hP : va_P D vwCl (wl G ad ad' x z) H) (hD : va_D (fun q : Nat => s.heap.size ≤ q) (wl G ad ad' x z)) (hS : va_S (fun q : Nat => s.heap.size ≤ q) s.heap H locs) (hl : lv_has ls 4 [(0, .ref b), (1, .ref (ad 0)), (2, .ref (ad' 0)), (3, .int (nI j))]) : W p l e room_1 s m #[Value.ref b] below meth c H locs 600000 7290000 (lw_Z below #[Value.ref b] s) (F0 m 217 ls []) := by
  obtain ⟨hx, hb, hr, hml, hown, hts0, hX, hbl, hlocks, hgv⟩ := C0
  have hts : ∀ w ∈ lw_all, w.before #[Value.ref b] s = true := fun w h => hts0 w (lw_all_tbl h)
  have hA : ∀ q : Nat, s.heap.size ≤ q → (fun q : Nat => s.heap.size ≤ q) q := fun _ h => h
  have hbA : ¬ (fun q : Nat => s.heap.size ≤ q) b := Nat.not_le.mpr hbl
  have gx := Inv_n hI
  have gz : z.1 ≤ 60 := hI.1.1
  have hwf := Inv_w hI
  have hwl := Inv_l hI
  refine lv_aload_n hx hb dL_law_217 rfl (lv_at hl 1 rfl) ?_
  refine lv_aload_n hx hb dL_law_218 rfl (lv_at hl 0 rfl) ?_
  refine lv_iload_n hx hb dL_law_219 rfl (lv_at hl 3 rfl) ?_
  refine lv_iconst (v := 1) hx hb dL_law_220 (by decide) ?_
  refine lv_iadd hx hb dL_law_221 ?_
  refine w_ti (y := nI (j + 1)) (nI_add j 1) ?_
  refine n_sld hx hb hX hbl hbA hS (by omega) (by omega) dL_law_222 ?_
  refine lv_aload_n hx hb dL_law_223 rfl (lv_at hl 0 rfl) ?_
  refine lv_iload_n hx hb dL_law_224 rfl (lv_at hl 3 rfl) ?_
  refine lv_iconst (v := 2) hx hb dL_law_225 (by decide) ?_
  refine lv_iadd hx hb dL_law_226 ?_
  refine w_ti (y := nI (j + 2)) (nI_add j 2) ?_
  refine n_sld hx hb hX hbl hbA hS (by omega) (by omega) dL_law_227 ?_
  refine lv_aload_n hx hb dL_law_228 rfl (lv_at hl 0 rfl) ?_
  refine lv_iload_n hx hb dL_law_229 rfl (lv_at hl 3 rfl) ?_
  refine lv_iconst (v := 3) hx hb dL_law_230 (by decide) ?_
  refine lv_iadd hx hb dL_law_231 ?_
  refine w_ti (y := nI (j + 3)) (nI_add j 3) ?_
  refine n_sld hx hb hX hbl hbA hS (by omega) (by omega) dL_law_232 ?_
  refine lcallX (n := 3) (As := [.int (xs (j + 1)), .int (xs (j + 2)), .int (xs (j + 3))]) (rest := []) ⟨hx, hb, hml, hown, hts⟩ (mX_count l D G ad x (xs (j + 1)) (xs (j + 2)) (xs (j + 3)) gx hwf) (lw_V q116 q117 q118 q15 q119) rfl rfl (by decide +kernel) ⟨Nat.le_of_ble_eq_true rfl, Nat.le_of_ble_eq_true rfl⟩ hK hP hD hS hA hl.1 rfl (Nat.le_of_ble_eq_true rfl) dL_law_233 ⟨Nat.le_refl _, Nat.le_refl _⟩ (fun r1 u1 H locs hw1 hP hD hS => ?_)
  refine lv_aload_n hx hb dL_law_236 rfl (lv_at hl 2 rfl) ?_
  refine lv_aload_n hx hb dL_law_237 rfl (lv_at hl 0 rfl) ?_
  refine lv_iload_n hx hb dL_law_238 rfl (lv_at hl 3 rfl) ?_
  refine lv_iconst (v := 1) hx hb dL_law_239 (by decide) ?_
  refine lv_iadd hx hb dL_law_240 ?_
  refine w_ti (y := nI (j + 1)) (nI_add j 1) ?_
  refine n_sld hx hb hX hbl hbA hS (by omega) (by omega) dL_law_241 ?_
  refine lv_aload_n hx hb dL_law_242 rfl (lv_at hl 0 rfl) ?_
  refine lv_iload_n hx hb dL_law_243 rfl (lv_at hl 3 rfl) ?_
  refine lv_iconst (v := 2) hx hb dL_law_244 (by decide) ?_
  refine lv_iadd hx hb dL_law_245 ?_
  refine w_ti (y := nI (j + 2)) (nI_add j 2) ?_
  refine n_sld hx hb hX hbl hbA hS (by omega) (by omega) dL_law_246 ?_
  refine lv_aload_n hx hb dL_law_247 rfl (lv_at hl 0 rfl) ?_
  refine lv_iload_n hx hb dL_law_248 rfl (lv_at hl 3 rfl) ?_
  refine lv_iconst (v := 3) hx hb dL_law_249 (by decide) ?_
  refine lv_iadd hx hb dL_law_250 ?_
  refine w_ti (y := nI (j + 3)) (nI_add j 3) ?_
  refine n_sld hx hb hX hbl hbA hS (by omega) (by omega) dL_law_251 ?_
  refine lcallM (n := 3) (As := [.int (xs (j + 1)), .int (xs (j + 2)), .int (xs (j + 3))]) (rest := [.int r1]) ⟨hx, hb, hml, hown, hts⟩ (mM_count l D G ad' z (xs (j + 1)) (xs (j + 2)) (xs (j + 3)) gz) (lw_V q246 q247 q248 q16 q249) rfl rfl (by decide +kernel) ⟨Nat.le_of_ble_eq_true rfl, Nat.le_of_ble_eq_true rfl⟩ hK hP hD hS hA hl.1 rfl (Nat.le_of_ble_eq_true rfl) dL_law_252 ⟨Nat.le_refl _, Nat.le_refl _⟩ (fun r2 u2 H locs hw2 hP hD hS => ?_)
  have hs := act_same hI (by decide) hw1 hw2
  exact lv_icmp_eq (tgt := 613) hx hb dL_law_255 (by decide) (fun _ => kb _ _ _ _ _ hs.2 hP hD hS hl) (fun q => absurd hs.1 q)
set_option maxHeartbeats 4000000 in
/-- the law's case link -/
theorem law_link {p : Program} {l : Launch} {e : Env} {s : State} {m : MethodId} {below : List Frame} {meth : Method} {c : Code} {D : va_G} {G : ClassId × ClassId} {ad ad' : Nat → Nat} {b L : Nat} {xs : Nat → Int32} (hL : L ≤ 256) (C0 : lw_At p s m meth c b L xs) (hK : va_K D vwCl (tyz G) s) {j : Nat} (hj : j + 4 ≤ L) {x z : TS} (hI : Inv x z) (kb : ∀ (x z : TS) (H : Heap) (locs : List Loc) (ls : Array Slot), Inv x z → va_P D vwCl (wl G ad ad' x z) H → va_D (fun q : Nat => s.heap.size ≤ q) (wl G ad ad' x z) → va_S (fun q : Nat => s.heap.size ≤ q) s.heap H locs → lv_has ls 4 [(0, .ref b), (1, .ref (ad 0)), (2, .ref (ad' 0)), (3, .int (nI j))] → W p l e room_1 s m #[Value.ref b] below meth c H locs 600000 7290000 (lw_Z below #[Value.ref b] s) (F0 m 613 ls [])) (H : Heap) (locs : List Loc) (ls : Array Slot) (hP : va_P D vwCl (wl G ad ad' x z) H) (hD : va_D (fun q : Nat => s.heap.size ≤ q) (wl G ad ad' x z)) (hS : va_S (fun q : Nat => s.heap.size ≤ q) s.heap H locs) (hl : lv_has ls 4 [(0, .ref b), (1, .ref (ad 0)), (2, .ref (ad' 0)), (3, .int (nI j))]) : W p l e room_1 s m #[Value.ref b] below meth c H locs 600000 7290000 (lw_Z below #[Value.ref b] s) (F0 m 260 ls []) := by
  obtain ⟨hx, hb, hr, hml, hown, hts0, hX, hbl, hlocks, hgv⟩ := C0
  have hts : ∀ w ∈ lw_all, w.before #[Value.ref b] s = true := fun w h => hts0 w (lw_all_tbl h)
  have hA : ∀ q : Nat, s.heap.size ≤ q → (fun q : Nat => s.heap.size ≤ q) q := fun _ h => h
  have hbA : ¬ (fun q : Nat => s.heap.size ≤ q) b := Nat.not_le.mpr hbl
  have gx := Inv_n hI
  have gz : z.1 ≤ 60 := hI.1.1
  have hwf := Inv_w hI
  have hwl := Inv_l hI
  refine lv_aload_n hx hb dL_law_260 rfl (lv_at hl 1 rfl) ?_
  refine lv_aload_n hx hb dL_law_261 rfl (lv_at hl 0 rfl) ?_
  refine lv_iload_n hx hb dL_law_262 rfl (lv_at hl 3 rfl) ?_
  refine lv_iconst (v := 1) hx hb dL_law_263 (by decide) ?_
  refine lv_iadd hx hb dL_law_264 ?_
  refine w_ti (y := nI (j + 1)) (nI_add j 1) ?_
  refine n_sld hx hb hX hbl hbA hS (by omega) (by omega) dL_law_265 ?_
  refine lv_aload_n hx hb dL_law_266 rfl (lv_at hl 0 rfl) ?_
  refine lv_iload_n hx hb dL_law_267 rfl (lv_at hl 3 rfl) ?_
  refine lv_iconst (v := 2) hx hb dL_law_268 (by decide) ?_
  refine lv_iadd hx hb dL_law_269 ?_
  refine w_ti (y := nI (j + 2)) (nI_add j 2) ?_
  refine n_sld hx hb hX hbl hbA hS (by omega) (by omega) dL_law_270 ?_
  refine lv_aload_n hx hb dL_law_271 rfl (lv_at hl 0 rfl) ?_
  refine lv_iload_n hx hb dL_law_272 rfl (lv_at hl 3 rfl) ?_
  refine lv_iconst (v := 3) hx hb dL_law_273 (by decide) ?_
  refine lv_iadd hx hb dL_law_274 ?_
  refine w_ti (y := nI (j + 3)) (nI_add j 3) ?_
  refine n_sld hx hb hX hbl hbA hS (by omega) (by omega) dL_law_275 ?_
  refine lcallX (n := 3) (As := [.int (xs (j + 1)), .int (xs (j + 2)), .int (xs (j + 3))]) (rest := []) ⟨hx, hb, hml, hown, hts⟩ (mX_link l D G ad x (xs (j + 1)) (xs (j + 2)) (xs (j + 3)) gx hwf) (lw_V q120 q121 q122 q15 q123) rfl rfl (by decide +kernel) ⟨Nat.le_of_ble_eq_true rfl, Nat.le_of_ble_eq_true rfl⟩ hK hP hD hS hA hl.1 rfl (Nat.le_of_ble_eq_true rfl) dL_law_276 ⟨Nat.le_refl _, Nat.le_refl _⟩ (fun r1 u1 H locs hw1 hP hD hS => ?_)
  refine lv_aload_n hx hb dL_law_279 rfl (lv_at hl 2 rfl) ?_
  refine lv_aload_n hx hb dL_law_280 rfl (lv_at hl 0 rfl) ?_
  refine lv_iload_n hx hb dL_law_281 rfl (lv_at hl 3 rfl) ?_
  refine lv_iconst (v := 1) hx hb dL_law_282 (by decide) ?_
  refine lv_iadd hx hb dL_law_283 ?_
  refine w_ti (y := nI (j + 1)) (nI_add j 1) ?_
  refine n_sld hx hb hX hbl hbA hS (by omega) (by omega) dL_law_284 ?_
  refine lv_aload_n hx hb dL_law_285 rfl (lv_at hl 0 rfl) ?_
  refine lv_iload_n hx hb dL_law_286 rfl (lv_at hl 3 rfl) ?_
  refine lv_iconst (v := 2) hx hb dL_law_287 (by decide) ?_
  refine lv_iadd hx hb dL_law_288 ?_
  refine w_ti (y := nI (j + 2)) (nI_add j 2) ?_
  refine n_sld hx hb hX hbl hbA hS (by omega) (by omega) dL_law_289 ?_
  refine lv_aload_n hx hb dL_law_290 rfl (lv_at hl 0 rfl) ?_
  refine lv_iload_n hx hb dL_law_291 rfl (lv_at hl 3 rfl) ?_
  refine lv_iconst (v := 3) hx hb dL_law_292 (by decide) ?_
  refine lv_iadd hx hb dL_law_293 ?_
  refine w_ti (y := nI (j + 3)) (nI_add j 3) ?_
  refine n_sld hx hb hX hbl hbA hS (by omega) (by omega) dL_law_294 ?_
  refine lcallM (n := 3) (As := [.int (xs (j + 1)), .int (xs (j + 2)), .int (xs (j + 3))]) (rest := [.int r1]) ⟨hx, hb, hml, hown, hts⟩ (mM_link l D G ad' z (xs (j + 1)) (xs (j + 2)) (xs (j + 3)) gz) (lw_V q250 q251 q252 q16 q253) rfl rfl (by decide +kernel) ⟨Nat.le_of_ble_eq_true rfl, Nat.le_of_ble_eq_true rfl⟩ hK hP hD hS hA hl.1 rfl (Nat.le_of_ble_eq_true rfl) dL_law_295 ⟨Nat.le_refl _, Nat.le_refl _⟩ (fun r2 u2 H locs hw2 hP hD hS => ?_)
  have hs := act_same hI (by decide) hw1 hw2
  exact lv_icmp_eq (tgt := 613) hx hb dL_law_298 (by decide) (fun _ => kb _ _ _ _ _ hs.2 hP hD hS hl) (fun q => absurd hs.1 q)
set_option maxHeartbeats 4000000 in
/-- the law's case learn -/
theorem law_learn {p : Program} {l : Launch} {e : Env} {s : State} {m : MethodId} {below : List Frame} {meth : Method} {c : Code} {D : va_G} {G : ClassId × ClassId} {ad ad' : Nat → Nat} {b L : Nat} {xs : Nat → Int32} (hL : L ≤ 256) (C0 : lw_At p s m meth c b L xs) (hK : va_K D vwCl (tyz G) s) {j : Nat} (hj : j + 4 ≤ L) {x z : TS} (hI : Inv x z) (kb : ∀ (x z : TS) (H : Heap) (locs : List Loc) (ls : Array Slot), Inv x z → va_P D vwCl (wl G ad ad' x z) H → va_D (fun q : Nat => s.heap.size ≤ q) (wl G ad ad' x z) → va_S (fun q : Nat => s.heap.size ≤ q) s.heap H locs → lv_has ls 4 [(0, .ref b), (1, .ref (ad 0)), (2, .ref (ad' 0)), (3, .int (nI j))] → W p l e room_1 s m #[Value.ref b] below meth c H locs 600000 7290000 (lw_Z below #[Value.ref b] s) (F0 m 613 ls [])) (H : Heap) (locs : List Loc) (ls : Array Slot) (hP : va_P D vwCl (wl G ad ad' x z) H) (hD : va_D (fun q : Nat => s.heap.size ≤ q) (wl G ad ad' x z)) (hS : va_S (fun q : Nat => s.heap.size ≤ q) s.heap H locs) (hl : lv_has ls 4 [(0, .ref b), (1, .ref (ad 0)), (2, .ref (ad' 0)), (3, .int (nI j))]) : W p l e room_1 s m #[Value.ref b] below meth c H locs 600000 7290000 (lw_Z below #[Value.ref b] s) (F0 m 303 ls []) := by
  obtain ⟨hx, hb, hr, hml, hown, hts0, hX, hbl, hlocks, hgv⟩ := C0
  have hts : ∀ w ∈ lw_all, w.before #[Value.ref b] s = true := fun w h => hts0 w (lw_all_tbl h)
  have hA : ∀ q : Nat, s.heap.size ≤ q → (fun q : Nat => s.heap.size ≤ q) q := fun _ h => h
  have hbA : ¬ (fun q : Nat => s.heap.size ≤ q) b := Nat.not_le.mpr hbl
  have gx := Inv_n hI
  have gz : z.1 ≤ 60 := hI.1.1
  have hwf := Inv_w hI
  have hwl := Inv_l hI
  refine lv_aload_n hx hb dL_law_303 rfl (lv_at hl 1 rfl) ?_
  refine lv_aload_n hx hb dL_law_304 rfl (lv_at hl 0 rfl) ?_
  refine lv_iload_n hx hb dL_law_305 rfl (lv_at hl 3 rfl) ?_
  refine lv_iconst (v := 1) hx hb dL_law_306 (by decide) ?_
  refine lv_iadd hx hb dL_law_307 ?_
  refine w_ti (y := nI (j + 1)) (nI_add j 1) ?_
  refine n_sld hx hb hX hbl hbA hS (by omega) (by omega) dL_law_308 ?_
  refine lv_aload_n hx hb dL_law_309 rfl (lv_at hl 0 rfl) ?_
  refine lv_iload_n hx hb dL_law_310 rfl (lv_at hl 3 rfl) ?_
  refine lv_iconst (v := 2) hx hb dL_law_311 (by decide) ?_
  refine lv_iadd hx hb dL_law_312 ?_
  refine w_ti (y := nI (j + 2)) (nI_add j 2) ?_
  refine n_sld hx hb hX hbl hbA hS (by omega) (by omega) dL_law_313 ?_
  refine lcallX (n := 2) (As := [.int (xs (j + 1)), .int (xs (j + 2))]) (rest := []) ⟨hx, hb, hml, hown, hts⟩ (mX_learn l D G ad x (xs (j + 1)) (xs (j + 2)) gx hwf) (lw_V q124 q125 q126 q15 q127) rfl rfl (by decide +kernel) ⟨Nat.le_of_ble_eq_true rfl, Nat.le_of_ble_eq_true rfl⟩ hK hP hD hS hA hl.1 rfl (Nat.le_of_ble_eq_true rfl) dL_law_314 ⟨Nat.le_refl _, Nat.le_refl _⟩ (fun r1 u1 H locs hw1 hP hD hS => ?_)
  refine lv_aload_n hx hb dL_law_317 rfl (lv_at hl 2 rfl) ?_
  refine lv_aload_n hx hb dL_law_318 rfl (lv_at hl 0 rfl) ?_
  refine lv_iload_n hx hb dL_law_319 rfl (lv_at hl 3 rfl) ?_
  refine lv_iconst (v := 1) hx hb dL_law_320 (by decide) ?_
  refine lv_iadd hx hb dL_law_321 ?_
  refine w_ti (y := nI (j + 1)) (nI_add j 1) ?_
  refine n_sld hx hb hX hbl hbA hS (by omega) (by omega) dL_law_322 ?_
  refine lv_aload_n hx hb dL_law_323 rfl (lv_at hl 0 rfl) ?_
  refine lv_iload_n hx hb dL_law_324 rfl (lv_at hl 3 rfl) ?_
  refine lv_iconst (v := 2) hx hb dL_law_325 (by decide) ?_
  refine lv_iadd hx hb dL_law_326 ?_
  refine w_ti (y := nI (j + 2)) (nI_add j 2) ?_
  refine n_sld hx hb hX hbl hbA hS (by omega) (by omega) dL_law_327 ?_
  refine lcallM (n := 2) (As := [.int (xs (j + 1)), .int (xs (j + 2))]) (rest := [.int r1]) ⟨hx, hb, hml, hown, hts⟩ (mM_learn l D G ad' z (xs (j + 1)) (xs (j + 2)) gz) (lw_V q254 q255 q256 q16 q257) rfl rfl (by decide +kernel) ⟨Nat.le_of_ble_eq_true rfl, Nat.le_of_ble_eq_true rfl⟩ hK hP hD hS hA hl.1 rfl (Nat.le_of_ble_eq_true rfl) dL_law_328 ⟨Nat.le_refl _, Nat.le_refl _⟩ (fun r2 u2 H locs hw2 hP hD hS => ?_)
  have hs := lrn_same hI hw1 hw2
  exact lv_icmp_eq (tgt := 613) hx hb dL_law_331 (by decide) (fun _ => kb _ _ _ _ _ hs.2 hP hD hS hl) (fun q => absurd hs.1 q)
set_option maxHeartbeats 4000000 in
/-- the law's case learnSome -/
theorem law_learnSome {p : Program} {l : Launch} {e : Env} {s : State} {m : MethodId} {below : List Frame} {meth : Method} {c : Code} {D : va_G} {G : ClassId × ClassId} {ad ad' : Nat → Nat} {b L : Nat} {xs : Nat → Int32} (hL : L ≤ 256) (C0 : lw_At p s m meth c b L xs) (hK : va_K D vwCl (tyz G) s) {j : Nat} (hj : j + 4 ≤ L) {x z : TS} (hI : Inv x z) (kb : ∀ (x z : TS) (H : Heap) (locs : List Loc) (ls : Array Slot), Inv x z → va_P D vwCl (wl G ad ad' x z) H → va_D (fun q : Nat => s.heap.size ≤ q) (wl G ad ad' x z) → va_S (fun q : Nat => s.heap.size ≤ q) s.heap H locs → lv_has ls 4 [(0, .ref b), (1, .ref (ad 0)), (2, .ref (ad' 0)), (3, .int (nI j))] → W p l e room_1 s m #[Value.ref b] below meth c H locs 600000 7290000 (lw_Z below #[Value.ref b] s) (F0 m 613 ls [])) (H : Heap) (locs : List Loc) (ls : Array Slot) (hP : va_P D vwCl (wl G ad ad' x z) H) (hD : va_D (fun q : Nat => s.heap.size ≤ q) (wl G ad ad' x z)) (hS : va_S (fun q : Nat => s.heap.size ≤ q) s.heap H locs) (hl : lv_has ls 4 [(0, .ref b), (1, .ref (ad 0)), (2, .ref (ad' 0)), (3, .int (nI j))]) : W p l e room_1 s m #[Value.ref b] below meth c H locs 600000 7290000 (lw_Z below #[Value.ref b] s) (F0 m 336 ls []) := by
  obtain ⟨hx, hb, hr, hml, hown, hts0, hX, hbl, hlocks, hgv⟩ := C0
  have hts : ∀ w ∈ lw_all, w.before #[Value.ref b] s = true := fun w h => hts0 w (lw_all_tbl h)
  have hA : ∀ q : Nat, s.heap.size ≤ q → (fun q : Nat => s.heap.size ≤ q) q := fun _ h => h
  have hbA : ¬ (fun q : Nat => s.heap.size ≤ q) b := Nat.not_le.mpr hbl
  have gx := Inv_n hI
  have gz : z.1 ≤ 60 := hI.1.1
  have hwf := Inv_w hI
  have hwl := Inv_l hI
  refine lv_aload_n hx hb dL_law_336 rfl (lv_at hl 1 rfl) ?_
  refine lv_aload_n hx hb dL_law_337 rfl (lv_at hl 0 rfl) ?_
  refine lv_iload_n hx hb dL_law_338 rfl (lv_at hl 3 rfl) ?_
  refine lv_iconst (v := 1) hx hb dL_law_339 (by decide) ?_
  refine lv_iadd hx hb dL_law_340 ?_
  refine w_ti (y := nI (j + 1)) (nI_add j 1) ?_
  refine n_sld hx hb hX hbl hbA hS (by omega) (by omega) dL_law_341 ?_
  refine lv_aload_n hx hb dL_law_342 rfl (lv_at hl 0 rfl) ?_
  refine lv_iload_n hx hb dL_law_343 rfl (lv_at hl 3 rfl) ?_
  refine lv_iconst (v := 2) hx hb dL_law_344 (by decide) ?_
  refine lv_iadd hx hb dL_law_345 ?_
  refine w_ti (y := nI (j + 2)) (nI_add j 2) ?_
  refine n_sld hx hb hX hbl hbA hS (by omega) (by omega) dL_law_346 ?_
  refine lv_aload_n hx hb dL_law_347 rfl (lv_at hl 0 rfl) ?_
  refine lv_iload_n hx hb dL_law_348 rfl (lv_at hl 3 rfl) ?_
  refine lv_iconst (v := 3) hx hb dL_law_349 (by decide) ?_
  refine lv_iadd hx hb dL_law_350 ?_
  refine w_ti (y := nI (j + 3)) (nI_add j 3) ?_
  refine n_sld hx hb hX hbl hbA hS (by omega) (by omega) dL_law_351 ?_
  refine lcallX (n := 3) (As := [.int (xs (j + 1)), .int (xs (j + 2)), .int (xs (j + 3))]) (rest := []) ⟨hx, hb, hml, hown, hts⟩ (mX_learnSome l D G ad x (xs (j + 1)) (xs (j + 2)) (xs (j + 3)) gx hwf) (lw_V q132 q129 q130 q15 q131) rfl rfl (by decide +kernel) ⟨Nat.le_of_ble_eq_true rfl, Nat.le_of_ble_eq_true rfl⟩ hK hP hD hS hA hl.1 rfl (Nat.le_of_ble_eq_true rfl) dL_law_352 ⟨Nat.le_refl _, Nat.le_refl _⟩ (fun r1 u1 H locs hw1 hP hD hS => ?_)
  refine lv_aload_n hx hb dL_law_355 rfl (lv_at hl 2 rfl) ?_
  refine lv_aload_n hx hb dL_law_356 rfl (lv_at hl 0 rfl) ?_
  refine lv_iload_n hx hb dL_law_357 rfl (lv_at hl 3 rfl) ?_
  refine lv_iconst (v := 1) hx hb dL_law_358 (by decide) ?_
  refine lv_iadd hx hb dL_law_359 ?_
  refine w_ti (y := nI (j + 1)) (nI_add j 1) ?_
  refine n_sld hx hb hX hbl hbA hS (by omega) (by omega) dL_law_360 ?_
  refine lv_aload_n hx hb dL_law_361 rfl (lv_at hl 0 rfl) ?_
  refine lv_iload_n hx hb dL_law_362 rfl (lv_at hl 3 rfl) ?_
  refine lv_iconst (v := 2) hx hb dL_law_363 (by decide) ?_
  refine lv_iadd hx hb dL_law_364 ?_
  refine w_ti (y := nI (j + 2)) (nI_add j 2) ?_
  refine n_sld hx hb hX hbl hbA hS (by omega) (by omega) dL_law_365 ?_
  refine lv_aload_n hx hb dL_law_366 rfl (lv_at hl 0 rfl) ?_
  refine lv_iload_n hx hb dL_law_367 rfl (lv_at hl 3 rfl) ?_
  refine lv_iconst (v := 3) hx hb dL_law_368 (by decide) ?_
  refine lv_iadd hx hb dL_law_369 ?_
  refine w_ti (y := nI (j + 3)) (nI_add j 3) ?_
  refine n_sld hx hb hX hbl hbA hS (by omega) (by omega) dL_law_370 ?_
  refine lcallM (n := 3) (As := [.int (xs (j + 1)), .int (xs (j + 2)), .int (xs (j + 3))]) (rest := [.int r1]) ⟨hx, hb, hml, hown, hts⟩ (mM_learnSome l D G ad' z (xs (j + 1)) (xs (j + 2)) (xs (j + 3)) gz) (lw_V q262 q259 q260 q16 q261) rfl rfl (by decide +kernel) ⟨Nat.le_of_ble_eq_true rfl, Nat.le_of_ble_eq_true rfl⟩ hK hP hD hS hA hl.1 rfl (Nat.le_of_ble_eq_true rfl) dL_law_371 ⟨Nat.le_refl _, Nat.le_refl _⟩ (fun r2 u2 H locs hw2 hP hD hS => ?_)
  have hs := lrn_same hI hw1 hw2
  exact lv_icmp_eq (tgt := 613) hx hb dL_law_374 (by decide) (fun _ => kb _ _ _ _ _ hs.2 hP hD hS hl) (fun q => absurd hs.1 q)
set_option maxHeartbeats 4000000 in
/-- the law's case there -/
theorem law_there {p : Program} {l : Launch} {e : Env} {s : State} {m : MethodId} {below : List Frame} {meth : Method} {c : Code} {D : va_G} {G : ClassId × ClassId} {ad ad' : Nat → Nat} {b L : Nat} {xs : Nat → Int32} (hL : L ≤ 256) (C0 : lw_At p s m meth c b L xs) (hK : va_K D vwCl (tyz G) s) {j : Nat} (hj : j + 4 ≤ L) {x z : TS} (hI : Inv x z) (kb : ∀ (x z : TS) (H : Heap) (locs : List Loc) (ls : Array Slot), Inv x z → va_P D vwCl (wl G ad ad' x z) H → va_D (fun q : Nat => s.heap.size ≤ q) (wl G ad ad' x z) → va_S (fun q : Nat => s.heap.size ≤ q) s.heap H locs → lv_has ls 4 [(0, .ref b), (1, .ref (ad 0)), (2, .ref (ad' 0)), (3, .int (nI j))] → W p l e room_1 s m #[Value.ref b] below meth c H locs 600000 7290000 (lw_Z below #[Value.ref b] s) (F0 m 613 ls [])) (H : Heap) (locs : List Loc) (ls : Array Slot) (hP : va_P D vwCl (wl G ad ad' x z) H) (hD : va_D (fun q : Nat => s.heap.size ≤ q) (wl G ad ad' x z)) (hS : va_S (fun q : Nat => s.heap.size ≤ q) s.heap H locs) (hl : lv_has ls 4 [(0, .ref b), (1, .ref (ad 0)), (2, .ref (ad' 0)), (3, .int (nI j))]) : W p l e room_1 s m #[Value.ref b] below meth c H locs 600000 7290000 (lw_Z below #[Value.ref b] s) (F0 m 379 ls []) := by
  obtain ⟨hx, hb, hr, hml, hown, hts0, hX, hbl, hlocks, hgv⟩ := C0
  have hts : ∀ w ∈ lw_all, w.before #[Value.ref b] s = true := fun w h => hts0 w (lw_all_tbl h)
  have hA : ∀ q : Nat, s.heap.size ≤ q → (fun q : Nat => s.heap.size ≤ q) q := fun _ h => h
  have hbA : ¬ (fun q : Nat => s.heap.size ≤ q) b := Nat.not_le.mpr hbl
  have gx := Inv_n hI
  have gz : z.1 ≤ 60 := hI.1.1
  have hwf := Inv_w hI
  have hwl := Inv_l hI
  refine lv_aload_n hx hb dL_law_379 rfl (lv_at hl 1 rfl) ?_
  refine lv_aload_n hx hb dL_law_380 rfl (lv_at hl 0 rfl) ?_
  refine lv_iload_n hx hb dL_law_381 rfl (lv_at hl 3 rfl) ?_
  refine lv_iconst (v := 1) hx hb dL_law_382 (by decide) ?_
  refine lv_iadd hx hb dL_law_383 ?_
  refine w_ti (y := nI (j + 1)) (nI_add j 1) ?_
  refine n_sld hx hb hX hbl hbA hS (by omega) (by omega) dL_law_384 ?_
  refine lv_aload_n hx hb dL_law_385 rfl (lv_at hl 0 rfl) ?_
  refine lv_iload_n hx hb dL_law_386 rfl (lv_at hl 3 rfl) ?_
  refine lv_iconst (v := 2) hx hb dL_law_387 (by decide) ?_
  refine lv_iadd hx hb dL_law_388 ?_
  refine w_ti (y := nI (j + 2)) (nI_add j 2) ?_
  refine n_sld hx hb hX hbl hbA hS (by omega) (by omega) dL_law_389 ?_
  refine lcallX (n := 2) (As := [.int (xs (j + 1)), .int (xs (j + 2))]) (rest := []) ⟨hx, hb, hml, hown, hts⟩ (mX_there l D G ad x (xs (j + 1)) (xs (j + 2)) ) (lw_V q133 q134 q135 q15 q136) rfl rfl (by decide +kernel) ⟨Nat.le_of_ble_eq_true rfl, Nat.le_of_ble_eq_true rfl⟩ hK hP hD hS hA hl.1 rfl (Nat.le_of_ble_eq_true rfl) dL_law_390 ⟨Nat.le_refl _, Nat.le_refl _⟩ (fun r1 u1 H locs hw1 hP hD hS => ?_)
  rw [hw1.1] at hP hD
  refine lv_aload_n hx hb dL_law_393 rfl (lv_at hl 2 rfl) ?_
  refine lv_aload_n hx hb dL_law_394 rfl (lv_at hl 0 rfl) ?_
  refine lv_iload_n hx hb dL_law_395 rfl (lv_at hl 3 rfl) ?_
  refine lv_iconst (v := 1) hx hb dL_law_396 (by decide) ?_
  refine lv_iadd hx hb dL_law_397 ?_
  refine w_ti (y := nI (j + 1)) (nI_add j 1) ?_
  refine n_sld hx hb hX hbl hbA hS (by omega) (by omega) dL_law_398 ?_
  refine lv_aload_n hx hb dL_law_399 rfl (lv_at hl 0 rfl) ?_
  refine lv_iload_n hx hb dL_law_400 rfl (lv_at hl 3 rfl) ?_
  refine lv_iconst (v := 2) hx hb dL_law_401 (by decide) ?_
  refine lv_iadd hx hb dL_law_402 ?_
  refine w_ti (y := nI (j + 2)) (nI_add j 2) ?_
  refine n_sld hx hb hX hbl hbA hS (by omega) (by omega) dL_law_403 ?_
  refine lcallM (n := 2) (As := [.int (xs (j + 1)), .int (xs (j + 2))]) (rest := [.int r1]) ⟨hx, hb, hml, hown, hts⟩ (mM_there l D G ad' z (xs (j + 1)) (xs (j + 2)) gz) (lw_V q263 q227 q228 q16 q229) rfl rfl (by decide +kernel) ⟨Nat.le_of_ble_eq_true rfl, Nat.le_of_ble_eq_true rfl⟩ hK hP hD hS hA hl.1 rfl (Nat.le_of_ble_eq_true rfl) dL_law_404 ⟨Nat.le_refl _, Nat.le_refl _⟩ (fun r2 u2 H locs hw2 hP hD hS => ?_)
  rw [hw2.1] at hP hD
  have hs : r1 = r2 ∧ Inv x z := ⟨vf_eq hw1.2 hw2.2 (fun a b ga gb => xTh_same hI ga gb), hI⟩
  exact lv_icmp_eq (tgt := 613) hx hb dL_law_407 (by decide) (fun _ => kb _ _ _ _ _ hs.2 hP hD hS hl) (fun q => absurd hs.1 q)
set_option maxHeartbeats 4000000 in
/-- the law's case nameOf -/
theorem law_nameOf {p : Program} {l : Launch} {e : Env} {s : State} {m : MethodId} {below : List Frame} {meth : Method} {c : Code} {D : va_G} {G : ClassId × ClassId} {ad ad' : Nat → Nat} {b L : Nat} {xs : Nat → Int32} (hL : L ≤ 256) (C0 : lw_At p s m meth c b L xs) (hK : va_K D vwCl (tyz G) s) {j : Nat} (hj : j + 4 ≤ L) {x z : TS} (hI : Inv x z) (kb : ∀ (x z : TS) (H : Heap) (locs : List Loc) (ls : Array Slot), Inv x z → va_P D vwCl (wl G ad ad' x z) H → va_D (fun q : Nat => s.heap.size ≤ q) (wl G ad ad' x z) → va_S (fun q : Nat => s.heap.size ≤ q) s.heap H locs → lv_has ls 4 [(0, .ref b), (1, .ref (ad 0)), (2, .ref (ad' 0)), (3, .int (nI j))] → W p l e room_1 s m #[Value.ref b] below meth c H locs 600000 7290000 (lw_Z below #[Value.ref b] s) (F0 m 613 ls [])) (H : Heap) (locs : List Loc) (ls : Array Slot) (hP : va_P D vwCl (wl G ad ad' x z) H) (hD : va_D (fun q : Nat => s.heap.size ≤ q) (wl G ad ad' x z)) (hS : va_S (fun q : Nat => s.heap.size ≤ q) s.heap H locs) (hl : lv_has ls 4 [(0, .ref b), (1, .ref (ad 0)), (2, .ref (ad' 0)), (3, .int (nI j))]) : W p l e room_1 s m #[Value.ref b] below meth c H locs 600000 7290000 (lw_Z below #[Value.ref b] s) (F0 m 412 ls []) := by
  obtain ⟨hx, hb, hr, hml, hown, hts0, hX, hbl, hlocks, hgv⟩ := C0
  have hts : ∀ w ∈ lw_all, w.before #[Value.ref b] s = true := fun w h => hts0 w (lw_all_tbl h)
  have hA : ∀ q : Nat, s.heap.size ≤ q → (fun q : Nat => s.heap.size ≤ q) q := fun _ h => h
  have hbA : ¬ (fun q : Nat => s.heap.size ≤ q) b := Nat.not_le.mpr hbl
  have gx := Inv_n hI
  have gz : z.1 ≤ 60 := hI.1.1
  have hwf := Inv_w hI
  have hwl := Inv_l hI
  refine lv_aload_n hx hb dL_law_412 rfl (lv_at hl 1 rfl) ?_
  refine lv_aload_n hx hb dL_law_413 rfl (lv_at hl 0 rfl) ?_
  refine lv_iload_n hx hb dL_law_414 rfl (lv_at hl 3 rfl) ?_
  refine lv_iconst (v := 1) hx hb dL_law_415 (by decide) ?_
  refine lv_iadd hx hb dL_law_416 ?_
  refine w_ti (y := nI (j + 1)) (nI_add j 1) ?_
  refine n_sld hx hb hX hbl hbA hS (by omega) (by omega) dL_law_417 ?_
  refine lv_aload_n hx hb dL_law_418 rfl (lv_at hl 0 rfl) ?_
  refine lv_iload_n hx hb dL_law_419 rfl (lv_at hl 3 rfl) ?_
  refine lv_iconst (v := 2) hx hb dL_law_420 (by decide) ?_
  refine lv_iadd hx hb dL_law_421 ?_
  refine w_ti (y := nI (j + 2)) (nI_add j 2) ?_
  refine n_sld hx hb hX hbl hbA hS (by omega) (by omega) dL_law_422 ?_
  refine lcallX (n := 2) (As := [.int (xs (j + 1)), .int (xs (j + 2))]) (rest := []) ⟨hx, hb, hml, hown, hts⟩ (mX_nameOf l D G ad x (xs (j + 1)) (xs (j + 2)) hwf) (lw_V q137 q138 q139 q15 q140) rfl rfl (by decide +kernel) ⟨Nat.le_of_ble_eq_true rfl, Nat.le_of_ble_eq_true rfl⟩ hK hP hD hS hA hl.1 rfl (Nat.le_of_ble_eq_true rfl) dL_law_423 ⟨Nat.le_refl _, Nat.le_refl _⟩ (fun r1 u1 H locs hw1 hP hD hS => ?_)
  rw [hw1.1] at hP hD
  refine lv_aload_n hx hb dL_law_426 rfl (lv_at hl 2 rfl) ?_
  refine lv_aload_n hx hb dL_law_427 rfl (lv_at hl 0 rfl) ?_
  refine lv_iload_n hx hb dL_law_428 rfl (lv_at hl 3 rfl) ?_
  refine lv_iconst (v := 1) hx hb dL_law_429 (by decide) ?_
  refine lv_iadd hx hb dL_law_430 ?_
  refine w_ti (y := nI (j + 1)) (nI_add j 1) ?_
  refine n_sld hx hb hX hbl hbA hS (by omega) (by omega) dL_law_431 ?_
  refine lv_aload_n hx hb dL_law_432 rfl (lv_at hl 0 rfl) ?_
  refine lv_iload_n hx hb dL_law_433 rfl (lv_at hl 3 rfl) ?_
  refine lv_iconst (v := 2) hx hb dL_law_434 (by decide) ?_
  refine lv_iadd hx hb dL_law_435 ?_
  refine w_ti (y := nI (j + 2)) (nI_add j 2) ?_
  refine n_sld hx hb hX hbl hbA hS (by omega) (by omega) dL_law_436 ?_
  refine lcallM (n := 2) (As := [.int (xs (j + 1)), .int (xs (j + 2))]) (rest := [.int r1]) ⟨hx, hb, hml, hown, hts⟩ (mM_nameOf l D G ad' z (xs (j + 1)) (xs (j + 2)) gz) (lw_V q264 q265 q266 q16 q267) rfl rfl (by decide +kernel) ⟨Nat.le_of_ble_eq_true rfl, Nat.le_of_ble_eq_true rfl⟩ hK hP hD hS hA hl.1 rfl (Nat.le_of_ble_eq_true rfl) dL_law_437 ⟨Nat.le_refl _, Nat.le_refl _⟩ (fun r2 u2 H locs hw2 hP hD hS => ?_)
  rw [hw2.1] at hP hD
  have hs : r1 = r2 ∧ Inv x z := ⟨vf_eq hw1.2 hw2.2 (fun a b ga gb => name_same hI ga gb), hI⟩
  exact lv_icmp_eq (tgt := 613) hx hb dL_law_440 (by decide) (fun _ => kb _ _ _ _ _ hs.2 hP hD hS hl) (fun q => absurd hs.1 q)
set_option maxHeartbeats 4000000 in
/-- the law's case countOf -/
theorem law_countOf {p : Program} {l : Launch} {e : Env} {s : State} {m : MethodId} {below : List Frame} {meth : Method} {c : Code} {D : va_G} {G : ClassId × ClassId} {ad ad' : Nat → Nat} {b L : Nat} {xs : Nat → Int32} (hL : L ≤ 256) (C0 : lw_At p s m meth c b L xs) (hK : va_K D vwCl (tyz G) s) {j : Nat} (hj : j + 4 ≤ L) {x z : TS} (hI : Inv x z) (kb : ∀ (x z : TS) (H : Heap) (locs : List Loc) (ls : Array Slot), Inv x z → va_P D vwCl (wl G ad ad' x z) H → va_D (fun q : Nat => s.heap.size ≤ q) (wl G ad ad' x z) → va_S (fun q : Nat => s.heap.size ≤ q) s.heap H locs → lv_has ls 4 [(0, .ref b), (1, .ref (ad 0)), (2, .ref (ad' 0)), (3, .int (nI j))] → W p l e room_1 s m #[Value.ref b] below meth c H locs 600000 7290000 (lw_Z below #[Value.ref b] s) (F0 m 613 ls [])) (H : Heap) (locs : List Loc) (ls : Array Slot) (hP : va_P D vwCl (wl G ad ad' x z) H) (hD : va_D (fun q : Nat => s.heap.size ≤ q) (wl G ad ad' x z)) (hS : va_S (fun q : Nat => s.heap.size ≤ q) s.heap H locs) (hl : lv_has ls 4 [(0, .ref b), (1, .ref (ad 0)), (2, .ref (ad' 0)), (3, .int (nI j))]) : W p l e room_1 s m #[Value.ref b] below meth c H locs 600000 7290000 (lw_Z below #[Value.ref b] s) (F0 m 445 ls []) := by
  obtain ⟨hx, hb, hr, hml, hown, hts0, hX, hbl, hlocks, hgv⟩ := C0
  have hts : ∀ w ∈ lw_all, w.before #[Value.ref b] s = true := fun w h => hts0 w (lw_all_tbl h)
  have hA : ∀ q : Nat, s.heap.size ≤ q → (fun q : Nat => s.heap.size ≤ q) q := fun _ h => h
  have hbA : ¬ (fun q : Nat => s.heap.size ≤ q) b := Nat.not_le.mpr hbl
  have gx := Inv_n hI
  have gz : z.1 ≤ 60 := hI.1.1
  have hwf := Inv_w hI
  have hwl := Inv_l hI
  refine lv_aload_n hx hb dL_law_445 rfl (lv_at hl 1 rfl) ?_
  refine lv_aload_n hx hb dL_law_446 rfl (lv_at hl 0 rfl) ?_
  refine lv_iload_n hx hb dL_law_447 rfl (lv_at hl 3 rfl) ?_
  refine lv_iconst (v := 1) hx hb dL_law_448 (by decide) ?_
  refine lv_iadd hx hb dL_law_449 ?_
  refine w_ti (y := nI (j + 1)) (nI_add j 1) ?_
  refine n_sld hx hb hX hbl hbA hS (by omega) (by omega) dL_law_450 ?_
  refine lv_aload_n hx hb dL_law_451 rfl (lv_at hl 0 rfl) ?_
  refine lv_iload_n hx hb dL_law_452 rfl (lv_at hl 3 rfl) ?_
  refine lv_iconst (v := 2) hx hb dL_law_453 (by decide) ?_
  refine lv_iadd hx hb dL_law_454 ?_
  refine w_ti (y := nI (j + 2)) (nI_add j 2) ?_
  refine n_sld hx hb hX hbl hbA hS (by omega) (by omega) dL_law_455 ?_
  refine lcallX (n := 2) (As := [.int (xs (j + 1)), .int (xs (j + 2))]) (rest := []) ⟨hx, hb, hml, hown, hts⟩ (mX_countOf l D G ad x (xs (j + 1)) (xs (j + 2)) ) (lw_V q145 q146 q147 q15 q148) rfl rfl (by decide +kernel) ⟨Nat.le_of_ble_eq_true rfl, Nat.le_of_ble_eq_true rfl⟩ hK hP hD hS hA hl.1 rfl (Nat.le_of_ble_eq_true rfl) dL_law_456 ⟨Nat.le_refl _, Nat.le_refl _⟩ (fun r1 u1 H locs hw1 hP hD hS => ?_)
  rw [hw1.1] at hP hD
  refine lv_aload_n hx hb dL_law_459 rfl (lv_at hl 2 rfl) ?_
  refine lv_aload_n hx hb dL_law_460 rfl (lv_at hl 0 rfl) ?_
  refine lv_iload_n hx hb dL_law_461 rfl (lv_at hl 3 rfl) ?_
  refine lv_iconst (v := 1) hx hb dL_law_462 (by decide) ?_
  refine lv_iadd hx hb dL_law_463 ?_
  refine w_ti (y := nI (j + 1)) (nI_add j 1) ?_
  refine n_sld hx hb hX hbl hbA hS (by omega) (by omega) dL_law_464 ?_
  refine lv_aload_n hx hb dL_law_465 rfl (lv_at hl 0 rfl) ?_
  refine lv_iload_n hx hb dL_law_466 rfl (lv_at hl 3 rfl) ?_
  refine lv_iconst (v := 2) hx hb dL_law_467 (by decide) ?_
  refine lv_iadd hx hb dL_law_468 ?_
  refine w_ti (y := nI (j + 2)) (nI_add j 2) ?_
  refine n_sld hx hb hX hbl hbA hS (by omega) (by omega) dL_law_469 ?_
  refine lcallM (n := 2) (As := [.int (xs (j + 1)), .int (xs (j + 2))]) (rest := [.int r1]) ⟨hx, hb, hml, hown, hts⟩ (mM_countOf l D G ad' z (xs (j + 1)) (xs (j + 2)) gz) (lw_V q272 q273 q274 q16 q275) rfl rfl (by decide +kernel) ⟨Nat.le_of_ble_eq_true rfl, Nat.le_of_ble_eq_true rfl⟩ hK hP hD hS hA hl.1 rfl (Nat.le_of_ble_eq_true rfl) dL_law_470 ⟨Nat.le_refl _, Nat.le_refl _⟩ (fun r2 u2 H locs hw2 hP hD hS => ?_)
  rw [hw2.1] at hP hD
  have hs : r1 = r2 ∧ Inv x z := ⟨vf_eq hw1.2 hw2.2 (fun a b ga gb => count_same hI ga gb), hI⟩
  exact lv_icmp_eq (tgt := 613) hx hb dL_law_473 (by decide) (fun _ => kb _ _ _ _ _ hs.2 hP hD hS hl) (fun q => absurd hs.1 q)
set_option maxHeartbeats 4000000 in
/-- the law's case linkOf -/
theorem law_linkOf {p : Program} {l : Launch} {e : Env} {s : State} {m : MethodId} {below : List Frame} {meth : Method} {c : Code} {D : va_G} {G : ClassId × ClassId} {ad ad' : Nat → Nat} {b L : Nat} {xs : Nat → Int32} (hL : L ≤ 256) (C0 : lw_At p s m meth c b L xs) (hK : va_K D vwCl (tyz G) s) {j : Nat} (hj : j + 4 ≤ L) {x z : TS} (hI : Inv x z) (kb : ∀ (x z : TS) (H : Heap) (locs : List Loc) (ls : Array Slot), Inv x z → va_P D vwCl (wl G ad ad' x z) H → va_D (fun q : Nat => s.heap.size ≤ q) (wl G ad ad' x z) → va_S (fun q : Nat => s.heap.size ≤ q) s.heap H locs → lv_has ls 4 [(0, .ref b), (1, .ref (ad 0)), (2, .ref (ad' 0)), (3, .int (nI j))] → W p l e room_1 s m #[Value.ref b] below meth c H locs 600000 7290000 (lw_Z below #[Value.ref b] s) (F0 m 613 ls [])) (H : Heap) (locs : List Loc) (ls : Array Slot) (hP : va_P D vwCl (wl G ad ad' x z) H) (hD : va_D (fun q : Nat => s.heap.size ≤ q) (wl G ad ad' x z)) (hS : va_S (fun q : Nat => s.heap.size ≤ q) s.heap H locs) (hl : lv_has ls 4 [(0, .ref b), (1, .ref (ad 0)), (2, .ref (ad' 0)), (3, .int (nI j))]) : W p l e room_1 s m #[Value.ref b] below meth c H locs 600000 7290000 (lw_Z below #[Value.ref b] s) (F0 m 478 ls []) := by
  obtain ⟨hx, hb, hr, hml, hown, hts0, hX, hbl, hlocks, hgv⟩ := C0
  have hts : ∀ w ∈ lw_all, w.before #[Value.ref b] s = true := fun w h => hts0 w (lw_all_tbl h)
  have hA : ∀ q : Nat, s.heap.size ≤ q → (fun q : Nat => s.heap.size ≤ q) q := fun _ h => h
  have hbA : ¬ (fun q : Nat => s.heap.size ≤ q) b := Nat.not_le.mpr hbl
  have gx := Inv_n hI
  have gz : z.1 ≤ 60 := hI.1.1
  have hwf := Inv_w hI
  have hwl := Inv_l hI
  refine lv_aload_n hx hb dL_law_478 rfl (lv_at hl 1 rfl) ?_
  refine lv_aload_n hx hb dL_law_479 rfl (lv_at hl 0 rfl) ?_
  refine lv_iload_n hx hb dL_law_480 rfl (lv_at hl 3 rfl) ?_
  refine lv_iconst (v := 1) hx hb dL_law_481 (by decide) ?_
  refine lv_iadd hx hb dL_law_482 ?_
  refine w_ti (y := nI (j + 1)) (nI_add j 1) ?_
  refine n_sld hx hb hX hbl hbA hS (by omega) (by omega) dL_law_483 ?_
  refine lv_aload_n hx hb dL_law_484 rfl (lv_at hl 0 rfl) ?_
  refine lv_iload_n hx hb dL_law_485 rfl (lv_at hl 3 rfl) ?_
  refine lv_iconst (v := 2) hx hb dL_law_486 (by decide) ?_
  refine lv_iadd hx hb dL_law_487 ?_
  refine w_ti (y := nI (j + 2)) (nI_add j 2) ?_
  refine n_sld hx hb hX hbl hbA hS (by omega) (by omega) dL_law_488 ?_
  refine lcallX (n := 2) (As := [.int (xs (j + 1)), .int (xs (j + 2))]) (rest := []) ⟨hx, hb, hml, hown, hts⟩ (mX_linkOf l D G ad x (xs (j + 1)) (xs (j + 2)) hwf hwl) (lw_V q149 q150 q151 q15 q152) rfl rfl (by decide +kernel) ⟨Nat.le_of_ble_eq_true rfl, Nat.le_of_ble_eq_true rfl⟩ hK hP hD hS hA hl.1 rfl (Nat.le_of_ble_eq_true rfl) dL_law_489 ⟨Nat.le_refl _, Nat.le_refl _⟩ (fun r1 u1 H locs hw1 hP hD hS => ?_)
  rw [hw1.1] at hP hD
  refine lv_aload_n hx hb dL_law_492 rfl (lv_at hl 2 rfl) ?_
  refine lv_aload_n hx hb dL_law_493 rfl (lv_at hl 0 rfl) ?_
  refine lv_iload_n hx hb dL_law_494 rfl (lv_at hl 3 rfl) ?_
  refine lv_iconst (v := 1) hx hb dL_law_495 (by decide) ?_
  refine lv_iadd hx hb dL_law_496 ?_
  refine w_ti (y := nI (j + 1)) (nI_add j 1) ?_
  refine n_sld hx hb hX hbl hbA hS (by omega) (by omega) dL_law_497 ?_
  refine lv_aload_n hx hb dL_law_498 rfl (lv_at hl 0 rfl) ?_
  refine lv_iload_n hx hb dL_law_499 rfl (lv_at hl 3 rfl) ?_
  refine lv_iconst (v := 2) hx hb dL_law_500 (by decide) ?_
  refine lv_iadd hx hb dL_law_501 ?_
  refine w_ti (y := nI (j + 2)) (nI_add j 2) ?_
  refine n_sld hx hb hX hbl hbA hS (by omega) (by omega) dL_law_502 ?_
  refine lcallM (n := 2) (As := [.int (xs (j + 1)), .int (xs (j + 2))]) (rest := [.int r1]) ⟨hx, hb, hml, hown, hts⟩ (mM_linkOf l D G ad' z (xs (j + 1)) (xs (j + 2)) gz) (lw_V q276 q277 q278 q16 q279) rfl rfl (by decide +kernel) ⟨Nat.le_of_ble_eq_true rfl, Nat.le_of_ble_eq_true rfl⟩ hK hP hD hS hA hl.1 rfl (Nat.le_of_ble_eq_true rfl) dL_law_503 ⟨Nat.le_refl _, Nat.le_refl _⟩ (fun r2 u2 H locs hw2 hP hD hS => ?_)
  rw [hw2.1] at hP hD
  have hs : r1 = r2 ∧ Inv x z := ⟨vf_eq hw1.2 hw2.2 (fun a b ga gb => link_same hI ga gb), hI⟩
  exact lv_icmp_eq (tgt := 613) hx hb dL_law_506 (by decide) (fun _ => kb _ _ _ _ _ hs.2 hP hD hS hl) (fun q => absurd hs.1 q)
set_option maxHeartbeats 4000000 in
/-- the law's case rows -/
theorem law_rows {p : Program} {l : Launch} {e : Env} {s : State} {m : MethodId} {below : List Frame} {meth : Method} {c : Code} {D : va_G} {G : ClassId × ClassId} {ad ad' : Nat → Nat} {b L : Nat} {xs : Nat → Int32} (hL : L ≤ 256) (C0 : lw_At p s m meth c b L xs) (hK : va_K D vwCl (tyz G) s) {j : Nat} (hj : j + 4 ≤ L) {x z : TS} (hI : Inv x z) (kb : ∀ (x z : TS) (H : Heap) (locs : List Loc) (ls : Array Slot), Inv x z → va_P D vwCl (wl G ad ad' x z) H → va_D (fun q : Nat => s.heap.size ≤ q) (wl G ad ad' x z) → va_S (fun q : Nat => s.heap.size ≤ q) s.heap H locs → lv_has ls 4 [(0, .ref b), (1, .ref (ad 0)), (2, .ref (ad' 0)), (3, .int (nI j))] → W p l e room_1 s m #[Value.ref b] below meth c H locs 600000 7290000 (lw_Z below #[Value.ref b] s) (F0 m 613 ls [])) (H : Heap) (locs : List Loc) (ls : Array Slot) (hP : va_P D vwCl (wl G ad ad' x z) H) (hD : va_D (fun q : Nat => s.heap.size ≤ q) (wl G ad ad' x z)) (hS : va_S (fun q : Nat => s.heap.size ≤ q) s.heap H locs) (hl : lv_has ls 4 [(0, .ref b), (1, .ref (ad 0)), (2, .ref (ad' 0)), (3, .int (nI j))]) : W p l e room_1 s m #[Value.ref b] below meth c H locs 600000 7290000 (lw_Z below #[Value.ref b] s) (F0 m 511 ls []) := by
  obtain ⟨hx, hb, hr, hml, hown, hts0, hX, hbl, hlocks, hgv⟩ := C0
  have hts : ∀ w ∈ lw_all, w.before #[Value.ref b] s = true := fun w h => hts0 w (lw_all_tbl h)
  have hA : ∀ q : Nat, s.heap.size ≤ q → (fun q : Nat => s.heap.size ≤ q) q := fun _ h => h
  have hbA : ¬ (fun q : Nat => s.heap.size ≤ q) b := Nat.not_le.mpr hbl
  have gx := Inv_n hI
  have gz : z.1 ≤ 60 := hI.1.1
  have hwf := Inv_w hI
  have hwl := Inv_l hI
  refine lv_aload_n hx hb dL_law_511 rfl (lv_at hl 1 rfl) ?_
  refine lv_aload_n hx hb dL_law_512 rfl (lv_at hl 0 rfl) ?_
  refine lv_iload_n hx hb dL_law_513 rfl (lv_at hl 3 rfl) ?_
  refine lv_iconst (v := 1) hx hb dL_law_514 (by decide) ?_
  refine lv_iadd hx hb dL_law_515 ?_
  refine w_ti (y := nI (j + 1)) (nI_add j 1) ?_
  refine n_sld hx hb hX hbl hbA hS (by omega) (by omega) dL_law_516 ?_
  refine lcallX (n := 1) (As := [.int (xs (j + 1))]) (rest := []) ⟨hx, hb, hml, hown, hts⟩ (mX_rows l D G ad x (xs (j + 1)) ) (lw_V q153 q154 q155 q15 q156) rfl rfl (by decide +kernel) ⟨Nat.le_of_ble_eq_true rfl, Nat.le_of_ble_eq_true rfl⟩ hK hP hD hS hA hl.1 rfl (Nat.le_of_ble_eq_true rfl) dL_law_517 ⟨Nat.le_refl _, Nat.le_refl _⟩ (fun r1 u1 H locs hw1 hP hD hS => ?_)
  rw [hw1.1] at hP hD
  refine lv_aload_n hx hb dL_law_520 rfl (lv_at hl 2 rfl) ?_
  refine lv_aload_n hx hb dL_law_521 rfl (lv_at hl 0 rfl) ?_
  refine lv_iload_n hx hb dL_law_522 rfl (lv_at hl 3 rfl) ?_
  refine lv_iconst (v := 1) hx hb dL_law_523 (by decide) ?_
  refine lv_iadd hx hb dL_law_524 ?_
  refine w_ti (y := nI (j + 1)) (nI_add j 1) ?_
  refine n_sld hx hb hX hbl hbA hS (by omega) (by omega) dL_law_525 ?_
  refine lcallM (n := 1) (As := [.int (xs (j + 1))]) (rest := [.int r1]) ⟨hx, hb, hml, hown, hts⟩ (mM_rows l D G ad' z (xs (j + 1)) gz) (lw_V q280 q281 q282 q16 q283) rfl rfl (by decide +kernel) ⟨Nat.le_of_ble_eq_true rfl, Nat.le_of_ble_eq_true rfl⟩ hK hP hD hS hA hl.1 rfl (Nat.le_of_ble_eq_true rfl) dL_law_526 ⟨Nat.le_refl _, Nat.le_refl _⟩ (fun r2 u2 H locs hw2 hP hD hS => ?_)
  rw [hw2.1] at hP hD
  have hs : r1 = r2 ∧ Inv x z := ⟨vg_eq hw1.2 hw2.2 (fun a ga => rows_same hI ga 8 (Nat.le_refl _)), hI⟩
  exact lv_icmp_eq (tgt := 613) hx hb dL_law_529 (by decide) (fun _ => kb _ _ _ _ _ hs.2 hP hD hS hl) (fun q => absurd hs.1 q)
set_option maxHeartbeats 4000000 in
/-- the law's case sum -/
theorem law_sum {p : Program} {l : Launch} {e : Env} {s : State} {m : MethodId} {below : List Frame} {meth : Method} {c : Code} {D : va_G} {G : ClassId × ClassId} {ad ad' : Nat → Nat} {b L : Nat} {xs : Nat → Int32} (hL : L ≤ 256) (C0 : lw_At p s m meth c b L xs) (hK : va_K D vwCl (tyz G) s) {j : Nat} (hj : j + 4 ≤ L) {x z : TS} (hI : Inv x z) (kb : ∀ (x z : TS) (H : Heap) (locs : List Loc) (ls : Array Slot), Inv x z → va_P D vwCl (wl G ad ad' x z) H → va_D (fun q : Nat => s.heap.size ≤ q) (wl G ad ad' x z) → va_S (fun q : Nat => s.heap.size ≤ q) s.heap H locs → lv_has ls 4 [(0, .ref b), (1, .ref (ad 0)), (2, .ref (ad' 0)), (3, .int (nI j))] → W p l e room_1 s m #[Value.ref b] below meth c H locs 600000 7290000 (lw_Z below #[Value.ref b] s) (F0 m 613 ls [])) (H : Heap) (locs : List Loc) (ls : Array Slot) (hP : va_P D vwCl (wl G ad ad' x z) H) (hD : va_D (fun q : Nat => s.heap.size ≤ q) (wl G ad ad' x z)) (hS : va_S (fun q : Nat => s.heap.size ≤ q) s.heap H locs) (hl : lv_has ls 4 [(0, .ref b), (1, .ref (ad 0)), (2, .ref (ad' 0)), (3, .int (nI j))]) : W p l e room_1 s m #[Value.ref b] below meth c H locs 600000 7290000 (lw_Z below #[Value.ref b] s) (F0 m 534 ls []) := by
  obtain ⟨hx, hb, hr, hml, hown, hts0, hX, hbl, hlocks, hgv⟩ := C0
  have hts : ∀ w ∈ lw_all, w.before #[Value.ref b] s = true := fun w h => hts0 w (lw_all_tbl h)
  have hA : ∀ q : Nat, s.heap.size ≤ q → (fun q : Nat => s.heap.size ≤ q) q := fun _ h => h
  have hbA : ¬ (fun q : Nat => s.heap.size ≤ q) b := Nat.not_le.mpr hbl
  have gx := Inv_n hI
  have gz : z.1 ≤ 60 := hI.1.1
  have hwf := Inv_w hI
  have hwl := Inv_l hI
  refine lv_aload_n hx hb dL_law_534 rfl (lv_at hl 1 rfl) ?_
  refine lv_aload_n hx hb dL_law_535 rfl (lv_at hl 0 rfl) ?_
  refine lv_iload_n hx hb dL_law_536 rfl (lv_at hl 3 rfl) ?_
  refine lv_iconst (v := 1) hx hb dL_law_537 (by decide) ?_
  refine lv_iadd hx hb dL_law_538 ?_
  refine w_ti (y := nI (j + 1)) (nI_add j 1) ?_
  refine n_sld hx hb hX hbl hbA hS (by omega) (by omega) dL_law_539 ?_
  refine lcallX (n := 1) (As := [.int (xs (j + 1))]) (rest := []) ⟨hx, hb, hml, hown, hts⟩ (mX_sum l D G ad x (xs (j + 1)) ) (lw_V q157 q158 q159 q15 q160) rfl rfl (by decide +kernel) ⟨Nat.le_of_ble_eq_true rfl, Nat.le_of_ble_eq_true rfl⟩ hK hP hD hS hA hl.1 rfl (Nat.le_of_ble_eq_true rfl) dL_law_540 ⟨Nat.le_refl _, Nat.le_refl _⟩ (fun r1 u1 H locs hw1 hP hD hS => ?_)
  rw [hw1.1] at hP hD
  refine lv_aload_n hx hb dL_law_543 rfl (lv_at hl 2 rfl) ?_
  refine lv_aload_n hx hb dL_law_544 rfl (lv_at hl 0 rfl) ?_
  refine lv_iload_n hx hb dL_law_545 rfl (lv_at hl 3 rfl) ?_
  refine lv_iconst (v := 1) hx hb dL_law_546 (by decide) ?_
  refine lv_iadd hx hb dL_law_547 ?_
  refine w_ti (y := nI (j + 1)) (nI_add j 1) ?_
  refine n_sld hx hb hX hbl hbA hS (by omega) (by omega) dL_law_548 ?_
  refine lcallM (n := 1) (As := [.int (xs (j + 1))]) (rest := [.int r1]) ⟨hx, hb, hml, hown, hts⟩ (mM_sum l D G ad' z (xs (j + 1)) gz) (lw_V q284 q285 q286 q16 q287) rfl rfl (by decide +kernel) ⟨Nat.le_of_ble_eq_true rfl, Nat.le_of_ble_eq_true rfl⟩ hK hP hD hS hA hl.1 rfl (Nat.le_of_ble_eq_true rfl) dL_law_549 ⟨Nat.le_refl _, Nat.le_refl _⟩ (fun r2 u2 H locs hw2 hP hD hS => ?_)
  rw [hw2.1] at hP hD
  have hs : r1 = r2 ∧ Inv x z := ⟨vg_eq hw1.2 hw2.2 (fun a ga => sum8_same hI ga 8 (Nat.le_refl _)), hI⟩
  exact lv_icmp_eq (tgt := 613) hx hb dL_law_552 (by decide) (fun _ => kb _ _ _ _ _ hs.2 hP hD hS hl) (fun q => absurd hs.1 q)
set_option maxHeartbeats 4000000 in
/-- the law's case known -/
theorem law_known {p : Program} {l : Launch} {e : Env} {s : State} {m : MethodId} {below : List Frame} {meth : Method} {c : Code} {D : va_G} {G : ClassId × ClassId} {ad ad' : Nat → Nat} {b L : Nat} {xs : Nat → Int32} (hL : L ≤ 256) (C0 : lw_At p s m meth c b L xs) (hK : va_K D vwCl (tyz G) s) {j : Nat} (hj : j + 4 ≤ L) {x z : TS} (hI : Inv x z) (kb : ∀ (x z : TS) (H : Heap) (locs : List Loc) (ls : Array Slot), Inv x z → va_P D vwCl (wl G ad ad' x z) H → va_D (fun q : Nat => s.heap.size ≤ q) (wl G ad ad' x z) → va_S (fun q : Nat => s.heap.size ≤ q) s.heap H locs → lv_has ls 4 [(0, .ref b), (1, .ref (ad 0)), (2, .ref (ad' 0)), (3, .int (nI j))] → W p l e room_1 s m #[Value.ref b] below meth c H locs 600000 7290000 (lw_Z below #[Value.ref b] s) (F0 m 613 ls [])) (H : Heap) (locs : List Loc) (ls : Array Slot) (hP : va_P D vwCl (wl G ad ad' x z) H) (hD : va_D (fun q : Nat => s.heap.size ≤ q) (wl G ad ad' x z)) (hS : va_S (fun q : Nat => s.heap.size ≤ q) s.heap H locs) (hl : lv_has ls 4 [(0, .ref b), (1, .ref (ad 0)), (2, .ref (ad' 0)), (3, .int (nI j))]) : W p l e room_1 s m #[Value.ref b] below meth c H locs 600000 7290000 (lw_Z below #[Value.ref b] s) (F0 m 557 ls []) := by
  obtain ⟨hx, hb, hr, hml, hown, hts0, hX, hbl, hlocks, hgv⟩ := C0
  have hts : ∀ w ∈ lw_all, w.before #[Value.ref b] s = true := fun w h => hts0 w (lw_all_tbl h)
  have hA : ∀ q : Nat, s.heap.size ≤ q → (fun q : Nat => s.heap.size ≤ q) q := fun _ h => h
  have hbA : ¬ (fun q : Nat => s.heap.size ≤ q) b := Nat.not_le.mpr hbl
  have gx := Inv_n hI
  have gz : z.1 ≤ 60 := hI.1.1
  have hwf := Inv_w hI
  have hwl := Inv_l hI
  refine lv_aload_n hx hb dL_law_557 rfl (lv_at hl 1 rfl) ?_
  refine lv_aload_n hx hb dL_law_558 rfl (lv_at hl 0 rfl) ?_
  refine lv_iload_n hx hb dL_law_559 rfl (lv_at hl 3 rfl) ?_
  refine lv_iconst (v := 1) hx hb dL_law_560 (by decide) ?_
  refine lv_iadd hx hb dL_law_561 ?_
  refine w_ti (y := nI (j + 1)) (nI_add j 1) ?_
  refine n_sld hx hb hX hbl hbA hS (by omega) (by omega) dL_law_562 ?_
  refine lcallX (n := 1) (As := [.int (xs (j + 1))]) (rest := []) ⟨hx, hb, hml, hown, hts⟩ (mX_known l D G ad x (xs (j + 1)) gx) (lw_V q162 q163 q164 q15 q165) rfl rfl (by decide +kernel) ⟨Nat.le_of_ble_eq_true rfl, Nat.le_of_ble_eq_true rfl⟩ hK hP hD hS hA hl.1 rfl (Nat.le_of_ble_eq_true rfl) dL_law_563 ⟨Nat.le_refl _, Nat.le_refl _⟩ (fun r1 u1 H locs hw1 hP hD hS => ?_)
  rw [hw1.1] at hP hD
  refine lv_aload_n hx hb dL_law_566 rfl (lv_at hl 2 rfl) ?_
  refine lv_aload_n hx hb dL_law_567 rfl (lv_at hl 0 rfl) ?_
  refine lv_iload_n hx hb dL_law_568 rfl (lv_at hl 3 rfl) ?_
  refine lv_iconst (v := 1) hx hb dL_law_569 (by decide) ?_
  refine lv_iadd hx hb dL_law_570 ?_
  refine w_ti (y := nI (j + 1)) (nI_add j 1) ?_
  refine n_sld hx hb hX hbl hbA hS (by omega) (by omega) dL_law_571 ?_
  refine lcallM (n := 1) (As := [.int (xs (j + 1))]) (rest := [.int r1]) ⟨hx, hb, hml, hown, hts⟩ (mM_known l D G ad' z (xs (j + 1)) gz) (lw_V q289 q290 q291 q16 q292) rfl rfl (by decide +kernel) ⟨Nat.le_of_ble_eq_true rfl, Nat.le_of_ble_eq_true rfl⟩ hK hP hD hS hA hl.1 rfl (Nat.le_of_ble_eq_true rfl) dL_law_572 ⟨Nat.le_refl _, Nat.le_refl _⟩ (fun r2 u2 H locs hw2 hP hD hS => ?_)
  rw [hw2.1] at hP hD
  have hs : r1 = r2 ∧ Inv x z := ⟨vg_eq hw1.2 hw2.2 (fun a ga => by rw [hI.2.1.1.1]; exact known_same hI a _), hI⟩
  exact lv_icmp_eq (tgt := 613) hx hb dL_law_575 (by decide) (fun _ => kb _ _ _ _ _ hs.2 hP hD hS hl) (fun q => absurd hs.1 q)
set_option maxHeartbeats 4000000 in
/-- the law's case agree -/
theorem law_agree {p : Program} {l : Launch} {e : Env} {s : State} {m : MethodId} {below : List Frame} {meth : Method} {c : Code} {D : va_G} {G : ClassId × ClassId} {ad ad' : Nat → Nat} {b L : Nat} {xs : Nat → Int32} (hL : L ≤ 256) (C0 : lw_At p s m meth c b L xs) (hK : va_K D vwCl (tyz G) s) {j : Nat} (hj : j + 4 ≤ L) {x z : TS} (hI : Inv x z) (kb : ∀ (x z : TS) (H : Heap) (locs : List Loc) (ls : Array Slot), Inv x z → va_P D vwCl (wl G ad ad' x z) H → va_D (fun q : Nat => s.heap.size ≤ q) (wl G ad ad' x z) → va_S (fun q : Nat => s.heap.size ≤ q) s.heap H locs → lv_has ls 4 [(0, .ref b), (1, .ref (ad 0)), (2, .ref (ad' 0)), (3, .int (nI j))] → W p l e room_1 s m #[Value.ref b] below meth c H locs 600000 7290000 (lw_Z below #[Value.ref b] s) (F0 m 613 ls [])) (H : Heap) (locs : List Loc) (ls : Array Slot) (hP : va_P D vwCl (wl G ad ad' x z) H) (hD : va_D (fun q : Nat => s.heap.size ≤ q) (wl G ad ad' x z)) (hS : va_S (fun q : Nat => s.heap.size ≤ q) s.heap H locs) (hl : lv_has ls 4 [(0, .ref b), (1, .ref (ad 0)), (2, .ref (ad' 0)), (3, .int (nI j))]) : W p l e room_1 s m #[Value.ref b] below meth c H locs 600000 7290000 (lw_Z below #[Value.ref b] s) (F0 m 580 ls []) := by
  obtain ⟨hx, hb, hr, hml, hown, hts0, hX, hbl, hlocks, hgv⟩ := C0
  have hts : ∀ w ∈ lw_all, w.before #[Value.ref b] s = true := fun w h => hts0 w (lw_all_tbl h)
  have hA : ∀ q : Nat, s.heap.size ≤ q → (fun q : Nat => s.heap.size ≤ q) q := fun _ h => h
  have hbA : ¬ (fun q : Nat => s.heap.size ≤ q) b := Nat.not_le.mpr hbl
  have gx := Inv_n hI
  have gz : z.1 ≤ 60 := hI.1.1
  have hwf := Inv_w hI
  have hwl := Inv_l hI
  refine lv_aload_n hx hb dL_law_580 rfl (lv_at hl 1 rfl) ?_
  refine lv_aload_n hx hb dL_law_581 rfl (lv_at hl 0 rfl) ?_
  refine lv_iload_n hx hb dL_law_582 rfl (lv_at hl 3 rfl) ?_
  refine lv_iconst (v := 1) hx hb dL_law_583 (by decide) ?_
  refine lv_iadd hx hb dL_law_584 ?_
  refine w_ti (y := nI (j + 1)) (nI_add j 1) ?_
  refine n_sld hx hb hX hbl hbA hS (by omega) (by omega) dL_law_585 ?_
  refine lv_aload_n hx hb dL_law_586 rfl (lv_at hl 0 rfl) ?_
  refine lv_iload_n hx hb dL_law_587 rfl (lv_at hl 3 rfl) ?_
  refine lv_iconst (v := 2) hx hb dL_law_588 (by decide) ?_
  refine lv_iadd hx hb dL_law_589 ?_
  refine w_ti (y := nI (j + 2)) (nI_add j 2) ?_
  refine n_sld hx hb hX hbl hbA hS (by omega) (by omega) dL_law_590 ?_
  refine lcallX (n := 2) (As := [.int (xs (j + 1)), .int (xs (j + 2))]) (rest := []) ⟨hx, hb, hml, hown, hts⟩ (mX_agree l D G ad x (xs (j + 1)) (xs (j + 2)) hwf hwl) (lw_V q166 q167 q168 q15 q169) rfl rfl (by decide +kernel) ⟨Nat.le_of_ble_eq_true rfl, Nat.le_of_ble_eq_true rfl⟩ hK hP hD hS hA hl.1 rfl (Nat.le_of_ble_eq_true rfl) dL_law_591 ⟨Nat.le_refl _, Nat.le_refl _⟩ (fun r1 u1 H locs hw1 hP hD hS => ?_)
  rw [hw1.1] at hP hD
  refine lv_aload_n hx hb dL_law_594 rfl (lv_at hl 2 rfl) ?_
  refine lv_aload_n hx hb dL_law_595 rfl (lv_at hl 0 rfl) ?_
  refine lv_iload_n hx hb dL_law_596 rfl (lv_at hl 3 rfl) ?_
  refine lv_iconst (v := 1) hx hb dL_law_597 (by decide) ?_
  refine lv_iadd hx hb dL_law_598 ?_
  refine w_ti (y := nI (j + 1)) (nI_add j 1) ?_
  refine n_sld hx hb hX hbl hbA hS (by omega) (by omega) dL_law_599 ?_
  refine lv_aload_n hx hb dL_law_600 rfl (lv_at hl 0 rfl) ?_
  refine lv_iload_n hx hb dL_law_601 rfl (lv_at hl 3 rfl) ?_
  refine lv_iconst (v := 2) hx hb dL_law_602 (by decide) ?_
  refine lv_iadd hx hb dL_law_603 ?_
  refine w_ti (y := nI (j + 2)) (nI_add j 2) ?_
  refine n_sld hx hb hX hbl hbA hS (by omega) (by omega) dL_law_604 ?_
  refine lcallM (n := 2) (As := [.int (xs (j + 1)), .int (xs (j + 2))]) (rest := [.int r1]) ⟨hx, hb, hml, hown, hts⟩ (mM_agree l D G ad' z (xs (j + 1)) (xs (j + 2)) gz) (lw_V q293 q294 q295 q16 q296) rfl rfl (by decide +kernel) ⟨Nat.le_of_ble_eq_true rfl, Nat.le_of_ble_eq_true rfl⟩ hK hP hD hS hA hl.1 rfl (Nat.le_of_ble_eq_true rfl) dL_law_605 ⟨Nat.le_refl _, Nat.le_refl _⟩ (fun r2 u2 H locs hw2 hP hD hS => ?_)
  rw [hw2.1] at hP hD
  have hs : r1 = r2 ∧ Inv x z := ⟨vf_eq hw1.2 hw2.2 (fun a b ga gb => agree_same hI ga gb), hI⟩
  exact lv_icmp_eq (tgt := 613) hx hb dL_law_608 (by decide) (fun _ => kb _ _ _ _ _ hs.2 hP hD hS hl) (fun q => absurd hs.1 q)
end
section
/-! THE LAW: its loop, and its start -/
set_option maxRecDepth 100000
theorem law_more {j L : Nat} (hj : j ≤ L) (hL : L ≤ 256) (h : ¬ Int32.ofNat L - 4 < nI j) : j + 4 ≤ L := by
  have h1 : ¬ (nI L - nI 4 < nI j) := h
  rw [Int32.lt_iff_toInt_lt, pk_sub_toInt (by omega) (by decide), nI_toInt (by omega)] at h1
  omega
set_option maxHeartbeats 8000000 in
/-- the law's loop: at its head, j ints read, the two tables tied -/
theorem law_loop {p : Program} {l : Launch} {e : Env} {s : State} {m : MethodId} {below : List Frame} {meth : Method} {c : Code} {D : va_G} {G : ClassId × ClassId} {ad ad' : Nat → Nat} {b L : Nat} {xs : Nat → Int32} (hL : L ≤ 256) (C0 : lw_At p s m meth c b L xs) (hK : va_K D vwCl (tyz G) s) : ∀ (n j : Nat), j ≤ L → L + 4 ≤ j + 4 * n → ∀ (x z : TS) (H : Heap) (locs : List Loc) (ls : Array Slot), Inv x z → va_P D vwCl (wl G ad ad' x z) H → va_D (fun q : Nat => s.heap.size ≤ q) (wl G ad ad' x z) → va_S (fun q : Nat => s.heap.size ≤ q) s.heap H locs → lv_has ls 4 [(0, .ref b), (1, .ref (ad 0)), (2, .ref (ad' 0)), (3, .int (nI j))] → W p l e room_1 s m #[Value.ref b] below meth c H locs 600000 7290000 (lw_Z below #[Value.ref b] s) (F0 m 18 ls []) := by
  obtain ⟨hx, hb, hr, hml, hown, hts0, hX, hbl, hlocks, hgv⟩ := id C0
  have hbA : ¬ (fun q : Nat => s.heap.size ≤ q) b := Nat.not_le.mpr hbl
  intro n
  induction n with
  | zero =>
    intro j h1 h2
    exact absurd h2 (by omega)
  | succ n ih =>
    intro j hj hn x z H locs ls hI hP hD hS hl
    refine lv_iload_n hx hb dL_law_18 rfl (lv_at hl 3 rfl) ?_
    refine lv_aload_n hx hb dL_law_19 rfl (lv_at hl 0 rfl) ?_
    refine va_slen hx hb hX hbl hbA hS dL_law_20 ?_
    refine lv_iconst (v := 4) hx hb dL_law_21 (by decide) ?_
    refine lv_isub hx hb dL_law_22 ?_
    refine lv_icmp_gt (tgt := 619) hx hb dL_law_23 (by decide) (fun _ => ?_) (fun c23 => ?_)
    · refine lv_iconst (v := 1) hx hb dL_law_619 (by decide) ?_
      refine va_forget (fun q hq => hS.2.2 q hq) ?_
      exact lw_ret hx hb hr hlocks dL_law_620
    · have hj4 := law_more hj hL c23
      have kb : ∀ (x z : TS) (H : Heap) (locs : List Loc) (ls : Array Slot), Inv x z → va_P D vwCl (wl G ad ad' x z) H → va_D (fun q : Nat => s.heap.size ≤ q) (wl G ad ad' x z) → va_S (fun q : Nat => s.heap.size ≤ q) s.heap H locs → lv_has ls 4 [(0, .ref b), (1, .ref (ad 0)), (2, .ref (ad' 0)), (3, .int (nI j))] → W p l e room_1 s m #[Value.ref b] below meth c H locs 600000 7290000 (lw_Z below #[Value.ref b] s) (F0 m 613 ls []) := by
        intro x z H locs ls hI hP hD hS hl
        refine lv_iinc (v := nI (j + 4)) (lv' := [(3, .int (nI (j + 4))), (0, .ref b), (1, .ref (ad 0)), (2, .ref (ad' 0))]) hx hb dL_law_613 hl (k := 3) rfl (nI_add j 4) (by decide) rfl (fun ls hl => ?_)
        refine lv_goto (tgt := 18) hx hb dL_law_616 (by decide) ?_
        exact ih (j + 4) (by omega) (by omega) x z H locs ls hI hP hD hS (lv_sub hl [1, 2, 3, 0] rfl)
      refine lv_aload_n hx hb dL_law_26 rfl (lv_at hl 0 rfl) ?_
      refine lv_iload_n hx hb dL_law_27 rfl (lv_at hl 3 rfl) ?_
      refine n_sld hx hb hX hbl hbA hS (by omega) (by omega) dL_law_28 ?_
      refine lv_bipush (v := 15) hx hb dL_law_29 (by decide) ?_
      refine lv_iand hx hb dL_law_31 ?_
      obtain ⟨k, gk, ek⟩ := pk_andE (xs j) (m := 15) 4 (by decide)
      refine w_ti ek ?_
      have hk : k = 0 ∨ k = 1 ∨ k = 2 ∨ k = 3 ∨ k = 4 ∨ k = 5 ∨ k = 6 ∨ k = 7 ∨ k = 8 ∨ k = 9 ∨ k = 10 ∨ k = 11 ∨ k = 12 ∨ k = 13 ∨ k = 14 ∨ k = 15 := by omega
      rcases hk with rfl | rfl | rfl | rfl | rfl | rfl | rfl | rfl | rfl | rfl | rfl | rfl | rfl | rfl | rfl | rfl
      · refine lv_tableIn (tgt := 108) hx hb dL_law_32 (by decide) (by decide) rfl (by decide) ?_
        exact law_add hL C0 hK hj4 hI kb H locs ls hP hD hS hl
      · refine lv_tableIn (tgt := 141) hx hb dL_law_32 (by decide) (by decide) rfl (by decide) ?_
        exact law_drop hL C0 hK hj4 hI kb H locs ls hP hD hS hl
      · refine lv_tableIn (tgt := 174) hx hb dL_law_32 (by decide) (by decide) rfl (by decide) ?_
        exact law_name hL C0 hK hj4 hI kb H locs ls hP hD hS hl
      · refine lv_tableIn (tgt := 217) hx hb dL_law_32 (by decide) (by decide) rfl (by decide) ?_
        exact law_count hL C0 hK hj4 hI kb H locs ls hP hD hS hl
      · refine lv_tableIn (tgt := 260) hx hb dL_law_32 (by decide) (by decide) rfl (by decide) ?_
        exact law_link hL C0 hK hj4 hI kb H locs ls hP hD hS hl
      · refine lv_tableIn (tgt := 303) hx hb dL_law_32 (by decide) (by decide) rfl (by decide) ?_
        exact law_learn hL C0 hK hj4 hI kb H locs ls hP hD hS hl
      · refine lv_tableIn (tgt := 336) hx hb dL_law_32 (by decide) (by decide) rfl (by decide) ?_
        exact law_learnSome hL C0 hK hj4 hI kb H locs ls hP hD hS hl
      · refine lv_tableIn (tgt := 379) hx hb dL_law_32 (by decide) (by decide) rfl (by decide) ?_
        exact law_there hL C0 hK hj4 hI kb H locs ls hP hD hS hl
      · refine lv_tableIn (tgt := 412) hx hb dL_law_32 (by decide) (by decide) rfl (by decide) ?_
        exact law_nameOf hL C0 hK hj4 hI kb H locs ls hP hD hS hl
      · refine lv_tableIn (tgt := 445) hx hb dL_law_32 (by decide) (by decide) rfl (by decide) ?_
        exact law_countOf hL C0 hK hj4 hI kb H locs ls hP hD hS hl
      · refine lv_tableIn (tgt := 478) hx hb dL_law_32 (by decide) (by decide) rfl (by decide) ?_
        exact law_linkOf hL C0 hK hj4 hI kb H locs ls hP hD hS hl
      · refine lv_tableIn (tgt := 511) hx hb dL_law_32 (by decide) (by decide) rfl (by decide) ?_
        exact law_rows hL C0 hK hj4 hI kb H locs ls hP hD hS hl
      · refine lv_tableIn (tgt := 534) hx hb dL_law_32 (by decide) (by decide) rfl (by decide) ?_
        exact law_sum hL C0 hK hj4 hI kb H locs ls hP hD hS hl
      · refine lv_tableIn (tgt := 557) hx hb dL_law_32 (by decide) (by decide) rfl (by decide) ?_
        exact law_known hL C0 hK hj4 hI kb H locs ls hP hD hS hl
      · refine lv_tableIn (tgt := 580) hx hb dL_law_32 (by decide) (by decide) rfl (by decide) ?_
        exact law_agree hL C0 hK hj4 hI kb H locs ls hP hD hS hl
      · refine lv_tableOut (tgt := 613) hx hb dL_law_32 (by decide) (by decide) ?_
        exact kb x z H locs ls hI hP hD hS hl
theorem arr_known {s : State} {args : Array Value} {ty : FieldType} (h : (Cond.arrayClass ty).before args s = true) : ∃ cA : ClassId, ArrOfT s cA ty ∧ s.vm.findClass ("[" ++ ty.toString) = some cA := by
  obtain ⟨cA, kA, comp, h1, h2, h3⟩ := Cond.arrayClass_spec h
  exact ⟨cA, fun n z => ⟨fun k h => (by cases h), kA, h2, comp, h3⟩, h1⟩
set_option maxHeartbeats 8000000 in
/-- THE LAW, from its entry -/
theorem whole_start {p : Program} {e : Env} {s : State} {m : MethodId} {below : List Frame} {meth : Method} {c : Code} (l : Launch) {b L : Nat} {xs : Nat → Int32} (hL : L ≤ 256) (C0 : lw_At p s m meth c b L xs) : W p l e room_1 s m #[Value.ref b] below meth c s.heap [] 0 0 (lw_Z below #[Value.ref b] s) (entryFrame m ([Value.ref b] : List Value).toArray 4) := by
  obtain ⟨hx, hb, hr, hml, hown, hts0, hX, hbl, hlocks, hgv⟩ := id C0
  have hts : ∀ w ∈ lw_all, w.before #[Value.ref b] s = true := fun w h => hts0 w (lw_all_tbl h)
  have hA : ∀ q : Nat, s.heap.size ≤ q → (fun q : Nat => s.heap.size ≤ q) q := fun _ h => h
  obtain ⟨c0, iS0, hKn0⟩ := u_known (C := RX0) (T := TX0) (N := 15) (n := 15) hts in_X0 (hts _ q18)
  obtain ⟨c1, iS1, hKn1⟩ := u_known (C := RX1) (T := TX1) (N := 9) (n := 9) hts in_X1 (hts _ q177)
  obtain ⟨D, hKc⟩ : ∃ D : va_G, ∀ (k : Nat) (q : vw_C), vwCl[k]? = some q → u_Kn s q.1 q.2.1 q.2.2 (D.1 k) (D.2 k) := by
    refine ⟨(fun k => if k = 0 then c0 else c1, fun k => if k = 0 then iS0 else iS1), ?_⟩
    intro k q hq
    match k, hq with
    | 0, hq => cases hq; exact hKn0
    | 1, hq => cases hq; exact hKn1
    | k + 2, hq => simp [vwCl] at hq
  obtain ⟨cI, hI1, hI2⟩ := arr_known (hts _ q71)
  obtain ⟨cJ, hJ1, hJ2⟩ := arr_known (hts _ q72)
  have hK : va_K D vwCl (tyz (cI, cJ)) s := by
    refine ⟨hKc, fun k q h => ?_⟩
    match k, h with
    | 0, h => cases h; exact ⟨hI1, hI2⟩
    | 1, h => cases h; exact ⟨hJ1, hJ2⟩
    | k + 2, h => simp at h
  generalize (cI, cJ) = G at hK
  have hS : va_S (fun q : Nat => s.heap.size ≤ q) s.heap s.heap [] := va_S.rf
  have hP : va_P D vwCl [] s.heap := fun k q h => by simp at h
  have hD : va_D (fun q : Nat => s.heap.size ≤ q) [] := ⟨fun i j p q h => by simp at h, fun k q h => by simp at h⟩
  have hl := lv_entry ([.ref b]) (n := 4) (Nat.le_of_ble_eq_true rfl)
  rw [lg_entry_eq]
  generalize (lg_sl ([.ref b]) ++ List.replicate (4 - (lg_sl ([.ref b])).length) Slot.unset).toArray = ls at hl ⊢
  have hl : lv_has ls 4 [(0, .ref b)] := hl
  refine va_new (ci := 0) (fs := [.int 0, .null, .null, .null, .null, .null, .null, .null, .null, .null, .null, .null, .null, .null, .null]) (C := RX0) (T := TX0) (N := 15) hx hb hts in_X0 tyX0 tyX0_ok hown (hts _ q17) (hts _ q18) (hts _ q15) hK hP hD hS hA rfl (fun j hj => by rcases (show j = 0 ∨ j = 1 ∨ j = 2 ∨ j = 3 ∨ j = 4 ∨ j = 5 ∨ j = 6 ∨ j = 7 ∨ j = 8 ∨ j = 9 ∨ j = 10 ∨ j = 11 ∨ j = 12 ∨ j = 13 ∨ j = 14 by omega) with rfl | rfl | rfl | rfl | rfl | rfl | rfl | rfl | rfl | rfl | rfl | rfl | rfl | rfl | rfl <;> rfl) (Nat.le_of_ble_eq_true rfl) (Nat.le_of_ble_eq_true rfl) dL_law_0 (fun q0 H hP hD hS => ?_)
  have hP : va_P D vwCl [(q0, .inr (0, [.int 0, .null, .null, .null, .null, .null, .null, .null, .null, .null, .null, .null, .null, .null, .null]))] H := hP
  have hD : va_D (fun q : Nat => s.heap.size ≤ q) [(q0, .inr (0, [.int 0, .null, .null, .null, .null, .null, .null, .null, .null, .null, .null, .null, .null, .null, .null]))] := hD
  refine W.widen (k := 1) (n := 15) (by decide) (by decide) ?_
  refine lv_dup hx hb dL_law_3 rfl ?_
  have hFc := va_free (wc := [(q0, .inr (0, [.int 0, .null, .null, .null, .null, .null, .null, .null, .null, .null, .null, .null, .null, .null, .null]))]) hD hS hA [0] rfl
  refine va_callv (va_runI (As := []) (rest := [.ref q0]) ⟨hx, hb, hml, hown, hts⟩ (mX_init l D G q0 H.size) (cwI 0 hts (lw_meth q21) rfl rfl rfl (hts _ q15) (hts _ q19) (hts _ q20) rfl (by decide +kernel) ⟨Nat.le_of_ble_eq_true rfl, Nat.le_of_ble_eq_true rfl⟩) ⟨fun a U g mk q => by obtain ⟨q0, q1, qP, qK, qD⟩ := q; exact ⟨q0, q1, qP, va_K.moved (u := U) (U := U.calling g mk a) (Vm.Alike.refl U.vm) qK, qD⟩, fun U hU hW => ⟨rfl, by rw [hU], by rw [hU]; exact hP, va_K.moved hW.alike hK, hD.weaken (fun _ _ _ _ => trivial)⟩⟩ rfl rfl hl.1 rfl (lv_room (Nat.le_of_ble_eq_true rfl)) dL_law_4 ⟨Nat.le_of_ble_eq_true rfl, Nat.le_of_ble_eq_true rfl⟩) hS (fun q _ h => hFc q h) hFc (fun u t H1 locs ht hvm hw hB hz1 hk1 hS => ?_)
  obtain ⟨ad, x⟩ := u
  obtain ⟨hP1, hK1, hD1⟩ := hB
  rw [ht] at hP1
  obtain ⟨ea, hIni⟩ := hw
  have ea : ad 0 = q0 := ea
  have hIni : Ini x 24 := hIni
  obtain ⟨hP2, hD2⟩ := va_join (wr := []) (w1 := wx G ad x) hP hD [0] [] rfl rfl (by decide) (by decide) hk1 hFc hP1 hD1
  generalize H1 = H2 at hP2 hS ⊢
  subst ea
  have hP : va_P D vwCl (wx G ad x) H2 := hP2
  have hD : va_D (fun q : Nat => s.heap.size ≤ q) (wx G ad x) := hD2
  refine W.widen (k := 15) (n := 504) (by decide) (by decide) ?_
  refine lv_astore_n (lv' := [(1, .ref (ad 0)), (0, .ref b)]) hx hb dL_law_7 rfl hl (by decide) rfl (fun ls hl => ?_)
  refine va_new (ci := 1) (fs := [.int 0, .null, .null, .null, .null, .null, .null, .null, .null]) (C := RX1) (T := TX1) (N := 9) hx hb hts in_X1 tyX1 tyX1_ok hown (hts _ q176) (hts _ q177) (hts _ q16) hK hP hD hS hA rfl (fun j hj => by rcases (show j = 0 ∨ j = 1 ∨ j = 2 ∨ j = 3 ∨ j = 4 ∨ j = 5 ∨ j = 6 ∨ j = 7 ∨ j = 8 by omega) with rfl | rfl | rfl | rfl | rfl | rfl | rfl | rfl | rfl <;> rfl) (Nat.le_of_ble_eq_true rfl) (Nat.le_of_ble_eq_true rfl) dL_law_8 (fun q1 H hP hD hS => ?_)
  refine W.widen (k := 16) (n := 513) (by decide) (by decide) ?_
  refine lv_dup hx hb dL_law_11 rfl ?_
  have hPc : va_P D vwCl [(q1, .inr (1, [.int 0, .null, .null, .null, .null, .null, .null, .null, .null]))] H := hP.sub [15] rfl
  have hDc : va_D (fun q : Nat => s.heap.size ≤ q) [(q1, .inr (1, [.int 0, .null, .null, .null, .null, .null, .null, .null, .null]))] := hD.sub [15] (by decide) rfl
  have hFc := va_free (wc := [(q1, .inr (1, [.int 0, .null, .null, .null, .null, .null, .null, .null, .null]))]) hD hS hA [15] rfl
  refine va_callv (va_runI (As := []) (rest := [.ref q1]) ⟨hx, hb, hml, hown, hts⟩ (mM_init l D G q1 H.size) (cwI 0 hts (lw_meth q180) rfl rfl rfl (hts _ q16) (hts _ q178) (hts _ q179) rfl (by decide +kernel) ⟨Nat.le_of_ble_eq_true rfl, Nat.le_of_ble_eq_true rfl⟩) ⟨fun a U g mk q => by obtain ⟨q0, q1, qP, qK, qD⟩ := q; exact ⟨q0, q1, qP, va_K.moved (u := U) (U := U.calling g mk a) (Vm.Alike.refl U.vm) qK, qD⟩, fun U hU hW => ⟨rfl, by rw [hU], by rw [hU]; exact hPc, va_K.moved hW.alike hK, hDc.weaken (fun _ _ _ _ => trivial)⟩⟩ rfl rfl hl.1 rfl (lv_room (Nat.le_of_ble_eq_true rfl)) dL_law_12 ⟨Nat.le_of_ble_eq_true rfl, Nat.le_of_ble_eq_true rfl⟩) hS (fun q _ h => hFc q h) hFc (fun u t H1 locs ht hvm hw hB hz1 hk1 hS => ?_)
  obtain ⟨ad', z⟩ := u
  obtain ⟨hP1, hK1, hD1⟩ := hB
  rw [ht] at hP1
  obtain ⟨ea, hz⟩ := hw
  have ea : ad' 0 = q1 := ea
  have hz : z = z00 := hz
  obtain ⟨hP3, hD3⟩ := va_join (wr := wx G ad x) (w1 := wm G ad' z) hP hD [15] [0, 1, 2, 3, 4, 5, 6, 7, 8, 9, 10, 11, 12, 13, 14] rfl rfl (by decide) (by decide) hk1 hFc hP1 hD1
  generalize H1 = H3 at hP3 hS ⊢
  subst ea
  subst hz
  have hP : va_P D vwCl (wl G ad ad' x z00) H3 := hP3
  have hD : va_D (fun q : Nat => s.heap.size ≤ q) (wl G ad ad' x z00) := hD3
  refine W.widen (k := 600000) (n := 7290000) (by decide) (by decide) ?_
  refine lv_astore_n (lv' := [(2, .ref (ad' 0)), (1, .ref (ad 0)), (0, .ref b)]) hx hb dL_law_15 rfl hl (by decide) rfl (fun ls hl => ?_)
  refine lv_iconst (v := 0) hx hb dL_law_16 (by decide) ?_
  refine lv_istore_n (lv' := [(3, .int 0), (2, .ref (ad' 0)), (1, .ref (ad 0)), (0, .ref b)]) hx hb dL_law_17 rfl hl (by decide) rfl (fun ls hl => ?_)
  exact law_loop hL C0 hK (L + 1) 0 (Nat.zero_le L) (by omega) x z00 _ _ _ (Inv_0 hIni) hP hD hS (lv_sub hl [3, 2, 1, 0] rfl)
end
section
set_option maxHeartbeats 4000000 in
theorem lw_walk (l : Launch) (b : Addr) (xs : List Int32) : MetFree l x (headSpec (Jvm.Cond.code x code maxLocals ret :: tables_1) room_1) (lw_P b xs) (fun _ _ _ _ _ => True) lw_Q := by
  refine MetFree.of_bodyS (code := code) (maxLocals := maxLocals) (ret := ret) (by decide) ?_ ?_
  · intro args s m h hn
    obtain ⟨meth, c, h1, h2, h3, h4, h5, h6, -, -⟩ := Cond.code_spec hn (atoms_spec (ws := Jvm.Cond.code x code maxLocals ret :: tables_1) h _ List.mem_cons_self)
    exact ⟨meth, c, h1, h2, h3, h4, h5, h6⟩
  · intro p e s m args below meth c s₁ B hml0 hP _
    obtain ⟨rfl, hx, hbd, hgv⟩ := hP
    obtain ⟨scr, harrAt, hlist, hof, hsmall⟩ := hx
    obtain ⟨hcb, hkn, -, -⟩ := State.arrayAt?_spec harrAt
    have hown : s.vm.findClass R_law = some m.cls := findClass_of_methodNamed B.named
    have hts0 : ∀ c ∈ (Jvm.Cond.code x code maxLocals ret :: tables_1), c.before #[Value.ref b] s = true := atoms_spec (ws := Jvm.Cond.code x code maxLocals ret :: tables_1) B.pre
    have hts : ∀ w ∈ lw_tbl, w.before #[Value.ref b] s = true := k2_hts_sels lw_privs (fun w hw => hts0 w (List.mem_cons_of_mem _ hw)) lw_privs_ok
    have hml : c.maxLocals = 4 := B.maxLocals_eq (hts0 _ List.mem_cons_self)
    have X₀ : Stand p l e room_1 s m #[Value.ref b] below meth c s₁ [] 0 0 := Stand.of_body B
    have hh0 : s₁.heap = s.heap := by rw [B.state]; rfl
    have hsz : scr.slots.size = xs.length := by rw [← Array.length_toList, hlist, List.length_map]
    have hval : ∀ j : Nat, j < xs.length → scr.slots[j]? = some (.int (xs.getD j 0)) := fun j hj => by
      rw [← Array.getElem?_toList, hlist]
      simp [hj]
    have hbl : b < s.heap.size := (Array.getElem?_eq_some_iff.mp hcb).1
    have hX : va_X b xs.length (fun j => xs.getD j 0) s s.heap := ⟨scr, hcb, hof, hkn, hsz, hval⟩
    have K : W p l e room_1 s m #[Value.ref b] below meth c s₁.heap [] 0 0 (lw_Z below #[Value.ref b] s) (entryFrame m ([Value.ref b] : List Value).toArray 4) := by
      rw [hh0]
      exact whole_start l hbd ⟨B.exec, B.bytes, B.returns, hml, hown, hts, hX, hbl, B.notSynchronized, hgv⟩
    obtain ⟨t, a1, o, b1, b2, b3⟩ := K s₁ rfl X₀
    exact ⟨t, o, a1, b1, b2, b3⟩
theorem lw_pre_spec {args : Array Value} {s : State} (h : (Jvm.Cond.and given_1 narrow_1).before args s = true) (hr : rest_1_c.before args s = true) : ∃ (b : Addr) (xs : List Int32), lw_P b xs args s := by
  have hs := flat_of_before _ h
  have hq := flat_of_before _ hr
  have hc : (Cond.count 1).before args s = true := hs _ (by decide +kernel)
  have harr : (Cond.arrayOf (.arg 0) .int).before args s = true := hs _ (by decide +kernel)
  have hle : (Cond.le (.length (.arg 0)) (.int 256)).before args s = true := hs _ (by decide +kernel)
  have hlen : (Cond.isInt (.length (.arg 0))).before args s = true := hq _ (by decide +kernel)
  have hall : (Cond.all (.arg 0) (.isInt (.elem (.arg 0) (.index 0)))).before args s = true := hq _ (by decide +kernel)
  obtain ⟨b, xs, hb, hx⟩ := State.ints_of_pre rfl harr hlen hall
  have hsm : xs.length < 2 ^ 31 := hx.choose_spec.2.2.2
  have hev : (Term.length (.arg 0)).eval args s none [] s = some (.int xs.length.toInt32) := hx.length_eval hb
  have hv := Cond.le_ints hev (show (Term.int 256).eval args s none [] s = some (.int 256) from rfl)
  have hd : xs.length.toInt32 ≤ 256 := by
    simpa [Cond.before, Cond.holds, hv] using hle
  have hN : xs.length ≤ 256 := (Int32.ofNat_le_ofNat hsm (by decide)).mp (show Int32.ofNat xs.length ≤ Int32.ofNat 256 from hd)
  exact ⟨b, xs, Cond.one_arg hc (show args[0]? = some (.ref b) from hb), hx, hN, h⟩
theorem lw_comes (l : Launch) : Comes l x (Jvm.Cond.code x code maxLocals ret :: tables_1) room_1 (fun tb e args s => Calls_1 tb e args s ∧ rest_1 tb e args s ∧ Pre_1 tb e args s)
    (fun _ _ args s o t => lw_Q args s o t) := by
  intro p e ha hc hk s m args below hf hfit hheap happ hpre
  obtain ⟨b, xs, hP⟩ := lw_pre_spec hpre.2.2 hpre.2.1
  obtain ⟨k, o, h1, h2, h3, hQ⟩ := lw_walk l b xs p e ha hc hk s m args below hf ((Spec.applies_iff_loose hf).mp happ).1 hP trivial
  exact ⟨k, o, h1, h2, h3, hQ⟩
theorem lw_frame {s t : State} {o : Outcome} {args : Array Value} (h : Framed s o t [] 600000 7290000) :
    Framed s o t (fieldLocs frame_1_writes args s ++ arrayLocs frame_1_arrays args s ++ staticLocs frame_1_statics s) 600000 7290000 := h
theorem lw_limb (L : Cond) (hL : ∀ (args : Array Value) (s t : State), L.after args s (.returned (some (.int 1))) t = true) :
    ArmFor flags0 classFile x code maxLocals ret World_1 tables_1 room_1 Calls_1 rest_1 Pre_1
      (fun tb e a s o t => postC L tb e a s o t ∧ Framed s o t (fieldLocs frame_1_writes a s ++ arrayLocs frame_1_arrays a s ++ staticLocs frame_1_statics s) 600000 7290000) := by
  intro l _ _ _ p e ha hc hk s m args below hf hfit hheap happ hpre
  obtain ⟨k, o, h1, h2, h3, rfl, hF⟩ := lw_comes l p e ha hc hk s m args below hf hfit hheap happ hpre
  exact ⟨k, _, h1, h2, h3, hL args s _, lw_frame hF⟩
theorem i_vc : Claimed_1_1 ∧ Claimed_1_2 := ⟨lw_limb limb_1_1 (fun args s t => by simp [limb_1_1, Cond.after, Cond.holds, Cond.value]), lw_limb limb_1_2 (fun args s t => Cond.after_iff.mpr (by
  first | (rw [show limb_1_2 = Cond.eq .result (.int 1) from rfl, Cond.eq_ints (x := 1) (y := 1) rfl rfl]; simp; done) | (simp [limb_1_2, Cond.value, Term.eval]; done)))⟩
end
