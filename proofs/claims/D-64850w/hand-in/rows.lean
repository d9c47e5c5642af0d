section
-- ===== PART A: goes FIRST, ahead of the names: the tables' words, and 'selects' of the private methods out of them =====
/-- a private method of a class that the tables say can be made, by its rows of tables_1 -/
def lw_okq (q : MethodName × Nat) : Prop := (q.1.cls ≠ "java/lang/invoke/MethodHandle" ∧ q.1.cls ≠ "java/lang/invoke/VarHandle") ∧ Cond.instantiable q.1.cls q.2 ∈ tables_1 ∧ Cond.privateMethod q.1 ∈ tables_1 ∧ Cond.instanceMethod q.1 ∈ tables_1
set_option maxRecDepth 100000
theorem lw_p0 : lw_okq (⟨"CutTree", "isCouple", "(II)Z"⟩, 9) := ⟨⟨by decide +kernel, by decide +kernel⟩, List.mem_of_getElem? (i := 4) rfl, List.mem_of_getElem? (i := 46) rfl, List.mem_of_getElem? (i := 47) rfl⟩
theorem lw_p1 : lw_okq (⟨"CutTree", "isPoint", "(I)Z"⟩, 9) := ⟨⟨by decide +kernel, by decide +kernel⟩, List.mem_of_getElem? (i := 4) rfl, List.mem_of_getElem? (i := 50) rfl, List.mem_of_getElem? (i := 51) rfl⟩
theorem lw_p2 : lw_okq (⟨"CutTree", "build", "()V"⟩, 9) := ⟨⟨by decide +kernel, by decide +kernel⟩, List.mem_of_getElem? (i := 4) rfl, List.mem_of_getElem? (i := 62) rfl, List.mem_of_getElem? (i := 63) rfl⟩
theorem lw_p3 : lw_okq (⟨"CutTree", "largestFlow", "(II)I"⟩, 9) := ⟨⟨by decide +kernel, by decide +kernel⟩, List.mem_of_getElem? (i := 4) rfl, List.mem_of_getElem? (i := 66) rfl, List.mem_of_getElem? (i := 67) rfl⟩
theorem lw_p4 : lw_okq (⟨"CutTree", "search", "(II)Z"⟩, 9) := ⟨⟨by decide +kernel, by decide +kernel⟩, List.mem_of_getElem? (i := 4) rfl, List.mem_of_getElem? (i := 70) rfl, List.mem_of_getElem? (i := 71) rfl⟩
theorem lw_p5 : lw_okq (⟨"CutTree", "roomOnWay", "(II)I"⟩, 9) := ⟨⟨by decide +kernel, by decide +kernel⟩, List.mem_of_getElem? (i := 4) rfl, List.mem_of_getElem? (i := 74) rfl, List.mem_of_getElem? (i := 75) rfl⟩
theorem lw_p6 : lw_okq (⟨"CutTree", "push", "(III)V"⟩, 9) := ⟨⟨by decide +kernel, by decide +kernel⟩, List.mem_of_getElem? (i := 4) rfl, List.mem_of_getElem? (i := 78) rfl, List.mem_of_getElem? (i := 79) rfl⟩
theorem lw_p7 : lw_okq (⟨"CutTree", "weakest", "(II)I"⟩, 9) := ⟨⟨by decide +kernel, by decide +kernel⟩, List.mem_of_getElem? (i := 4) rfl, List.mem_of_getElem? (i := 82) rfl, List.mem_of_getElem? (i := 83) rfl⟩
theorem lw_p8 : lw_okq (⟨"CutTree", "depthOf", "(I)I"⟩, 9) := ⟨⟨by decide +kernel, by decide +kernel⟩, List.mem_of_getElem? (i := 4) rfl, List.mem_of_getElem? (i := 86) rfl, List.mem_of_getElem? (i := 87) rfl⟩
theorem lw_p9 : lw_okq (⟨"CutTreeModel", "isCouple", "(II)Z"⟩, 2) := ⟨⟨by decide +kernel, by decide +kernel⟩, List.mem_of_getElem? (i := 126) rfl, List.mem_of_getElem? (i := 143) rfl, List.mem_of_getElem? (i := 144) rfl⟩
theorem lw_p10 : lw_okq (⟨"CutTreeModel", "isPoint", "(I)Z"⟩, 2) := ⟨⟨by decide +kernel, by decide +kernel⟩, List.mem_of_getElem? (i := 126) rfl, List.mem_of_getElem? (i := 147) rfl, List.mem_of_getElem? (i := 148) rfl⟩
theorem lw_p11 : lw_okq (⟨"CutTreeModel", "linkOf", "(II)I"⟩, 2) := ⟨⟨by decide +kernel, by decide +kernel⟩, List.mem_of_getElem? (i := 126) rfl, List.mem_of_getElem? (i := 159) rfl, List.mem_of_getElem? (i := 160) rfl⟩
theorem lw_p12 : lw_okq (⟨"CutTreeModel", "all", "()I"⟩, 2) := ⟨⟨by decide +kernel, by decide +kernel⟩, List.mem_of_getElem? (i := 126) rfl, List.mem_of_getElem? (i := 163) rfl, List.mem_of_getElem? (i := 164) rfl⟩
theorem lw_p13 : lw_okq (⟨"CutTreeModel", "in", "(II)Z"⟩, 2) := ⟨⟨by decide +kernel, by decide +kernel⟩, List.mem_of_getElem? (i := 126) rfl, List.mem_of_getElem? (i := 167) rfl, List.mem_of_getElem? (i := 168) rfl⟩
theorem lw_p14 : lw_okq (⟨"CutTreeModel", "weightOf", "(I)I"⟩, 2) := ⟨⟨by decide +kernel, by decide +kernel⟩, List.mem_of_getElem? (i := 126) rfl, List.mem_of_getElem? (i := 171) rfl, List.mem_of_getElem? (i := 172) rfl⟩
theorem lw_p15 : lw_okq (⟨"CutTreeModel", "sizeOf", "(I)I"⟩, 2) := ⟨⟨by decide +kernel, by decide +kernel⟩, List.mem_of_getElem? (i := 126) rfl, List.mem_of_getElem? (i := 179) rfl, List.mem_of_getElem? (i := 180) rfl⟩
def lw_privs_1 : List (MethodName × Nat) := [(⟨"CutTree", "isCouple", "(II)Z"⟩, 9), (⟨"CutTree", "isPoint", "(I)Z"⟩, 9), (⟨"CutTree", "build", "()V"⟩, 9), (⟨"CutTree", "largestFlow", "(II)I"⟩, 9), (⟨"CutTree", "search", "(II)Z"⟩, 9), (⟨"CutTree", "roomOnWay", "(II)I"⟩, 9), (⟨"CutTree", "push", "(III)V"⟩, 9), (⟨"CutTree", "weakest", "(II)I"⟩, 9), (⟨"CutTree", "depthOf", "(I)I"⟩, 9), (⟨"CutTreeModel", "isCouple", "(II)Z"⟩, 2), (⟨"CutTreeModel", "isPoint", "(I)Z"⟩, 2), (⟨"CutTreeModel", "linkOf", "(II)I"⟩, 2), (⟨"CutTreeModel", "all", "()I"⟩, 2), (⟨"CutTreeModel", "in", "(II)Z"⟩, 2), (⟨"CutTreeModel", "weightOf", "(I)I"⟩, 2), (⟨"CutTreeModel", "sizeOf", "(I)I"⟩, 2)]
theorem lw_r1 : ∀ q ∈ lw_privs_1, lw_okq q := List.forall_mem_cons.mpr ⟨lw_p0, List.forall_mem_cons.mpr ⟨lw_p1, List.forall_mem_cons.mpr ⟨lw_p2, List.forall_mem_cons.mpr ⟨lw_p3, List.forall_mem_cons.mpr ⟨lw_p4, List.forall_mem_cons.mpr ⟨lw_p5, List.forall_mem_cons.mpr ⟨lw_p6, List.forall_mem_cons.mpr ⟨lw_p7, List.forall_mem_cons.mpr ⟨lw_p8, List.forall_mem_cons.mpr ⟨lw_p9, List.forall_mem_cons.mpr ⟨lw_p10, List.forall_mem_cons.mpr ⟨lw_p11, List.forall_mem_cons.mpr ⟨lw_p12, List.forall_mem_cons.mpr ⟨lw_p13, List.forall_mem_cons.mpr ⟨lw_p14, List.forall_mem_cons.mpr ⟨lw_p15, fun _ h => absurd h List.not_mem_nil⟩⟩⟩⟩⟩⟩⟩⟩⟩⟩⟩⟩⟩⟩⟩⟩
theorem lw_p16 : lw_okq (⟨"CutTreeModel", "groupOf", "(II)I"⟩, 2) := ⟨⟨by decide +kernel, by decide +kernel⟩, List.mem_of_getElem? (i := 126) rfl, List.mem_of_getElem? (i := 195) rfl, List.mem_of_getElem? (i := 196) rfl⟩
def lw_privs_2 : List (MethodName × Nat) := [(⟨"CutTreeModel", "groupOf", "(II)I"⟩, 2)]
theorem lw_r2 : ∀ q ∈ lw_privs_2, lw_okq q := List.forall_mem_cons.mpr ⟨lw_p16, fun _ h => absurd h List.not_mem_nil⟩
def lw_privs : List (MethodName × Nat) := lw_privs_1 ++ (lw_privs_2)
def lw_tbl : List Cond := k2_sels lw_privs ++ tables_1
theorem lw_privs_ok : ∀ q ∈ lw_privs, lw_okq q := by
  show ∀ q ∈ lw_privs_1 ++ (lw_privs_2), lw_okq q
  exact List.forall_mem_append.mpr ⟨lw_r1, lw_r2⟩
-- ===== ONE list of words for every method: the tables' words that hold all through a run =====
def lw_all : List Cond := lw_tbl.filter goodWord
/-- a word of the tables by its place: claim/WORDS.tsv -/
theorem lw_w {w : Cond} (i : Nat) (h : lw_tbl[i]? = some w) (g : goodWord w = true) : w ∈ lw_all := List.mem_filter.mpr ⟨List.mem_of_getElem? h, g⟩
theorem lw_all_tbl {w : Cond} (h : w ∈ lw_all) : w ∈ lw_tbl := (List.mem_filter.mp h).1
theorem lw_self : GoodIn lw_all lw_all := fun w h => ⟨h, good_of_word (List.mem_filter.mp h).2⟩
/-- a class's field words, by their places -/
theorem lw_in (ws : List Cond) (ps : List Nat) (hp : ws = ps.filterMap (fun i => lw_tbl[i]?)) (hg : ws.all goodWord = true) : ∀ w ∈ ws, w ∈ lw_all := by
  intro w h
  have h1 := List.all_eq_true.mp hg w h
  rw [hp] at h
  obtain ⟨i, -, hi⟩ := List.mem_filterMap.mp h
  exact lw_w i hi h1
/-- the words of a contract for the method y with code b, L locals, answer r -/
abbrev ws_ (y : MethodName) (b : ByteArray) (L : Nat) (r : Option FieldType) : List Cond := Cond.code y b L r :: lw_all
theorem lw_meth {y : MethodName} {b : ByteArray} {L : Nat} {r : Option FieldType} (h : Cond.code y b L r ∈ lw_all) : GoodIn lw_all (ws_ y b L r) := by
  intro w hw
  rcases List.mem_cons.mp hw with e | e
  · rw [e]
    exact lw_self _ h
  · exact lw_self _ e
theorem lw_app {a c : List Cond} (ha : ∀ w ∈ a, w ∈ lw_all) (hc : GoodIn lw_all c) : GoodIn lw_all (a ++ c) := by
  intro w hw
  rcases List.mem_append.mp hw with e | e
  · exact lw_self w (ha w e)
  · exact hc w e
/-- what a call through an object asks: cwV n hts (lw_V ..) -/
theorem lw_V {own : String} {idx : Nat} {C : String} {y : MethodName} {b : ByteArray} {L : Nat} {r : Option FieldType} (h1 : Cond.methodLink own idx y ∈ lw_all) (h2 : Cond.instanceMethod y ∈ lw_all) (h3 : Cond.selects C y y ∈ lw_all) (h4 : Cond.initialized C ∈ lw_all) (h5 : Cond.code y b L r ∈ lw_all) : GoodIn lw_all (wsV own idx C y (ws_ y b L r)) := by
  refine lw_app ?_ (lw_meth h5)
  intro w hw
  simp only [List.mem_cons, List.not_mem_nil, or_false] at hw
  rcases hw with e | e | e | e
  · rw [e]; exact h1
  · rw [e]; exact h2
  · rw [e]; exact h3
  · rw [e]; exact h4
/-- what a static call asks: va_cwS n hts (lw_S ..) -/
theorem lw_S {own : String} {idx : Nat} {y : MethodName} {b : ByteArray} {L : Nat} {r : Option FieldType} (h1 : Cond.methodLink own idx y ∈ lw_all) (h2 : Cond.static y ∈ lw_all) (h3 : Cond.initialized y.cls ∈ lw_all) (h4 : Cond.code y b L r ∈ lw_all) : GoodIn lw_all (va_wsS own idx y (ws_ y b L r)) := by
  refine lw_app ?_ (lw_meth h4)
  intro w hw
  simp only [List.mem_cons, List.not_mem_nil, or_false] at hw
  rcases hw with e | e | e
  · rw [e]; exact h1
  · rw [e]; exact h2
  · rw [e]; exact h3
/-- the words of a contract for a method WITH HANDLERS (hh: its table) -/
abbrev wsW_ (y : MethodName) (b : ByteArray) (L : Nat) (r : Option FieldType) (hh : List (Nat × Nat × Nat × Nat)) : List Cond := Cond.codeWith y b L r hh :: lw_all
theorem lw_methW {y : MethodName} {b : ByteArray} {L : Nat} {r : Option FieldType} {hh : List (Nat × Nat × Nat × Nat)} (h : Cond.codeWith y b L r hh ∈ lw_all) : GoodIn lw_all (wsW_ y b L r hh) := by
  intro w hw
  rcases List.mem_cons.mp hw with e | e
  · rw [e]
    exact lw_self _ h
  · exact lw_self _ e
/-- any list of words by their places (lw_in), good -/
theorem lw_good {ws : List Cond} (h : ∀ w ∈ ws, w ∈ lw_all) : GoodIn lw_all ws := fun w hw => lw_self w (h w hw)
/-- what a call of a method with handlers asks: vx_cwVW n hts (lw_VW ..), vx_cwSW n hts (lw_SW ..) -/
theorem lw_VW {own : String} {idx : Nat} {C : String} {y : MethodName} {b : ByteArray} {L : Nat} {r : Option FieldType} {hh : List (Nat × Nat × Nat × Nat)} (h1 : Cond.methodLink own idx y ∈ lw_all) (h2 : Cond.instanceMethod y ∈ lw_all) (h3 : Cond.selects C y y ∈ lw_all) (h4 : Cond.initialized C ∈ lw_all) (h5 : Cond.codeWith y b L r hh ∈ lw_all) : GoodIn lw_all (wsV own idx C y (wsW_ y b L r hh)) := by
  refine lw_app ?_ (lw_methW h5)
  intro w hw
  simp only [List.mem_cons, List.not_mem_nil, or_false] at hw
  rcases hw with e | e | e | e
  · rw [e]; exact h1
  · rw [e]; exact h2
  · rw [e]; exact h3
  · rw [e]; exact h4
theorem lw_SW {own : String} {idx : Nat} {y : MethodName} {b : ByteArray} {L : Nat} {r : Option FieldType} {hh : List (Nat × Nat × Nat × Nat)} (h1 : Cond.methodLink own idx y ∈ lw_all) (h2 : Cond.static y ∈ lw_all) (h3 : Cond.initialized y.cls ∈ lw_all) (h4 : Cond.codeWith y b L r hh ∈ lw_all) : GoodIn lw_all (va_wsS own idx y (wsW_ y b L r hh)) := by
  refine lw_app ?_ (lw_methW h4)
  intro w hw
  simp only [List.mem_cons, List.not_mem_nil, or_false] at hw
  rcases hw with e | e | e
  · rw [e]; exact h1
  · rw [e]; exact h2
  · rw [e]; exact h3
/-- a word by its place in its run of the tables -/
theorem lw_at {r : List Cond} (hr : ∀ w ∈ r, w ∈ lw_tbl) {w : Cond} (i : Nat) (h : r[i]? = some w) : w ∈ lw_tbl := hr w (List.mem_of_getElem? h)
theorem lw_g {w : Cond} (h : w ∈ lw_tbl) (g : goodWord w = true) : w ∈ lw_all := List.mem_filter.mpr ⟨h, g⟩
theorem lw_ms : ∀ w ∈ k2_sels lw_privs, w ∈ lw_tbl := fun w h => show w ∈ k2_sels lw_privs ++ tables_1 from List.mem_append_left _ h
theorem lw_m0 : ∀ w ∈ tables_1, w ∈ lw_tbl := fun w h => show w ∈ k2_sels lw_privs ++ tables_1 from List.mem_append_right (k2_sels lw_privs) h
theorem qs0 : (Cond.selects "CutTree" ⟨"CutTree", "isCouple", "(II)Z"⟩ ⟨"CutTree", "isCouple", "(II)Z"⟩) ∈ lw_all := lw_g (lw_at lw_ms 0 rfl) rfl
theorem qs1 : (Cond.selects "CutTree" ⟨"CutTree", "isPoint", "(I)Z"⟩ ⟨"CutTree", "isPoint", "(I)Z"⟩) ∈ lw_all := lw_g (lw_at lw_ms 1 rfl) rfl
theorem qs2 : (Cond.selects "CutTree" ⟨"CutTree", "build", "()V"⟩ ⟨"CutTree", "build", "()V"⟩) ∈ lw_all := lw_g (lw_at lw_ms 2 rfl) rfl
theorem qs3 : (Cond.selects "CutTree" ⟨"CutTree", "largestFlow", "(II)I"⟩ ⟨"CutTree", "largestFlow", "(II)I"⟩) ∈ lw_all := lw_g (lw_at lw_ms 3 rfl) rfl
theorem qs4 : (Cond.selects "CutTree" ⟨"CutTree", "search", "(II)Z"⟩ ⟨"CutTree", "search", "(II)Z"⟩) ∈ lw_all := lw_g (lw_at lw_ms 4 rfl) rfl
theorem qs5 : (Cond.selects "CutTree" ⟨"CutTree", "roomOnWay", "(II)I"⟩ ⟨"CutTree", "roomOnWay", "(II)I"⟩) ∈ lw_all := lw_g (lw_at lw_ms 5 rfl) rfl
theorem qs6 : (Cond.selects "CutTree" ⟨"CutTree", "push", "(III)V"⟩ ⟨"CutTree", "push", "(III)V"⟩) ∈ lw_all := lw_g (lw_at lw_ms 6 rfl) rfl
theorem qs7 : (Cond.selects "CutTree" ⟨"CutTree", "weakest", "(II)I"⟩ ⟨"CutTree", "weakest", "(II)I"⟩) ∈ lw_all := lw_g (lw_at lw_ms 7 rfl) rfl
theorem qs8 : (Cond.selects "CutTree" ⟨"CutTree", "depthOf", "(I)I"⟩ ⟨"CutTree", "depthOf", "(I)I"⟩) ∈ lw_all := lw_g (lw_at lw_ms 8 rfl) rfl
theorem qs9 : (Cond.selects "CutTreeModel" ⟨"CutTreeModel", "isCouple", "(II)Z"⟩ ⟨"CutTreeModel", "isCouple", "(II)Z"⟩) ∈ lw_all := lw_g (lw_at lw_ms 9 rfl) rfl
theorem qs10 : (Cond.selects "CutTreeModel" ⟨"CutTreeModel", "isPoint", "(I)Z"⟩ ⟨"CutTreeModel", "isPoint", "(I)Z"⟩) ∈ lw_all := lw_g (lw_at lw_ms 10 rfl) rfl
theorem qs11 : (Cond.selects "CutTreeModel" ⟨"CutTreeModel", "linkOf", "(II)I"⟩ ⟨"CutTreeModel", "linkOf", "(II)I"⟩) ∈ lw_all := lw_g (lw_at lw_ms 11 rfl) rfl
theorem qs12 : (Cond.selects "CutTreeModel" ⟨"CutTreeModel", "all", "()I"⟩ ⟨"CutTreeModel", "all", "()I"⟩) ∈ lw_all := lw_g (lw_at lw_ms 12 rfl) rfl
theorem qs13 : (Cond.selects "CutTreeModel" ⟨"CutTreeModel", "in", "(II)Z"⟩ ⟨"CutTreeModel", "in", "(II)Z"⟩) ∈ lw_all := lw_g (lw_at lw_ms 13 rfl) rfl
theorem qs14 : (Cond.selects "CutTreeModel" ⟨"CutTreeModel", "weightOf", "(I)I"⟩ ⟨"CutTreeModel", "weightOf", "(I)I"⟩) ∈ lw_all := lw_g (lw_at lw_ms 14 rfl) rfl
theorem qs15 : (Cond.selects "CutTreeModel" ⟨"CutTreeModel", "sizeOf", "(I)I"⟩ ⟨"CutTreeModel", "sizeOf", "(I)I"⟩) ∈ lw_all := lw_g (lw_at lw_ms 15 rfl) rfl
theorem qs16 : (Cond.selects "CutTreeModel" ⟨"CutTreeModel", "groupOf", "(II)I"⟩ ⟨"CutTreeModel", "groupOf", "(II)I"⟩) ∈ lw_all := lw_g (lw_at lw_ms 16 rfl) rfl
end
section
/-! java/lang/Object -/
set_option maxRecDepth 100000
def RJ0 : String := "java/lang/Object"
abbrev cJ0_init : ByteArray := object_method_1_code
def yJ0_init : MethodName := ⟨RJ0, "<init>", "()V"⟩
theorem dJ0_init_0 : decode cJ0_init 0 = .ok (.return_, 1) := by decide +kernel
theorem q26 : (Jvm.Cond.instanceMethod ({ cls := "java/lang/Object", name := "<init>", desc := "()V" } : Jvm.MethodName)) ∈ lw_all := lw_g (lw_at lw_m0 9 rfl) rfl
theorem q27 : (Jvm.Cond.code ({ cls := "java/lang/Object", name := "<init>", desc := "()V" } : Jvm.MethodName) object_method_1_code (1 : Nat) (Option.none : Option Jvm.ClassFile.FieldType)) ∈ lw_all := lw_g (lw_at lw_m0 10 rfl) rfl
theorem q56 : (Jvm.Cond.arrayClass Jvm.ClassFile.FieldType.byte) ∈ lw_all := lw_g (lw_at lw_m0 39 rfl) rfl
set_option maxRecDepth 100000
theorem q57 : (Jvm.Cond.arrayClass Jvm.ClassFile.FieldType.int) ∈ lw_all := lw_g (lw_at lw_m0 40 rfl) rfl
/-! CutTreeLaw -/
set_option maxRecDepth 100000
def RX0 : String := "CutTreeLaw"
abbrev cX0_cell : ByteArray := method_2_code
def yX0_cell : MethodName := ⟨RX0, "cell", "([II)I"⟩
theorem dX0_cell_0 : decode cX0_cell 0 = .ok (.iload_n 1, 1) := by decide +kernel
theorem dX0_cell_1 : decode cX0_cell 1 = .ok (.aload_n 0, 1) := by decide +kernel
theorem dX0_cell_2 : decode cX0_cell 2 = .ok (.arraylength, 1) := by decide +kernel
theorem dX0_cell_3 : decode cX0_cell 3 = .ok (.if_icmp .ge 9, 3) := by decide +kernel
theorem dX0_cell_6 : decode cX0_cell 6 = .ok (.aload_n 0, 1) := by decide +kernel
theorem dX0_cell_7 : decode cX0_cell 7 = .ok (.iload_n 1, 1) := by decide +kernel
theorem dX0_cell_8 : decode cX0_cell 8 = .ok (.iaload, 1) := by decide +kernel
theorem dX0_cell_9 : decode cX0_cell 9 = .ok (.goto 4, 3) := by decide +kernel
theorem dX0_cell_12 : decode cX0_cell 12 = .ok (.iconst 0, 1) := by decide +kernel
theorem dX0_cell_13 : decode cX0_cell 13 = .ok (.ireturn, 1) := by decide +kernel
theorem q17 : (Jvm.Cond.initialized "CutTreeLaw") ∈ lw_all := lw_g (lw_at lw_m0 0 rfl) rfl
theorem q20 : (Jvm.Cond.classLink "CutTreeLaw" (7 : Nat) "CutTree") ∈ lw_all := lw_g (lw_at lw_m0 3 rfl) rfl
theorem q22 : (Jvm.Cond.methodLink "CutTreeLaw" (15 : Nat) ({ cls := "CutTree", name := "<init>", desc := "(I)V" } : Jvm.MethodName)) ∈ lw_all := lw_g (lw_at lw_m0 5 rfl) rfl
theorem q58 : (Jvm.Cond.methodLink "CutTreeLaw" (21 : Nat) ({ cls := "CutTree", name := "connect", desc := "(III)Z" } : Jvm.MethodName)) ∈ lw_all := lw_g (lw_at lw_m0 41 rfl) rfl
theorem q70 : (Jvm.Cond.methodLink "CutTreeLaw" (26 : Nat) ({ cls := "CutTree", name := "capacity", desc := "(II)I" } : Jvm.MethodName)) ∈ lw_all := lw_g (lw_at lw_m0 53 rfl) rfl
theorem q74 : (Jvm.Cond.methodLink "CutTreeLaw" (31 : Nat) ({ cls := "CutTree", name := "link", desc := "(II)I" } : Jvm.MethodName)) ∈ lw_all := lw_g (lw_at lw_m0 57 rfl) rfl
theorem q106 : (Jvm.Cond.methodLink "CutTreeLaw" (35 : Nat) ({ cls := "CutTree", name := "side", desc := "(II)I" } : Jvm.MethodName)) ∈ lw_all := lw_g (lw_at lw_m0 89 rfl) rfl
theorem q110 : (Jvm.Cond.methodLink "CutTreeLaw" (39 : Nat) ({ cls := "CutTree", name := "smallest", desc := "()I" } : Jvm.MethodName)) ∈ lw_all := lw_g (lw_at lw_m0 93 rfl) rfl
theorem q114 : (Jvm.Cond.methodLink "CutTreeLaw" (44 : Nat) ({ cls := "CutTree", name := "couples", desc := "(I)I" } : Jvm.MethodName)) ∈ lw_all := lw_g (lw_at lw_m0 97 rfl) rfl
theorem q118 : (Jvm.Cond.methodLink "CutTreeLaw" (49 : Nat) ({ cls := "CutTree", name := "groups", desc := "(I)I" } : Jvm.MethodName)) ∈ lw_all := lw_g (lw_at lw_m0 101 rfl) rfl
theorem q122 : (Jvm.Cond.methodLink "CutTreeLaw" (53 : Nat) ({ cls := "CutTree", name := "group", desc := "(II)I" } : Jvm.MethodName)) ∈ lw_all := lw_g (lw_at lw_m0 105 rfl) rfl
theorem q126 : (Jvm.Cond.methodLink "CutTreeLaw" (57 : Nat) ({ cls := "CutTree", name := "weight", desc := "(I)I" } : Jvm.MethodName)) ∈ lw_all := lw_g (lw_at lw_m0 109 rfl) rfl
theorem q130 : (Jvm.Cond.methodLink "CutTreeLaw" (61 : Nat) ({ cls := "CutTree", name := "total", desc := "()I" } : Jvm.MethodName)) ∈ lw_all := lw_g (lw_at lw_m0 113 rfl) rfl
theorem q134 : (Jvm.Cond.methodLink "CutTreeLaw" (65 : Nat) ({ cls := "CutTree", name := "cap", desc := "(I)I" } : Jvm.MethodName)) ∈ lw_all := lw_g (lw_at lw_m0 117 rfl) rfl
theorem q139 : (Jvm.Cond.methodLink "CutTreeLaw" (9 : Nat) ({ cls := "CutTreeLaw", name := "cell", desc := "([II)I" } : Jvm.MethodName)) ∈ lw_all := lw_g (lw_at lw_m0 122 rfl) rfl
theorem q140 : (Jvm.Cond.static ({ cls := "CutTreeLaw", name := "cell", desc := "([II)I" } : Jvm.MethodName)) ∈ lw_all := lw_g (lw_at lw_m0 123 rfl) rfl
theorem q141 : (Jvm.Cond.code ({ cls := "CutTreeLaw", name := "cell", desc := "([II)I" } : Jvm.MethodName) method_2_code (2 : Nat) (Option.some Jvm.ClassFile.FieldType.int)) ∈ lw_all := lw_g (lw_at lw_m0 124 rfl) rfl
theorem q142 : (Jvm.Cond.classLink "CutTreeLaw" (18 : Nat) "CutTreeModel") ∈ lw_all := lw_g (lw_at lw_m0 125 rfl) rfl
theorem q144 : (Jvm.Cond.methodLink "CutTreeLaw" (20 : Nat) ({ cls := "CutTreeModel", name := "<init>", desc := "(I)V" } : Jvm.MethodName)) ∈ lw_all := lw_g (lw_at lw_m0 127 rfl) rfl
theorem q155 : (Jvm.Cond.methodLink "CutTreeLaw" (25 : Nat) ({ cls := "CutTreeModel", name := "connect", desc := "(III)Z" } : Jvm.MethodName)) ∈ lw_all := lw_g (lw_at lw_m0 138 rfl) rfl
theorem q167 : (Jvm.Cond.methodLink "CutTreeLaw" (30 : Nat) ({ cls := "CutTreeModel", name := "capacity", desc := "(II)I" } : Jvm.MethodName)) ∈ lw_all := lw_g (lw_at lw_m0 150 rfl) rfl
theorem q171 : (Jvm.Cond.methodLink "CutTreeLaw" (34 : Nat) ({ cls := "CutTreeModel", name := "link", desc := "(II)I" } : Jvm.MethodName)) ∈ lw_all := lw_g (lw_at lw_m0 154 rfl) rfl
theorem q191 : (Jvm.Cond.methodLink "CutTreeLaw" (38 : Nat) ({ cls := "CutTreeModel", name := "side", desc := "(II)I" } : Jvm.MethodName)) ∈ lw_all := lw_g (lw_at lw_m0 174 rfl) rfl
theorem q199 : (Jvm.Cond.methodLink "CutTreeLaw" (43 : Nat) ({ cls := "CutTreeModel", name := "smallest", desc := "()I" } : Jvm.MethodName)) ∈ lw_all := lw_g (lw_at lw_m0 182 rfl) rfl
theorem q203 : (Jvm.Cond.methodLink "CutTreeLaw" (48 : Nat) ({ cls := "CutTreeModel", name := "couples", desc := "(I)I" } : Jvm.MethodName)) ∈ lw_all := lw_g (lw_at lw_m0 186 rfl) rfl
theorem q207 : (Jvm.Cond.methodLink "CutTreeLaw" (52 : Nat) ({ cls := "CutTreeModel", name := "groups", desc := "(I)I" } : Jvm.MethodName)) ∈ lw_all := lw_g (lw_at lw_m0 190 rfl) rfl
theorem q215 : (Jvm.Cond.methodLink "CutTreeLaw" (56 : Nat) ({ cls := "CutTreeModel", name := "group", desc := "(II)I" } : Jvm.MethodName)) ∈ lw_all := lw_g (lw_at lw_m0 198 rfl) rfl
theorem q219 : (Jvm.Cond.methodLink "CutTreeLaw" (60 : Nat) ({ cls := "CutTreeModel", name := "weight", desc := "(I)I" } : Jvm.MethodName)) ∈ lw_all := lw_g (lw_at lw_m0 202 rfl) rfl
theorem q223 : (Jvm.Cond.methodLink "CutTreeLaw" (64 : Nat) ({ cls := "CutTreeModel", name := "total", desc := "()I" } : Jvm.MethodName)) ∈ lw_all := lw_g (lw_at lw_m0 206 rfl) rfl
theorem q227 : (Jvm.Cond.methodLink "CutTreeLaw" (68 : Nat) ({ cls := "CutTreeModel", name := "cap", desc := "(I)I" } : Jvm.MethodName)) ∈ lw_all := lw_g (lw_at lw_m0 210 rfl) rfl
end
section
/-! CutTreeModel -/
set_option maxRecDepth 100000
def RX2 : String := "CutTreeModel"
def TX2 : u_T := fun k => match k with
  | 0 => ("CutTreeModel", "n", "I", false)
  | _ => ("CutTreeModel", "caps", "[I", false)
def tyX2 : Nat → FieldType := fun k => match k with
  | 0 => .int
  | _ => .array .int
abbrev wsX20 : List Cond := u_ws RX2 TX2 2
theorem nmX2 : ∀ a, a < 2 → ∀ b, b < 2 → a ≠ b → (TX2 a).2.1 ≠ (TX2 b).2.1 := by decide +kernel
theorem tyX2_ok : ∀ k, k < 2 → parseFieldDescriptor (TX2 k).2.2.1 = some (tyX2 k) := by decide +kernel
abbrev cX2_init : ByteArray := prog_3_method_1_code
def yX2_init : MethodName := ⟨RX2, "<init>", "(I)V"⟩
theorem dX2_init_0 : decode cX2_init 0 = .ok (.aload_n 0, 1) := by decide +kernel
theorem dX2_init_1 : decode cX2_init 1 = .ok (.invokespecial 1, 3) := by decide +kernel
theorem dX2_init_4 : decode cX2_init 4 = .ok (.aload_n 0, 1) := by decide +kernel
theorem dX2_init_5 : decode cX2_init 5 = .ok (.bipush 64, 2) := by decide +kernel
theorem dX2_init_7 : decode cX2_init 7 = .ok (.newarray .int, 2) := by decide +kernel
theorem dX2_init_9 : decode cX2_init 9 = .ok (.putfield 7, 3) := by decide +kernel
theorem dX2_init_12 : decode cX2_init 12 = .ok (.aload_n 0, 1) := by decide +kernel
theorem dX2_init_13 : decode cX2_init 13 = .ok (.iload_n 1, 1) := by decide +kernel
theorem dX2_init_14 : decode cX2_init 14 = .ok (.iconst 2, 1) := by decide +kernel
theorem dX2_init_15 : decode cX2_init 15 = .ok (.if_icmp .ge 7, 3) := by decide +kernel
theorem dX2_init_18 : decode cX2_init 18 = .ok (.iconst 2, 1) := by decide +kernel
theorem dX2_init_19 : decode cX2_init 19 = .ok (.goto 15, 3) := by decide +kernel
theorem dX2_init_22 : decode cX2_init 22 = .ok (.iload_n 1, 1) := by decide +kernel
theorem dX2_init_23 : decode cX2_init 23 = .ok (.bipush 8, 2) := by decide +kernel
theorem dX2_init_25 : decode cX2_init 25 = .ok (.if_icmp .le 8, 3) := by decide +kernel
theorem dX2_init_28 : decode cX2_init 28 = .ok (.bipush 8, 2) := by decide +kernel
theorem dX2_init_30 : decode cX2_init 30 = .ok (.goto 4, 3) := by decide +kernel
theorem dX2_init_33 : decode cX2_init 33 = .ok (.iload_n 1, 1) := by decide +kernel
theorem dX2_init_34 : decode cX2_init 34 = .ok (.putfield 13, 3) := by decide +kernel
theorem dX2_init_37 : decode cX2_init 37 = .ok (.return_, 1) := by decide +kernel
abbrev cX2_connect : ByteArray := prog_3_method_5_code
def yX2_connect : MethodName := ⟨RX2, "connect", "(III)Z"⟩
theorem dX2_connect_0 : decode cX2_connect 0 = .ok (.aload_n 0, 1) := by decide +kernel
theorem dX2_connect_1 : decode cX2_connect 1 = .ok (.iload_n 1, 1) := by decide +kernel
theorem dX2_connect_2 : decode cX2_connect 2 = .ok (.iload_n 2, 1) := by decide +kernel
theorem dX2_connect_3 : decode cX2_connect 3 = .ok (.invokevirtual 21, 3) := by decide +kernel
theorem dX2_connect_6 : decode cX2_connect 6 = .ok (.ifCond .eq 13, 3) := by decide +kernel
theorem dX2_connect_9 : decode cX2_connect 9 = .ok (.iload_n 3, 1) := by decide +kernel
theorem dX2_connect_10 : decode cX2_connect 10 = .ok (.ifCond .lt 9, 3) := by decide +kernel
theorem dX2_connect_13 : decode cX2_connect 13 = .ok (.iload_n 3, 1) := by decide +kernel
theorem dX2_connect_14 : decode cX2_connect 14 = .ok (.bipush 50, 2) := by decide +kernel
theorem dX2_connect_16 : decode cX2_connect 16 = .ok (.if_icmp .le 5, 3) := by decide +kernel
theorem dX2_connect_19 : decode cX2_connect 19 = .ok (.iconst 0, 1) := by decide +kernel
theorem dX2_connect_20 : decode cX2_connect 20 = .ok (.ireturn, 1) := by decide +kernel
theorem dX2_connect_21 : decode cX2_connect 21 = .ok (.aload_n 0, 1) := by decide +kernel
theorem dX2_connect_22 : decode cX2_connect 22 = .ok (.getfield 7, 3) := by decide +kernel
theorem dX2_connect_25 : decode cX2_connect 25 = .ok (.bipush 8, 2) := by decide +kernel
theorem dX2_connect_27 : decode cX2_connect 27 = .ok (.iload_n 1, 1) := by decide +kernel
theorem dX2_connect_28 : decode cX2_connect 28 = .ok (.imul, 1) := by decide +kernel
theorem dX2_connect_29 : decode cX2_connect 29 = .ok (.iload_n 2, 1) := by decide +kernel
theorem dX2_connect_30 : decode cX2_connect 30 = .ok (.iadd, 1) := by decide +kernel
theorem dX2_connect_31 : decode cX2_connect 31 = .ok (.iload_n 3, 1) := by decide +kernel
theorem dX2_connect_32 : decode cX2_connect 32 = .ok (.iastore, 1) := by decide +kernel
theorem dX2_connect_33 : decode cX2_connect 33 = .ok (.aload_n 0, 1) := by decide +kernel
theorem dX2_connect_34 : decode cX2_connect 34 = .ok (.getfield 7, 3) := by decide +kernel
theorem dX2_connect_37 : decode cX2_connect 37 = .ok (.bipush 8, 2) := by decide +kernel
theorem dX2_connect_39 : decode cX2_connect 39 = .ok (.iload_n 2, 1) := by decide +kernel
theorem dX2_connect_40 : decode cX2_connect 40 = .ok (.imul, 1) := by decide +kernel
theorem dX2_connect_41 : decode cX2_connect 41 = .ok (.iload_n 1, 1) := by decide +kernel
theorem dX2_connect_42 : decode cX2_connect 42 = .ok (.iadd, 1) := by decide +kernel
theorem dX2_connect_43 : decode cX2_connect 43 = .ok (.iload_n 3, 1) := by decide +kernel
theorem dX2_connect_44 : decode cX2_connect 44 = .ok (.iastore, 1) := by decide +kernel
theorem dX2_connect_45 : decode cX2_connect 45 = .ok (.iconst 1, 1) := by decide +kernel
theorem dX2_connect_46 : decode cX2_connect 46 = .ok (.ireturn, 1) := by decide +kernel
abbrev cX2_isCouple : ByteArray := prog_3_method_3_code
def yX2_isCouple : MethodName := ⟨RX2, "isCouple", "(II)Z"⟩
theorem dX2_isCouple_0 : decode cX2_isCouple 0 = .ok (.aload_n 0, 1) := by decide +kernel
theorem dX2_isCouple_1 : decode cX2_isCouple 1 = .ok (.iload_n 1, 1) := by decide +kernel
theorem dX2_isCouple_2 : decode cX2_isCouple 2 = .ok (.invokevirtual 17, 3) := by decide +kernel
theorem dX2_isCouple_5 : decode cX2_isCouple 5 = .ok (.ifCond .eq 20, 3) := by decide +kernel
theorem dX2_isCouple_8 : decode cX2_isCouple 8 = .ok (.aload_n 0, 1) := by decide +kernel
theorem dX2_isCouple_9 : decode cX2_isCouple 9 = .ok (.iload_n 2, 1) := by decide +kernel
theorem dX2_isCouple_10 : decode cX2_isCouple 10 = .ok (.invokevirtual 17, 3) := by decide +kernel
theorem dX2_isCouple_13 : decode cX2_isCouple 13 = .ok (.ifCond .eq 12, 3) := by decide +kernel
theorem dX2_isCouple_16 : decode cX2_isCouple 16 = .ok (.iload_n 1, 1) := by decide +kernel
theorem dX2_isCouple_17 : decode cX2_isCouple 17 = .ok (.iload_n 2, 1) := by decide +kernel
theorem dX2_isCouple_18 : decode cX2_isCouple 18 = .ok (.if_icmp .eq 7, 3) := by decide +kernel
theorem dX2_isCouple_21 : decode cX2_isCouple 21 = .ok (.iconst 1, 1) := by decide +kernel
theorem dX2_isCouple_22 : decode cX2_isCouple 22 = .ok (.goto 4, 3) := by decide +kernel
theorem dX2_isCouple_25 : decode cX2_isCouple 25 = .ok (.iconst 0, 1) := by decide +kernel
theorem dX2_isCouple_26 : decode cX2_isCouple 26 = .ok (.ireturn, 1) := by decide +kernel
abbrev cX2_isPoint : ByteArray := prog_3_method_2_code
def yX2_isPoint : MethodName := ⟨RX2, "isPoint", "(I)Z"⟩
theorem dX2_isPoint_0 : decode cX2_isPoint 0 = .ok (.iload_n 1, 1) := by decide +kernel
theorem dX2_isPoint_1 : decode cX2_isPoint 1 = .ok (.ifCond .lt 15, 3) := by decide +kernel
theorem dX2_isPoint_4 : decode cX2_isPoint 4 = .ok (.iload_n 1, 1) := by decide +kernel
theorem dX2_isPoint_5 : decode cX2_isPoint 5 = .ok (.aload_n 0, 1) := by decide +kernel
theorem dX2_isPoint_6 : decode cX2_isPoint 6 = .ok (.getfield 13, 3) := by decide +kernel
theorem dX2_isPoint_9 : decode cX2_isPoint 9 = .ok (.if_icmp .ge 7, 3) := by decide +kernel
theorem dX2_isPoint_12 : decode cX2_isPoint 12 = .ok (.iconst 1, 1) := by decide +kernel
theorem dX2_isPoint_13 : decode cX2_isPoint 13 = .ok (.goto 4, 3) := by decide +kernel
theorem dX2_isPoint_16 : decode cX2_isPoint 16 = .ok (.iconst 0, 1) := by decide +kernel
theorem dX2_isPoint_17 : decode cX2_isPoint 17 = .ok (.ireturn, 1) := by decide +kernel
abbrev cX2_capacity : ByteArray := prog_3_method_6_code
def yX2_capacity : MethodName := ⟨RX2, "capacity", "(II)I"⟩
theorem dX2_capacity_0 : decode cX2_capacity 0 = .ok (.aload_n 0, 1) := by decide +kernel
theorem dX2_capacity_1 : decode cX2_capacity 1 = .ok (.iload_n 1, 1) := by decide +kernel
theorem dX2_capacity_2 : decode cX2_capacity 2 = .ok (.iload_n 2, 1) := by decide +kernel
theorem dX2_capacity_3 : decode cX2_capacity 3 = .ok (.invokevirtual 21, 3) := by decide +kernel
theorem dX2_capacity_6 : decode cX2_capacity 6 = .ok (.ifCond .eq 17, 3) := by decide +kernel
theorem dX2_capacity_9 : decode cX2_capacity 9 = .ok (.aload_n 0, 1) := by decide +kernel
theorem dX2_capacity_10 : decode cX2_capacity 10 = .ok (.getfield 7, 3) := by decide +kernel
theorem dX2_capacity_13 : decode cX2_capacity 13 = .ok (.bipush 8, 2) := by decide +kernel
theorem dX2_capacity_15 : decode cX2_capacity 15 = .ok (.iload_n 1, 1) := by decide +kernel
theorem dX2_capacity_16 : decode cX2_capacity 16 = .ok (.imul, 1) := by decide +kernel
theorem dX2_capacity_17 : decode cX2_capacity 17 = .ok (.iload_n 2, 1) := by decide +kernel
theorem dX2_capacity_18 : decode cX2_capacity 18 = .ok (.iadd, 1) := by decide +kernel
theorem dX2_capacity_19 : decode cX2_capacity 19 = .ok (.iaload, 1) := by decide +kernel
theorem dX2_capacity_20 : decode cX2_capacity 20 = .ok (.goto 4, 3) := by decide +kernel
theorem dX2_capacity_23 : decode cX2_capacity 23 = .ok (.iconst (-1), 1) := by decide +kernel
theorem dX2_capacity_24 : decode cX2_capacity 24 = .ok (.ireturn, 1) := by decide +kernel
abbrev cX2_link : ByteArray := prog_3_method_10_code
def yX2_link : MethodName := ⟨RX2, "link", "(II)I"⟩
theorem dX2_link_0 : decode cX2_link 0 = .ok (.aload_n 0, 1) := by decide +kernel
theorem dX2_link_1 : decode cX2_link 1 = .ok (.iload_n 1, 1) := by decide +kernel
theorem dX2_link_2 : decode cX2_link 2 = .ok (.iload_n 2, 1) := by decide +kernel
theorem dX2_link_3 : decode cX2_link 3 = .ok (.invokevirtual 21, 3) := by decide +kernel
theorem dX2_link_6 : decode cX2_link 6 = .ok (.ifCond .eq 12, 3) := by decide +kernel
theorem dX2_link_9 : decode cX2_link 9 = .ok (.aload_n 0, 1) := by decide +kernel
theorem dX2_link_10 : decode cX2_link 10 = .ok (.iload_n 1, 1) := by decide +kernel
theorem dX2_link_11 : decode cX2_link 11 = .ok (.iload_n 2, 1) := by decide +kernel
theorem dX2_link_12 : decode cX2_link 12 = .ok (.invokevirtual 36, 3) := by decide +kernel
theorem dX2_link_15 : decode cX2_link 15 = .ok (.goto 4, 3) := by decide +kernel
theorem dX2_link_18 : decode cX2_link 18 = .ok (.iconst (-1), 1) := by decide +kernel
theorem dX2_link_19 : decode cX2_link 19 = .ok (.ireturn, 1) := by decide +kernel
abbrev cX2_linkOf : ByteArray := prog_3_method_9_code
def yX2_linkOf : MethodName := ⟨RX2, "linkOf", "(II)I"⟩
theorem dX2_linkOf_0 : decode cX2_linkOf 0 = .ok (.iconst (-1), 1) := by decide +kernel
theorem dX2_linkOf_1 : decode cX2_linkOf 1 = .ok (.istore_n 3, 1) := by decide +kernel
theorem dX2_linkOf_2 : decode cX2_linkOf 2 = .ok (.iconst 1, 1) := by decide +kernel
theorem dX2_linkOf_3 : decode cX2_linkOf 3 = .ok (.istore 4, 2) := by decide +kernel
theorem dX2_linkOf_5 : decode cX2_linkOf 5 = .ok (.iload 4, 2) := by decide +kernel
theorem dX2_linkOf_7 : decode cX2_linkOf 7 = .ok (.aload_n 0, 1) := by decide +kernel
theorem dX2_linkOf_8 : decode cX2_linkOf 8 = .ok (.invokevirtual 28, 3) := by decide +kernel
theorem dX2_linkOf_11 : decode cX2_linkOf 11 = .ok (.if_icmp .ge 50, 3) := by decide +kernel
theorem dX2_linkOf_14 : decode cX2_linkOf 14 = .ok (.aload_n 0, 1) := by decide +kernel
theorem dX2_linkOf_15 : decode cX2_linkOf 15 = .ok (.iload 4, 2) := by decide +kernel
theorem dX2_linkOf_17 : decode cX2_linkOf 17 = .ok (.iload_n 1, 1) := by decide +kernel
theorem dX2_linkOf_18 : decode cX2_linkOf 18 = .ok (.invokevirtual 25, 3) := by decide +kernel
theorem dX2_linkOf_21 : decode cX2_linkOf 21 = .ok (.ifCond .eq 34, 3) := by decide +kernel
theorem dX2_linkOf_24 : decode cX2_linkOf 24 = .ok (.aload_n 0, 1) := by decide +kernel
theorem dX2_linkOf_25 : decode cX2_linkOf 25 = .ok (.iload 4, 2) := by decide +kernel
theorem dX2_linkOf_27 : decode cX2_linkOf 27 = .ok (.iload_n 2, 1) := by decide +kernel
theorem dX2_linkOf_28 : decode cX2_linkOf 28 = .ok (.invokevirtual 25, 3) := by decide +kernel
theorem dX2_linkOf_31 : decode cX2_linkOf 31 = .ok (.ifCond .ne 24, 3) := by decide +kernel
theorem dX2_linkOf_34 : decode cX2_linkOf 34 = .ok (.aload_n 0, 1) := by decide +kernel
theorem dX2_linkOf_35 : decode cX2_linkOf 35 = .ok (.iload 4, 2) := by decide +kernel
theorem dX2_linkOf_37 : decode cX2_linkOf 37 = .ok (.invokevirtual 32, 3) := by decide +kernel
theorem dX2_linkOf_40 : decode cX2_linkOf 40 = .ok (.istore 5, 2) := by decide +kernel
theorem dX2_linkOf_42 : decode cX2_linkOf 42 = .ok (.iload_n 3, 1) := by decide +kernel
theorem dX2_linkOf_43 : decode cX2_linkOf 43 = .ok (.ifCond .lt 9, 3) := by decide +kernel
theorem dX2_linkOf_46 : decode cX2_linkOf 46 = .ok (.iload 5, 2) := by decide +kernel
theorem dX2_linkOf_48 : decode cX2_linkOf 48 = .ok (.iload_n 3, 1) := by decide +kernel
theorem dX2_linkOf_49 : decode cX2_linkOf 49 = .ok (.if_icmp .ge 6, 3) := by decide +kernel
theorem dX2_linkOf_52 : decode cX2_linkOf 52 = .ok (.iload 5, 2) := by decide +kernel
theorem dX2_linkOf_54 : decode cX2_linkOf 54 = .ok (.istore_n 3, 1) := by decide +kernel
theorem dX2_linkOf_55 : decode cX2_linkOf 55 = .ok (.iinc 4 1, 3) := by decide +kernel
theorem dX2_linkOf_58 : decode cX2_linkOf 58 = .ok (.goto (-53), 3) := by decide +kernel
theorem dX2_linkOf_61 : decode cX2_linkOf 61 = .ok (.iload_n 3, 1) := by decide +kernel
theorem dX2_linkOf_62 : decode cX2_linkOf 62 = .ok (.ireturn, 1) := by decide +kernel
abbrev cX2_all : ByteArray := prog_3_method_8_code
def yX2_all : MethodName := ⟨RX2, "all", "()I"⟩
theorem dX2_all_0 : decode cX2_all 0 = .ok (.iconst 1, 1) := by decide +kernel
theorem dX2_all_1 : decode cX2_all 1 = .ok (.aload_n 0, 1) := by decide +kernel
theorem dX2_all_2 : decode cX2_all 2 = .ok (.getfield 13, 3) := by decide +kernel
theorem dX2_all_5 : decode cX2_all 5 = .ok (.ishl, 1) := by decide +kernel
theorem dX2_all_6 : decode cX2_all 6 = .ok (.iconst 1, 1) := by decide +kernel
theorem dX2_all_7 : decode cX2_all 7 = .ok (.isub, 1) := by decide +kernel
theorem dX2_all_8 : decode cX2_all 8 = .ok (.ireturn, 1) := by decide +kernel
abbrev cX2_in : ByteArray := prog_3_method_4_code
def yX2_in : MethodName := ⟨RX2, "in", "(II)Z"⟩
theorem dX2_in_0 : decode cX2_in 0 = .ok (.iload_n 1, 1) := by decide +kernel
theorem dX2_in_1 : decode cX2_in 1 = .ok (.iload_n 2, 1) := by decide +kernel
theorem dX2_in_2 : decode cX2_in 2 = .ok (.ishr, 1) := by decide +kernel
theorem dX2_in_3 : decode cX2_in 3 = .ok (.iconst 1, 1) := by decide +kernel
theorem dX2_in_4 : decode cX2_in 4 = .ok (.iand, 1) := by decide +kernel
theorem dX2_in_5 : decode cX2_in 5 = .ok (.iconst 1, 1) := by decide +kernel
theorem dX2_in_6 : decode cX2_in 6 = .ok (.if_icmp .ne 7, 3) := by decide +kernel
theorem dX2_in_9 : decode cX2_in 9 = .ok (.iconst 1, 1) := by decide +kernel
theorem dX2_in_10 : decode cX2_in 10 = .ok (.goto 4, 3) := by decide +kernel
theorem dX2_in_13 : decode cX2_in 13 = .ok (.iconst 0, 1) := by decide +kernel
theorem dX2_in_14 : decode cX2_in 14 = .ok (.ireturn, 1) := by decide +kernel
abbrev cX2_weightOf : ByteArray := prog_3_method_7_code
def yX2_weightOf : MethodName := ⟨RX2, "weightOf", "(I)I"⟩
theorem dX2_weightOf_0 : decode cX2_weightOf 0 = .ok (.iconst 0, 1) := by decide +kernel
theorem dX2_weightOf_1 : decode cX2_weightOf 1 = .ok (.istore_n 2, 1) := by decide +kernel
theorem dX2_weightOf_2 : decode cX2_weightOf 2 = .ok (.iconst 0, 1) := by decide +kernel
theorem dX2_weightOf_3 : decode cX2_weightOf 3 = .ok (.istore_n 3, 1) := by decide +kernel
theorem dX2_weightOf_4 : decode cX2_weightOf 4 = .ok (.iload_n 3, 1) := by decide +kernel
theorem dX2_weightOf_5 : decode cX2_weightOf 5 = .ok (.aload_n 0, 1) := by decide +kernel
theorem dX2_weightOf_6 : decode cX2_weightOf 6 = .ok (.getfield 13, 3) := by decide +kernel
theorem dX2_weightOf_9 : decode cX2_weightOf 9 = .ok (.if_icmp .ge 61, 3) := by decide +kernel
theorem dX2_weightOf_12 : decode cX2_weightOf 12 = .ok (.iconst 0, 1) := by decide +kernel
theorem dX2_weightOf_13 : decode cX2_weightOf 13 = .ok (.istore 4, 2) := by decide +kernel
theorem dX2_weightOf_15 : decode cX2_weightOf 15 = .ok (.iload 4, 2) := by decide +kernel
theorem dX2_weightOf_17 : decode cX2_weightOf 17 = .ok (.aload_n 0, 1) := by decide +kernel
theorem dX2_weightOf_18 : decode cX2_weightOf 18 = .ok (.getfield 13, 3) := by decide +kernel
theorem dX2_weightOf_21 : decode cX2_weightOf 21 = .ok (.if_icmp .ge 43, 3) := by decide +kernel
theorem dX2_weightOf_24 : decode cX2_weightOf 24 = .ok (.aload_n 0, 1) := by decide +kernel
theorem dX2_weightOf_25 : decode cX2_weightOf 25 = .ok (.iload_n 1, 1) := by decide +kernel
theorem dX2_weightOf_26 : decode cX2_weightOf 26 = .ok (.iload_n 3, 1) := by decide +kernel
theorem dX2_weightOf_27 : decode cX2_weightOf 27 = .ok (.invokevirtual 25, 3) := by decide +kernel
theorem dX2_weightOf_30 : decode cX2_weightOf 30 = .ok (.ifCond .eq 28, 3) := by decide +kernel
theorem dX2_weightOf_33 : decode cX2_weightOf 33 = .ok (.aload_n 0, 1) := by decide +kernel
theorem dX2_weightOf_34 : decode cX2_weightOf 34 = .ok (.iload_n 1, 1) := by decide +kernel
theorem dX2_weightOf_35 : decode cX2_weightOf 35 = .ok (.iload 4, 2) := by decide +kernel
theorem dX2_weightOf_37 : decode cX2_weightOf 37 = .ok (.invokevirtual 25, 3) := by decide +kernel
theorem dX2_weightOf_40 : decode cX2_weightOf 40 = .ok (.ifCond .ne 18, 3) := by decide +kernel
theorem dX2_weightOf_43 : decode cX2_weightOf 43 = .ok (.iload_n 2, 1) := by decide +kernel
theorem dX2_weightOf_44 : decode cX2_weightOf 44 = .ok (.aload_n 0, 1) := by decide +kernel
theorem dX2_weightOf_45 : decode cX2_weightOf 45 = .ok (.getfield 7, 3) := by decide +kernel
theorem dX2_weightOf_48 : decode cX2_weightOf 48 = .ok (.bipush 8, 2) := by decide +kernel
theorem dX2_weightOf_50 : decode cX2_weightOf 50 = .ok (.iload_n 3, 1) := by decide +kernel
theorem dX2_weightOf_51 : decode cX2_weightOf 51 = .ok (.imul, 1) := by decide +kernel
theorem dX2_weightOf_52 : decode cX2_weightOf 52 = .ok (.iload 4, 2) := by decide +kernel
theorem dX2_weightOf_54 : decode cX2_weightOf 54 = .ok (.iadd, 1) := by decide +kernel
theorem dX2_weightOf_55 : decode cX2_weightOf 55 = .ok (.iaload, 1) := by decide +kernel
theorem dX2_weightOf_56 : decode cX2_weightOf 56 = .ok (.iadd, 1) := by decide +kernel
theorem dX2_weightOf_57 : decode cX2_weightOf 57 = .ok (.istore_n 2, 1) := by decide +kernel
theorem dX2_weightOf_58 : decode cX2_weightOf 58 = .ok (.iinc 4 1, 3) := by decide +kernel
theorem dX2_weightOf_61 : decode cX2_weightOf 61 = .ok (.goto (-46), 3) := by decide +kernel
theorem dX2_weightOf_64 : decode cX2_weightOf 64 = .ok (.iinc 3 1, 3) := by decide +kernel
theorem dX2_weightOf_67 : decode cX2_weightOf 67 = .ok (.goto (-63), 3) := by decide +kernel
theorem dX2_weightOf_70 : decode cX2_weightOf 70 = .ok (.iload_n 2, 1) := by decide +kernel
theorem dX2_weightOf_71 : decode cX2_weightOf 71 = .ok (.ireturn, 1) := by decide +kernel
abbrev cX2_side : ByteArray := prog_3_method_12_code
def yX2_side : MethodName := ⟨RX2, "side", "(II)I"⟩
theorem dX2_side_0 : decode cX2_side 0 = .ok (.aload_n 0, 1) := by decide +kernel
theorem dX2_side_1 : decode cX2_side 1 = .ok (.iload_n 1, 1) := by decide +kernel
theorem dX2_side_2 : decode cX2_side 2 = .ok (.iload_n 2, 1) := by decide +kernel
theorem dX2_side_3 : decode cX2_side 3 = .ok (.invokevirtual 21, 3) := by decide +kernel
theorem dX2_side_6 : decode cX2_side 6 = .ok (.ifCond .ne 5, 3) := by decide +kernel
theorem dX2_side_9 : decode cX2_side 9 = .ok (.iconst (-1), 1) := by decide +kernel
theorem dX2_side_10 : decode cX2_side 10 = .ok (.ireturn, 1) := by decide +kernel
theorem dX2_side_11 : decode cX2_side 11 = .ok (.aload_n 0, 1) := by decide +kernel
theorem dX2_side_12 : decode cX2_side 12 = .ok (.iload_n 1, 1) := by decide +kernel
theorem dX2_side_13 : decode cX2_side 13 = .ok (.iload_n 2, 1) := by decide +kernel
theorem dX2_side_14 : decode cX2_side 14 = .ok (.invokevirtual 36, 3) := by decide +kernel
theorem dX2_side_17 : decode cX2_side 17 = .ok (.istore_n 3, 1) := by decide +kernel
theorem dX2_side_18 : decode cX2_side 18 = .ok (.iconst 0, 1) := by decide +kernel
theorem dX2_side_19 : decode cX2_side 19 = .ok (.istore 4, 2) := by decide +kernel
theorem dX2_side_21 : decode cX2_side 21 = .ok (.iconst 1, 1) := by decide +kernel
theorem dX2_side_22 : decode cX2_side 22 = .ok (.istore 5, 2) := by decide +kernel
theorem dX2_side_24 : decode cX2_side 24 = .ok (.iload 5, 2) := by decide +kernel
theorem dX2_side_26 : decode cX2_side 26 = .ok (.aload_n 0, 1) := by decide +kernel
theorem dX2_side_27 : decode cX2_side 27 = .ok (.invokevirtual 28, 3) := by decide +kernel
theorem dX2_side_30 : decode cX2_side 30 = .ok (.if_icmp .ge 75, 3) := by decide +kernel
theorem dX2_side_33 : decode cX2_side 33 = .ok (.aload_n 0, 1) := by decide +kernel
theorem dX2_side_34 : decode cX2_side 34 = .ok (.iload 5, 2) := by decide +kernel
theorem dX2_side_36 : decode cX2_side 36 = .ok (.iload_n 1, 1) := by decide +kernel
theorem dX2_side_37 : decode cX2_side 37 = .ok (.invokevirtual 25, 3) := by decide +kernel
theorem dX2_side_40 : decode cX2_side 40 = .ok (.ifCond .eq 27, 3) := by decide +kernel
theorem dX2_side_43 : decode cX2_side 43 = .ok (.aload_n 0, 1) := by decide +kernel
theorem dX2_side_44 : decode cX2_side 44 = .ok (.iload 5, 2) := by decide +kernel
theorem dX2_side_46 : decode cX2_side 46 = .ok (.iload_n 2, 1) := by decide +kernel
theorem dX2_side_47 : decode cX2_side 47 = .ok (.invokevirtual 25, 3) := by decide +kernel
theorem dX2_side_50 : decode cX2_side 50 = .ok (.ifCond .ne 17, 3) := by decide +kernel
theorem dX2_side_53 : decode cX2_side 53 = .ok (.aload_n 0, 1) := by decide +kernel
theorem dX2_side_54 : decode cX2_side 54 = .ok (.iload 5, 2) := by decide +kernel
theorem dX2_side_56 : decode cX2_side 56 = .ok (.invokevirtual 32, 3) := by decide +kernel
theorem dX2_side_59 : decode cX2_side 59 = .ok (.iload_n 3, 1) := by decide +kernel
theorem dX2_side_60 : decode cX2_side 60 = .ok (.if_icmp .ne 7, 3) := by decide +kernel
theorem dX2_side_63 : decode cX2_side 63 = .ok (.iconst 1, 1) := by decide +kernel
theorem dX2_side_64 : decode cX2_side 64 = .ok (.goto 4, 3) := by decide +kernel
theorem dX2_side_67 : decode cX2_side 67 = .ok (.iconst 0, 1) := by decide +kernel
theorem dX2_side_68 : decode cX2_side 68 = .ok (.istore 6, 2) := by decide +kernel
theorem dX2_side_70 : decode cX2_side 70 = .ok (.iload 6, 2) := by decide +kernel
theorem dX2_side_72 : decode cX2_side 72 = .ok (.ifCond .eq 27, 3) := by decide +kernel
theorem dX2_side_75 : decode cX2_side 75 = .ok (.iload 4, 2) := by decide +kernel
theorem dX2_side_77 : decode cX2_side 77 = .ok (.ifCond .eq 18, 3) := by decide +kernel
theorem dX2_side_80 : decode cX2_side 80 = .ok (.aload_n 0, 1) := by decide +kernel
theorem dX2_side_81 : decode cX2_side 81 = .ok (.iload 5, 2) := by decide +kernel
theorem dX2_side_83 : decode cX2_side 83 = .ok (.invokevirtual 40, 3) := by decide +kernel
theorem dX2_side_86 : decode cX2_side 86 = .ok (.aload_n 0, 1) := by decide +kernel
theorem dX2_side_87 : decode cX2_side 87 = .ok (.iload 4, 2) := by decide +kernel
theorem dX2_side_89 : decode cX2_side 89 = .ok (.invokevirtual 40, 3) := by decide +kernel
theorem dX2_side_92 : decode cX2_side 92 = .ok (.if_icmp .ge 7, 3) := by decide +kernel
theorem dX2_side_95 : decode cX2_side 95 = .ok (.iload 5, 2) := by decide +kernel
theorem dX2_side_97 : decode cX2_side 97 = .ok (.istore 4, 2) := by decide +kernel
theorem dX2_side_99 : decode cX2_side 99 = .ok (.iinc 5 1, 3) := by decide +kernel
theorem dX2_side_102 : decode cX2_side 102 = .ok (.goto (-78), 3) := by decide +kernel
theorem dX2_side_105 : decode cX2_side 105 = .ok (.iload 4, 2) := by decide +kernel
theorem dX2_side_107 : decode cX2_side 107 = .ok (.ireturn, 1) := by decide +kernel
abbrev cX2_sizeOf : ByteArray := prog_3_method_11_code
def yX2_sizeOf : MethodName := ⟨RX2, "sizeOf", "(I)I"⟩
theorem dX2_sizeOf_0 : decode cX2_sizeOf 0 = .ok (.iconst 0, 1) := by decide +kernel
theorem dX2_sizeOf_1 : decode cX2_sizeOf 1 = .ok (.istore_n 2, 1) := by decide +kernel
theorem dX2_sizeOf_2 : decode cX2_sizeOf 2 = .ok (.iconst 0, 1) := by decide +kernel
theorem dX2_sizeOf_3 : decode cX2_sizeOf 3 = .ok (.istore_n 3, 1) := by decide +kernel
theorem dX2_sizeOf_4 : decode cX2_sizeOf 4 = .ok (.iload_n 3, 1) := by decide +kernel
theorem dX2_sizeOf_5 : decode cX2_sizeOf 5 = .ok (.aload_n 0, 1) := by decide +kernel
theorem dX2_sizeOf_6 : decode cX2_sizeOf 6 = .ok (.getfield 13, 3) := by decide +kernel
theorem dX2_sizeOf_9 : decode cX2_sizeOf 9 = .ok (.if_icmp .ge 21, 3) := by decide +kernel
theorem dX2_sizeOf_12 : decode cX2_sizeOf 12 = .ok (.aload_n 0, 1) := by decide +kernel
theorem dX2_sizeOf_13 : decode cX2_sizeOf 13 = .ok (.iload_n 1, 1) := by decide +kernel
theorem dX2_sizeOf_14 : decode cX2_sizeOf 14 = .ok (.iload_n 3, 1) := by decide +kernel
theorem dX2_sizeOf_15 : decode cX2_sizeOf 15 = .ok (.invokevirtual 25, 3) := by decide +kernel
theorem dX2_sizeOf_18 : decode cX2_sizeOf 18 = .ok (.ifCond .eq 6, 3) := by decide +kernel
theorem dX2_sizeOf_21 : decode cX2_sizeOf 21 = .ok (.iinc 2 1, 3) := by decide +kernel
theorem dX2_sizeOf_24 : decode cX2_sizeOf 24 = .ok (.iinc 3 1, 3) := by decide +kernel
theorem dX2_sizeOf_27 : decode cX2_sizeOf 27 = .ok (.goto (-23), 3) := by decide +kernel
theorem dX2_sizeOf_30 : decode cX2_sizeOf 30 = .ok (.iload_n 2, 1) := by decide +kernel
theorem dX2_sizeOf_31 : decode cX2_sizeOf 31 = .ok (.ireturn, 1) := by decide +kernel
abbrev cX2_smallest : ByteArray := prog_3_method_13_code
def yX2_smallest : MethodName := ⟨RX2, "smallest", "()I"⟩
theorem dX2_smallest_0 : decode cX2_smallest 0 = .ok (.iconst (-1), 1) := by decide +kernel
theorem dX2_smallest_1 : decode cX2_smallest 1 = .ok (.istore_n 1, 1) := by decide +kernel
theorem dX2_smallest_2 : decode cX2_smallest 2 = .ok (.iconst 1, 1) := by decide +kernel
theorem dX2_smallest_3 : decode cX2_smallest 3 = .ok (.istore_n 2, 1) := by decide +kernel
theorem dX2_smallest_4 : decode cX2_smallest 4 = .ok (.iload_n 2, 1) := by decide +kernel
theorem dX2_smallest_5 : decode cX2_smallest 5 = .ok (.aload_n 0, 1) := by decide +kernel
theorem dX2_smallest_6 : decode cX2_smallest 6 = .ok (.invokevirtual 28, 3) := by decide +kernel
theorem dX2_smallest_9 : decode cX2_smallest 9 = .ok (.if_icmp .ge 26, 3) := by decide +kernel
theorem dX2_smallest_12 : decode cX2_smallest 12 = .ok (.aload_n 0, 1) := by decide +kernel
theorem dX2_smallest_13 : decode cX2_smallest 13 = .ok (.iload_n 2, 1) := by decide +kernel
theorem dX2_smallest_14 : decode cX2_smallest 14 = .ok (.invokevirtual 32, 3) := by decide +kernel
theorem dX2_smallest_17 : decode cX2_smallest 17 = .ok (.istore_n 3, 1) := by decide +kernel
theorem dX2_smallest_18 : decode cX2_smallest 18 = .ok (.iload_n 1, 1) := by decide +kernel
theorem dX2_smallest_19 : decode cX2_smallest 19 = .ok (.ifCond .lt 8, 3) := by decide +kernel
theorem dX2_smallest_22 : decode cX2_smallest 22 = .ok (.iload_n 3, 1) := by decide +kernel
theorem dX2_smallest_23 : decode cX2_smallest 23 = .ok (.iload_n 1, 1) := by decide +kernel
theorem dX2_smallest_24 : decode cX2_smallest 24 = .ok (.if_icmp .ge 5, 3) := by decide +kernel
theorem dX2_smallest_27 : decode cX2_smallest 27 = .ok (.iload_n 3, 1) := by decide +kernel
theorem dX2_smallest_28 : decode cX2_smallest 28 = .ok (.istore_n 1, 1) := by decide +kernel
theorem dX2_smallest_29 : decode cX2_smallest 29 = .ok (.iinc 2 1, 3) := by decide +kernel
theorem dX2_smallest_32 : decode cX2_smallest 32 = .ok (.goto (-28), 3) := by decide +kernel
theorem dX2_smallest_35 : decode cX2_smallest 35 = .ok (.iload_n 1, 1) := by decide +kernel
theorem dX2_smallest_36 : decode cX2_smallest 36 = .ok (.ireturn, 1) := by decide +kernel
abbrev cX2_couples : ByteArray := prog_3_method_14_code
def yX2_couples : MethodName := ⟨RX2, "couples", "(I)I"⟩
theorem dX2_couples_0 : decode cX2_couples 0 = .ok (.iconst 0, 1) := by decide +kernel
theorem dX2_couples_1 : decode cX2_couples 1 = .ok (.istore_n 2, 1) := by decide +kernel
theorem dX2_couples_2 : decode cX2_couples 2 = .ok (.iconst 0, 1) := by decide +kernel
theorem dX2_couples_3 : decode cX2_couples 3 = .ok (.istore_n 3, 1) := by decide +kernel
theorem dX2_couples_4 : decode cX2_couples 4 = .ok (.iload_n 3, 1) := by decide +kernel
theorem dX2_couples_5 : decode cX2_couples 5 = .ok (.aload_n 0, 1) := by decide +kernel
theorem dX2_couples_6 : decode cX2_couples 6 = .ok (.getfield 13, 3) := by decide +kernel
theorem dX2_couples_9 : decode cX2_couples 9 = .ok (.if_icmp .ge 38, 3) := by decide +kernel
theorem dX2_couples_12 : decode cX2_couples 12 = .ok (.iconst 0, 1) := by decide +kernel
theorem dX2_couples_13 : decode cX2_couples 13 = .ok (.istore 4, 2) := by decide +kernel
theorem dX2_couples_15 : decode cX2_couples 15 = .ok (.iload 4, 2) := by decide +kernel
theorem dX2_couples_17 : decode cX2_couples 17 = .ok (.iload_n 3, 1) := by decide +kernel
theorem dX2_couples_18 : decode cX2_couples 18 = .ok (.if_icmp .ge 23, 3) := by decide +kernel
theorem dX2_couples_21 : decode cX2_couples 21 = .ok (.aload_n 0, 1) := by decide +kernel
theorem dX2_couples_22 : decode cX2_couples 22 = .ok (.iload_n 3, 1) := by decide +kernel
theorem dX2_couples_23 : decode cX2_couples 23 = .ok (.iload 4, 2) := by decide +kernel
theorem dX2_couples_25 : decode cX2_couples 25 = .ok (.invokevirtual 36, 3) := by decide +kernel
theorem dX2_couples_28 : decode cX2_couples 28 = .ok (.iload_n 1, 1) := by decide +kernel
theorem dX2_couples_29 : decode cX2_couples 29 = .ok (.if_icmp .lt 6, 3) := by decide +kernel
theorem dX2_couples_32 : decode cX2_couples 32 = .ok (.iinc 2 1, 3) := by decide +kernel
theorem dX2_couples_35 : decode cX2_couples 35 = .ok (.iinc 4 1, 3) := by decide +kernel
theorem dX2_couples_38 : decode cX2_couples 38 = .ok (.goto (-23), 3) := by decide +kernel
theorem dX2_couples_41 : decode cX2_couples 41 = .ok (.iinc 3 1, 3) := by decide +kernel
theorem dX2_couples_44 : decode cX2_couples 44 = .ok (.goto (-40), 3) := by decide +kernel
theorem dX2_couples_47 : decode cX2_couples 47 = .ok (.iload_n 2, 1) := by decide +kernel
theorem dX2_couples_48 : decode cX2_couples 48 = .ok (.ireturn, 1) := by decide +kernel
abbrev cX2_groups : ByteArray := prog_3_method_16_code
def yX2_groups : MethodName := ⟨RX2, "groups", "(I)I"⟩
theorem dX2_groups_0 : decode cX2_groups 0 = .ok (.iconst 0, 1) := by decide +kernel
theorem dX2_groups_1 : decode cX2_groups 1 = .ok (.istore_n 2, 1) := by decide +kernel
theorem dX2_groups_2 : decode cX2_groups 2 = .ok (.iconst 0, 1) := by decide +kernel
theorem dX2_groups_3 : decode cX2_groups 3 = .ok (.istore_n 3, 1) := by decide +kernel
theorem dX2_groups_4 : decode cX2_groups 4 = .ok (.iload_n 3, 1) := by decide +kernel
theorem dX2_groups_5 : decode cX2_groups 5 = .ok (.aload_n 0, 1) := by decide +kernel
theorem dX2_groups_6 : decode cX2_groups 6 = .ok (.getfield 13, 3) := by decide +kernel
theorem dX2_groups_9 : decode cX2_groups 9 = .ok (.if_icmp .ge 31, 3) := by decide +kernel
theorem dX2_groups_12 : decode cX2_groups 12 = .ok (.aload_n 0, 1) := by decide +kernel
theorem dX2_groups_13 : decode cX2_groups 13 = .ok (.iload_n 3, 1) := by decide +kernel
theorem dX2_groups_14 : decode cX2_groups 14 = .ok (.iload_n 1, 1) := by decide +kernel
theorem dX2_groups_15 : decode cX2_groups 15 = .ok (.invokevirtual 43, 3) := by decide +kernel
theorem dX2_groups_18 : decode cX2_groups 18 = .ok (.istore 4, 2) := by decide +kernel
theorem dX2_groups_20 : decode cX2_groups 20 = .ok (.iload 4, 2) := by decide +kernel
theorem dX2_groups_22 : decode cX2_groups 22 = .ok (.iconst 1, 1) := by decide +kernel
theorem dX2_groups_23 : decode cX2_groups 23 = .ok (.iload_n 3, 1) := by decide +kernel
theorem dX2_groups_24 : decode cX2_groups 24 = .ok (.ishl, 1) := by decide +kernel
theorem dX2_groups_25 : decode cX2_groups 25 = .ok (.iconst 1, 1) := by decide +kernel
theorem dX2_groups_26 : decode cX2_groups 26 = .ok (.isub, 1) := by decide +kernel
theorem dX2_groups_27 : decode cX2_groups 27 = .ok (.iand, 1) := by decide +kernel
theorem dX2_groups_28 : decode cX2_groups 28 = .ok (.ifCond .ne 6, 3) := by decide +kernel
theorem dX2_groups_31 : decode cX2_groups 31 = .ok (.iinc 2 1, 3) := by decide +kernel
theorem dX2_groups_34 : decode cX2_groups 34 = .ok (.iinc 3 1, 3) := by decide +kernel
theorem dX2_groups_37 : decode cX2_groups 37 = .ok (.goto (-33), 3) := by decide +kernel
theorem dX2_groups_40 : decode cX2_groups 40 = .ok (.iload_n 2, 1) := by decide +kernel
theorem dX2_groups_41 : decode cX2_groups 41 = .ok (.ireturn, 1) := by decide +kernel
abbrev cX2_groupOf : ByteArray := prog_3_method_15_code
def yX2_groupOf : MethodName := ⟨RX2, "groupOf", "(II)I"⟩
theorem dX2_groupOf_0 : decode cX2_groupOf 0 = .ok (.iconst 1, 1) := by decide +kernel
theorem dX2_groupOf_1 : decode cX2_groupOf 1 = .ok (.iload_n 1, 1) := by decide +kernel
theorem dX2_groupOf_2 : decode cX2_groupOf 2 = .ok (.ishl, 1) := by decide +kernel
theorem dX2_groupOf_3 : decode cX2_groupOf 3 = .ok (.istore_n 3, 1) := by decide +kernel
theorem dX2_groupOf_4 : decode cX2_groupOf 4 = .ok (.iconst 0, 1) := by decide +kernel
theorem dX2_groupOf_5 : decode cX2_groupOf 5 = .ok (.istore 4, 2) := by decide +kernel
theorem dX2_groupOf_7 : decode cX2_groupOf 7 = .ok (.iload 4, 2) := by decide +kernel
theorem dX2_groupOf_9 : decode cX2_groupOf 9 = .ok (.aload_n 0, 1) := by decide +kernel
theorem dX2_groupOf_10 : decode cX2_groupOf 10 = .ok (.getfield 13, 3) := by decide +kernel
theorem dX2_groupOf_13 : decode cX2_groupOf 13 = .ok (.if_icmp .ge 33, 3) := by decide +kernel
theorem dX2_groupOf_16 : decode cX2_groupOf 16 = .ok (.iload 4, 2) := by decide +kernel
theorem dX2_groupOf_18 : decode cX2_groupOf 18 = .ok (.iload_n 1, 1) := by decide +kernel
theorem dX2_groupOf_19 : decode cX2_groupOf 19 = .ok (.if_icmp .eq 21, 3) := by decide +kernel
theorem dX2_groupOf_22 : decode cX2_groupOf 22 = .ok (.aload_n 0, 1) := by decide +kernel
theorem dX2_groupOf_23 : decode cX2_groupOf 23 = .ok (.iload_n 1, 1) := by decide +kernel
theorem dX2_groupOf_24 : decode cX2_groupOf 24 = .ok (.iload 4, 2) := by decide +kernel
theorem dX2_groupOf_26 : decode cX2_groupOf 26 = .ok (.invokevirtual 36, 3) := by decide +kernel
theorem dX2_groupOf_29 : decode cX2_groupOf 29 = .ok (.iload_n 2, 1) := by decide +kernel
theorem dX2_groupOf_30 : decode cX2_groupOf 30 = .ok (.if_icmp .lt 10, 3) := by decide +kernel
theorem dX2_groupOf_33 : decode cX2_groupOf 33 = .ok (.iload_n 3, 1) := by decide +kernel
theorem dX2_groupOf_34 : decode cX2_groupOf 34 = .ok (.iconst 1, 1) := by decide +kernel
theorem dX2_groupOf_35 : decode cX2_groupOf 35 = .ok (.iload 4, 2) := by decide +kernel
theorem dX2_groupOf_37 : decode cX2_groupOf 37 = .ok (.ishl, 1) := by decide +kernel
theorem dX2_groupOf_38 : decode cX2_groupOf 38 = .ok (.ior, 1) := by decide +kernel
theorem dX2_groupOf_39 : decode cX2_groupOf 39 = .ok (.istore_n 3, 1) := by decide +kernel
theorem dX2_groupOf_40 : decode cX2_groupOf 40 = .ok (.iinc 4 1, 3) := by decide +kernel
theorem dX2_groupOf_43 : decode cX2_groupOf 43 = .ok (.goto (-36), 3) := by decide +kernel
theorem dX2_groupOf_46 : decode cX2_groupOf 46 = .ok (.iload_n 3, 1) := by decide +kernel
theorem dX2_groupOf_47 : decode cX2_groupOf 47 = .ok (.ireturn, 1) := by decide +kernel
abbrev cX2_group : ByteArray := prog_3_method_17_code
def yX2_group : MethodName := ⟨RX2, "group", "(II)I"⟩
theorem dX2_group_0 : decode cX2_group 0 = .ok (.aload_n 0, 1) := by decide +kernel
theorem dX2_group_1 : decode cX2_group 1 = .ok (.iload_n 1, 1) := by decide +kernel
theorem dX2_group_2 : decode cX2_group 2 = .ok (.invokevirtual 17, 3) := by decide +kernel
theorem dX2_group_5 : decode cX2_group 5 = .ok (.ifCond .eq 12, 3) := by decide +kernel
theorem dX2_group_8 : decode cX2_group 8 = .ok (.aload_n 0, 1) := by decide +kernel
theorem dX2_group_9 : decode cX2_group 9 = .ok (.iload_n 1, 1) := by decide +kernel
theorem dX2_group_10 : decode cX2_group 10 = .ok (.iload_n 2, 1) := by decide +kernel
theorem dX2_group_11 : decode cX2_group 11 = .ok (.invokevirtual 43, 3) := by decide +kernel
theorem dX2_group_14 : decode cX2_group 14 = .ok (.goto 4, 3) := by decide +kernel
theorem dX2_group_17 : decode cX2_group 17 = .ok (.iconst (-1), 1) := by decide +kernel
theorem dX2_group_18 : decode cX2_group 18 = .ok (.ireturn, 1) := by decide +kernel
abbrev cX2_weight : ByteArray := prog_3_method_18_code
def yX2_weight : MethodName := ⟨RX2, "weight", "(I)I"⟩
theorem dX2_weight_0 : decode cX2_weight 0 = .ok (.iload_n 1, 1) := by decide +kernel
theorem dX2_weight_1 : decode cX2_weight 1 = .ok (.ifCond .le 19, 3) := by decide +kernel
theorem dX2_weight_4 : decode cX2_weight 4 = .ok (.iload_n 1, 1) := by decide +kernel
theorem dX2_weight_5 : decode cX2_weight 5 = .ok (.aload_n 0, 1) := by decide +kernel
theorem dX2_weight_6 : decode cX2_weight 6 = .ok (.invokevirtual 28, 3) := by decide +kernel
theorem dX2_weight_9 : decode cX2_weight 9 = .ok (.if_icmp .ge 11, 3) := by decide +kernel
theorem dX2_weight_12 : decode cX2_weight 12 = .ok (.aload_n 0, 1) := by decide +kernel
theorem dX2_weight_13 : decode cX2_weight 13 = .ok (.iload_n 1, 1) := by decide +kernel
theorem dX2_weight_14 : decode cX2_weight 14 = .ok (.invokevirtual 32, 3) := by decide +kernel
theorem dX2_weight_17 : decode cX2_weight 17 = .ok (.goto 4, 3) := by decide +kernel
theorem dX2_weight_20 : decode cX2_weight 20 = .ok (.iconst (-1), 1) := by decide +kernel
theorem dX2_weight_21 : decode cX2_weight 21 = .ok (.ireturn, 1) := by decide +kernel
abbrev cX2_total : ByteArray := prog_3_method_19_code
def yX2_total : MethodName := ⟨RX2, "total", "()I"⟩
theorem dX2_total_0 : decode cX2_total 0 = .ok (.iconst 0, 1) := by decide +kernel
theorem dX2_total_1 : decode cX2_total 1 = .ok (.istore_n 1, 1) := by decide +kernel
theorem dX2_total_2 : decode cX2_total 2 = .ok (.iconst 0, 1) := by decide +kernel
theorem dX2_total_3 : decode cX2_total 3 = .ok (.istore_n 2, 1) := by decide +kernel
theorem dX2_total_4 : decode cX2_total 4 = .ok (.iload_n 2, 1) := by decide +kernel
theorem dX2_total_5 : decode cX2_total 5 = .ok (.aload_n 0, 1) := by decide +kernel
theorem dX2_total_6 : decode cX2_total 6 = .ok (.getfield 13, 3) := by decide +kernel
theorem dX2_total_9 : decode cX2_total 9 = .ok (.if_icmp .ge 31, 3) := by decide +kernel
theorem dX2_total_12 : decode cX2_total 12 = .ok (.iconst 0, 1) := by decide +kernel
theorem dX2_total_13 : decode cX2_total 13 = .ok (.istore_n 3, 1) := by decide +kernel
theorem dX2_total_14 : decode cX2_total 14 = .ok (.iload_n 3, 1) := by decide +kernel
theorem dX2_total_15 : decode cX2_total 15 = .ok (.iload_n 2, 1) := by decide +kernel
theorem dX2_total_16 : decode cX2_total 16 = .ok (.if_icmp .ge 18, 3) := by decide +kernel
theorem dX2_total_19 : decode cX2_total 19 = .ok (.iload_n 1, 1) := by decide +kernel
theorem dX2_total_20 : decode cX2_total 20 = .ok (.aload_n 0, 1) := by decide +kernel
theorem dX2_total_21 : decode cX2_total 21 = .ok (.iload_n 2, 1) := by decide +kernel
theorem dX2_total_22 : decode cX2_total 22 = .ok (.iload_n 3, 1) := by decide +kernel
theorem dX2_total_23 : decode cX2_total 23 = .ok (.invokevirtual 36, 3) := by decide +kernel
theorem dX2_total_26 : decode cX2_total 26 = .ok (.iadd, 1) := by decide +kernel
theorem dX2_total_27 : decode cX2_total 27 = .ok (.istore_n 1, 1) := by decide +kernel
theorem dX2_total_28 : decode cX2_total 28 = .ok (.iinc 3 1, 3) := by decide +kernel
theorem dX2_total_31 : decode cX2_total 31 = .ok (.goto (-17), 3) := by decide +kernel
theorem dX2_total_34 : decode cX2_total 34 = .ok (.iinc 2 1, 3) := by decide +kernel
theorem dX2_total_37 : decode cX2_total 37 = .ok (.goto (-33), 3) := by decide +kernel
theorem dX2_total_40 : decode cX2_total 40 = .ok (.iload_n 1, 1) := by decide +kernel
theorem dX2_total_41 : decode cX2_total 41 = .ok (.ireturn, 1) := by decide +kernel
abbrev cX2_cap : ByteArray := prog_3_method_20_code
def yX2_cap : MethodName := ⟨RX2, "cap", "(I)I"⟩
theorem dX2_cap_0 : decode cX2_cap 0 = .ok (.iload_n 1, 1) := by decide +kernel
theorem dX2_cap_1 : decode cX2_cap 1 = .ok (.ifCond .ge 5, 3) := by decide +kernel
theorem dX2_cap_4 : decode cX2_cap 4 = .ok (.iconst (-1), 1) := by decide +kernel
theorem dX2_cap_5 : decode cX2_cap 5 = .ok (.ireturn, 1) := by decide +kernel
theorem dX2_cap_6 : decode cX2_cap 6 = .ok (.iconst 0, 1) := by decide +kernel
theorem dX2_cap_7 : decode cX2_cap 7 = .ok (.istore_n 2, 1) := by decide +kernel
theorem dX2_cap_8 : decode cX2_cap 8 = .ok (.iconst 0, 1) := by decide +kernel
theorem dX2_cap_9 : decode cX2_cap 9 = .ok (.istore_n 3, 1) := by decide +kernel
theorem dX2_cap_10 : decode cX2_cap 10 = .ok (.iload_n 3, 1) := by decide +kernel
theorem dX2_cap_11 : decode cX2_cap 11 = .ok (.aload_n 0, 1) := by decide +kernel
theorem dX2_cap_12 : decode cX2_cap 12 = .ok (.getfield 13, 3) := by decide +kernel
theorem dX2_cap_15 : decode cX2_cap 15 = .ok (.if_icmp .ge 69, 3) := by decide +kernel
theorem dX2_cap_18 : decode cX2_cap 18 = .ok (.iconst 0, 1) := by decide +kernel
theorem dX2_cap_19 : decode cX2_cap 19 = .ok (.istore 4, 2) := by decide +kernel
theorem dX2_cap_21 : decode cX2_cap 21 = .ok (.iload 4, 2) := by decide +kernel
theorem dX2_cap_23 : decode cX2_cap 23 = .ok (.iload_n 3, 1) := by decide +kernel
theorem dX2_cap_24 : decode cX2_cap 24 = .ok (.if_icmp .ge 54, 3) := by decide +kernel
theorem dX2_cap_27 : decode cX2_cap 27 = .ok (.aload_n 0, 1) := by decide +kernel
theorem dX2_cap_28 : decode cX2_cap 28 = .ok (.getfield 7, 3) := by decide +kernel
theorem dX2_cap_31 : decode cX2_cap 31 = .ok (.bipush 8, 2) := by decide +kernel
theorem dX2_cap_33 : decode cX2_cap 33 = .ok (.iload_n 3, 1) := by decide +kernel
theorem dX2_cap_34 : decode cX2_cap 34 = .ok (.imul, 1) := by decide +kernel
theorem dX2_cap_35 : decode cX2_cap 35 = .ok (.iload 4, 2) := by decide +kernel
theorem dX2_cap_37 : decode cX2_cap 37 = .ok (.iadd, 1) := by decide +kernel
theorem dX2_cap_38 : decode cX2_cap 38 = .ok (.iaload, 1) := by decide +kernel
theorem dX2_cap_39 : decode cX2_cap 39 = .ok (.iload_n 1, 1) := by decide +kernel
theorem dX2_cap_40 : decode cX2_cap 40 = .ok (.if_icmp .le 32, 3) := by decide +kernel
theorem dX2_cap_43 : decode cX2_cap 43 = .ok (.iinc 2 1, 3) := by decide +kernel
theorem dX2_cap_46 : decode cX2_cap 46 = .ok (.aload_n 0, 1) := by decide +kernel
theorem dX2_cap_47 : decode cX2_cap 47 = .ok (.getfield 7, 3) := by decide +kernel
theorem dX2_cap_50 : decode cX2_cap 50 = .ok (.bipush 8, 2) := by decide +kernel
theorem dX2_cap_52 : decode cX2_cap 52 = .ok (.iload_n 3, 1) := by decide +kernel
theorem dX2_cap_53 : decode cX2_cap 53 = .ok (.imul, 1) := by decide +kernel
theorem dX2_cap_54 : decode cX2_cap 54 = .ok (.iload 4, 2) := by decide +kernel
theorem dX2_cap_56 : decode cX2_cap 56 = .ok (.iadd, 1) := by decide +kernel
theorem dX2_cap_57 : decode cX2_cap 57 = .ok (.iload_n 1, 1) := by decide +kernel
theorem dX2_cap_58 : decode cX2_cap 58 = .ok (.iastore, 1) := by decide +kernel
theorem dX2_cap_59 : decode cX2_cap 59 = .ok (.aload_n 0, 1) := by decide +kernel
theorem dX2_cap_60 : decode cX2_cap 60 = .ok (.getfield 7, 3) := by decide +kernel
theorem dX2_cap_63 : decode cX2_cap 63 = .ok (.bipush 8, 2) := by decide +kernel
theorem dX2_cap_65 : decode cX2_cap 65 = .ok (.iload 4, 2) := by decide +kernel
theorem dX2_cap_67 : decode cX2_cap 67 = .ok (.imul, 1) := by decide +kernel
theorem dX2_cap_68 : decode cX2_cap 68 = .ok (.iload_n 3, 1) := by decide +kernel
theorem dX2_cap_69 : decode cX2_cap 69 = .ok (.iadd, 1) := by decide +kernel
theorem dX2_cap_70 : decode cX2_cap 70 = .ok (.iload_n 1, 1) := by decide +kernel
theorem dX2_cap_71 : decode cX2_cap 71 = .ok (.iastore, 1) := by decide +kernel
theorem dX2_cap_72 : decode cX2_cap 72 = .ok (.iinc 4 1, 3) := by decide +kernel
theorem dX2_cap_75 : decode cX2_cap 75 = .ok (.goto (-54), 3) := by decide +kernel
theorem dX2_cap_78 : decode cX2_cap 78 = .ok (.iinc 3 1, 3) := by decide +kernel
theorem dX2_cap_81 : decode cX2_cap 81 = .ok (.goto (-71), 3) := by decide +kernel
theorem dX2_cap_84 : decode cX2_cap 84 = .ok (.iload_n 2, 1) := by decide +kernel
theorem dX2_cap_85 : decode cX2_cap 85 = .ok (.ireturn, 1) := by decide +kernel
theorem q19 : (Jvm.Cond.initialized "CutTreeModel") ∈ lw_all := lw_g (lw_at lw_m0 2 rfl) rfl
theorem q143 : (Jvm.Cond.instantiable "CutTreeModel" (2 : Nat)) ∈ lw_all := lw_g (lw_at lw_m0 126 rfl) rfl
theorem q145 : (Jvm.Cond.instanceMethod ({ cls := "CutTreeModel", name := "<init>", desc := "(I)V" } : Jvm.MethodName)) ∈ lw_all := lw_g (lw_at lw_m0 128 rfl) rfl
theorem q146 : (Jvm.Cond.code ({ cls := "CutTreeModel", name := "<init>", desc := "(I)V" } : Jvm.MethodName) prog_3_method_1_code (2 : Nat) (Option.none : Option Jvm.ClassFile.FieldType)) ∈ lw_all := lw_g (lw_at lw_m0 129 rfl) rfl
theorem q147 : (Jvm.Cond.methodLink "CutTreeModel" (1 : Nat) ({ cls := "java/lang/Object", name := "<init>", desc := "()V" } : Jvm.MethodName)) ∈ lw_all := lw_g (lw_at lw_m0 130 rfl) rfl
theorem q148 : (Jvm.Cond.fieldLink "CutTreeModel" (13 : Nat) "CutTreeModel" "n" "I") ∈ lw_all := lw_g (lw_at lw_m0 131 rfl) rfl
theorem q149 : (Jvm.Cond.fieldLink "CutTreeModel" (7 : Nat) "CutTreeModel" "caps" "[I") ∈ lw_all := lw_g (lw_at lw_m0 132 rfl) rfl
theorem q150 : (Jvm.Cond.lays "CutTreeModel" "CutTreeModel" "n" "I") ∈ lw_all := lw_g (lw_at lw_m0 133 rfl) rfl
theorem q151 : (Jvm.Cond.soleField "CutTreeModel" "n") ∈ lw_all := lw_g (lw_at lw_m0 134 rfl) rfl
theorem q152 : (Jvm.Cond.lays "CutTreeModel" "CutTreeModel" "caps" "[I") ∈ lw_all := lw_g (lw_at lw_m0 135 rfl) rfl
theorem q153 : (Jvm.Cond.soleField "CutTreeModel" "caps") ∈ lw_all := lw_g (lw_at lw_m0 136 rfl) rfl
theorem q154 : (Jvm.Cond.superclass "CutTreeModel" "java/lang/Object") ∈ lw_all := lw_g (lw_at lw_m0 137 rfl) rfl
theorem q156 : (Jvm.Cond.instanceMethod ({ cls := "CutTreeModel", name := "connect", desc := "(III)Z" } : Jvm.MethodName)) ∈ lw_all := lw_g (lw_at lw_m0 139 rfl) rfl
theorem q157 : (Jvm.Cond.selects "CutTreeModel" ({ cls := "CutTreeModel", name := "connect", desc := "(III)Z" } : Jvm.MethodName) ({ cls := "CutTreeModel", name := "connect", desc := "(III)Z" } : Jvm.MethodName)) ∈ lw_all := lw_g (lw_at lw_m0 140 rfl) rfl
theorem q158 : (Jvm.Cond.code ({ cls := "CutTreeModel", name := "connect", desc := "(III)Z" } : Jvm.MethodName) prog_3_method_5_code (4 : Nat) (Option.some Jvm.ClassFile.FieldType.boolean)) ∈ lw_all := lw_g (lw_at lw_m0 141 rfl) rfl
theorem q159 : (Jvm.Cond.methodLink "CutTreeModel" (21 : Nat) ({ cls := "CutTreeModel", name := "isCouple", desc := "(II)Z" } : Jvm.MethodName)) ∈ lw_all := lw_g (lw_at lw_m0 142 rfl) rfl
theorem q160 : (Jvm.Cond.privateMethod ({ cls := "CutTreeModel", name := "isCouple", desc := "(II)Z" } : Jvm.MethodName)) ∈ lw_tbl := lw_at lw_m0 143 rfl
theorem q161 : (Jvm.Cond.instanceMethod ({ cls := "CutTreeModel", name := "isCouple", desc := "(II)Z" } : Jvm.MethodName)) ∈ lw_all := lw_g (lw_at lw_m0 144 rfl) rfl
theorem q162 : (Jvm.Cond.code ({ cls := "CutTreeModel", name := "isCouple", desc := "(II)Z" } : Jvm.MethodName) prog_3_method_3_code (3 : Nat) (Option.some Jvm.ClassFile.FieldType.boolean)) ∈ lw_all := lw_g (lw_at lw_m0 145 rfl) rfl
theorem q163 : (Jvm.Cond.methodLink "CutTreeModel" (17 : Nat) ({ cls := "CutTreeModel", name := "isPoint", desc := "(I)Z" } : Jvm.MethodName)) ∈ lw_all := lw_g (lw_at lw_m0 146 rfl) rfl
theorem q164 : (Jvm.Cond.privateMethod ({ cls := "CutTreeModel", name := "isPoint", desc := "(I)Z" } : Jvm.MethodName)) ∈ lw_tbl := lw_at lw_m0 147 rfl
theorem q165 : (Jvm.Cond.instanceMethod ({ cls := "CutTreeModel", name := "isPoint", desc := "(I)Z" } : Jvm.MethodName)) ∈ lw_all := lw_g (lw_at lw_m0 148 rfl) rfl
theorem q166 : (Jvm.Cond.code ({ cls := "CutTreeModel", name := "isPoint", desc := "(I)Z" } : Jvm.MethodName) prog_3_method_2_code (2 : Nat) (Option.some Jvm.ClassFile.FieldType.boolean)) ∈ lw_all := lw_g (lw_at lw_m0 149 rfl) rfl
theorem q168 : (Jvm.Cond.instanceMethod ({ cls := "CutTreeModel", name := "capacity", desc := "(II)I" } : Jvm.MethodName)) ∈ lw_all := lw_g (lw_at lw_m0 151 rfl) rfl
theorem q169 : (Jvm.Cond.selects "CutTreeModel" ({ cls := "CutTreeModel", name := "capacity", desc := "(II)I" } : Jvm.MethodName) ({ cls := "CutTreeModel", name := "capacity", desc := "(II)I" } : Jvm.MethodName)) ∈ lw_all := lw_g (lw_at lw_m0 152 rfl) rfl
theorem q170 : (Jvm.Cond.code ({ cls := "CutTreeModel", name := "capacity", desc := "(II)I" } : Jvm.MethodName) prog_3_method_6_code (3 : Nat) (Option.some Jvm.ClassFile.FieldType.int)) ∈ lw_all := lw_g (lw_at lw_m0 153 rfl) rfl
theorem q172 : (Jvm.Cond.instanceMethod ({ cls := "CutTreeModel", name := "link", desc := "(II)I" } : Jvm.MethodName)) ∈ lw_all := lw_g (lw_at lw_m0 155 rfl) rfl
theorem q173 : (Jvm.Cond.selects "CutTreeModel" ({ cls := "CutTreeModel", name := "link", desc := "(II)I" } : Jvm.MethodName) ({ cls := "CutTreeModel", name := "link", desc := "(II)I" } : Jvm.MethodName)) ∈ lw_all := lw_g (lw_at lw_m0 156 rfl) rfl
theorem q174 : (Jvm.Cond.code ({ cls := "CutTreeModel", name := "link", desc := "(II)I" } : Jvm.MethodName) prog_3_method_10_code (3 : Nat) (Option.some Jvm.ClassFile.FieldType.int)) ∈ lw_all := lw_g (lw_at lw_m0 157 rfl) rfl
theorem q175 : (Jvm.Cond.methodLink "CutTreeModel" (36 : Nat) ({ cls := "CutTreeModel", name := "linkOf", desc := "(II)I" } : Jvm.MethodName)) ∈ lw_all := lw_g (lw_at lw_m0 158 rfl) rfl
theorem q176 : (Jvm.Cond.privateMethod ({ cls := "CutTreeModel", name := "linkOf", desc := "(II)I" } : Jvm.MethodName)) ∈ lw_tbl := lw_at lw_m0 159 rfl
theorem q177 : (Jvm.Cond.instanceMethod ({ cls := "CutTreeModel", name := "linkOf", desc := "(II)I" } : Jvm.MethodName)) ∈ lw_all := lw_g (lw_at lw_m0 160 rfl) rfl
theorem q178 : (Jvm.Cond.code ({ cls := "CutTreeModel", name := "linkOf", desc := "(II)I" } : Jvm.MethodName) prog_3_method_9_code (6 : Nat) (Option.some Jvm.ClassFile.FieldType.int)) ∈ lw_all := lw_g (lw_at lw_m0 161 rfl) rfl
theorem q179 : (Jvm.Cond.methodLink "CutTreeModel" (28 : Nat) ({ cls := "CutTreeModel", name := "all", desc := "()I" } : Jvm.MethodName)) ∈ lw_all := lw_g (lw_at lw_m0 162 rfl) rfl
theorem q180 : (Jvm.Cond.privateMethod ({ cls := "CutTreeModel", name := "all", desc := "()I" } : Jvm.MethodName)) ∈ lw_tbl := lw_at lw_m0 163 rfl
theorem q181 : (Jvm.Cond.instanceMethod ({ cls := "CutTreeModel", name := "all", desc := "()I" } : Jvm.MethodName)) ∈ lw_all := lw_g (lw_at lw_m0 164 rfl) rfl
theorem q182 : (Jvm.Cond.code ({ cls := "CutTreeModel", name := "all", desc := "()I" } : Jvm.MethodName) prog_3_method_8_code (1 : Nat) (Option.some Jvm.ClassFile.FieldType.int)) ∈ lw_all := lw_g (lw_at lw_m0 165 rfl) rfl
theorem q183 : (Jvm.Cond.methodLink "CutTreeModel" (25 : Nat) ({ cls := "CutTreeModel", name := "in", desc := "(II)Z" } : Jvm.MethodName)) ∈ lw_all := lw_g (lw_at lw_m0 166 rfl) rfl
theorem q184 : (Jvm.Cond.privateMethod ({ cls := "CutTreeModel", name := "in", desc := "(II)Z" } : Jvm.MethodName)) ∈ lw_tbl := lw_at lw_m0 167 rfl
theorem q185 : (Jvm.Cond.instanceMethod ({ cls := "CutTreeModel", name := "in", desc := "(II)Z" } : Jvm.MethodName)) ∈ lw_all := lw_g (lw_at lw_m0 168 rfl) rfl
theorem q186 : (Jvm.Cond.code ({ cls := "CutTreeModel", name := "in", desc := "(II)Z" } : Jvm.MethodName) prog_3_method_4_code (3 : Nat) (Option.some Jvm.ClassFile.FieldType.boolean)) ∈ lw_all := lw_g (lw_at lw_m0 169 rfl) rfl
theorem q187 : (Jvm.Cond.methodLink "CutTreeModel" (32 : Nat) ({ cls := "CutTreeModel", name := "weightOf", desc := "(I)I" } : Jvm.MethodName)) ∈ lw_all := lw_g (lw_at lw_m0 170 rfl) rfl
theorem q188 : (Jvm.Cond.privateMethod ({ cls := "CutTreeModel", name := "weightOf", desc := "(I)I" } : Jvm.MethodName)) ∈ lw_tbl := lw_at lw_m0 171 rfl
theorem q189 : (Jvm.Cond.instanceMethod ({ cls := "CutTreeModel", name := "weightOf", desc := "(I)I" } : Jvm.MethodName)) ∈ lw_all := lw_g (lw_at lw_m0 172 rfl) rfl
theorem q190 : (Jvm.Cond.code ({ cls := "CutTreeModel", name := "weightOf", desc := "(I)I" } : Jvm.MethodName) prog_3_method_7_code (5 : Nat) (Option.some Jvm.ClassFile.FieldType.int)) ∈ lw_all := lw_g (lw_at lw_m0 173 rfl) rfl
theorem q192 : (Jvm.Cond.instanceMethod ({ cls := "CutTreeModel", name := "side", desc := "(II)I" } : Jvm.MethodName)) ∈ lw_all := lw_g (lw_at lw_m0 175 rfl) rfl
theorem q193 : (Jvm.Cond.selects "CutTreeModel" ({ cls := "CutTreeModel", name := "side", desc := "(II)I" } : Jvm.MethodName) ({ cls := "CutTreeModel", name := "side", desc := "(II)I" } : Jvm.MethodName)) ∈ lw_all := lw_g (lw_at lw_m0 176 rfl) rfl
theorem q194 : (Jvm.Cond.code ({ cls := "CutTreeModel", name := "side", desc := "(II)I" } : Jvm.MethodName) prog_3_method_12_code (7 : Nat) (Option.some Jvm.ClassFile.FieldType.int)) ∈ lw_all := lw_g (lw_at lw_m0 177 rfl) rfl
theorem q195 : (Jvm.Cond.methodLink "CutTreeModel" (40 : Nat) ({ cls := "CutTreeModel", name := "sizeOf", desc := "(I)I" } : Jvm.MethodName)) ∈ lw_all := lw_g (lw_at lw_m0 178 rfl) rfl
theorem q196 : (Jvm.Cond.privateMethod ({ cls := "CutTreeModel", name := "sizeOf", desc := "(I)I" } : Jvm.MethodName)) ∈ lw_tbl := lw_at lw_m0 179 rfl
theorem q197 : (Jvm.Cond.instanceMethod ({ cls := "CutTreeModel", name := "sizeOf", desc := "(I)I" } : Jvm.MethodName)) ∈ lw_all := lw_g (lw_at lw_m0 180 rfl) rfl
theorem q198 : (Jvm.Cond.code ({ cls := "CutTreeModel", name := "sizeOf", desc := "(I)I" } : Jvm.MethodName) prog_3_method_11_code (4 : Nat) (Option.some Jvm.ClassFile.FieldType.int)) ∈ lw_all := lw_g (lw_at lw_m0 181 rfl) rfl
theorem q200 : (Jvm.Cond.instanceMethod ({ cls := "CutTreeModel", name := "smallest", desc := "()I" } : Jvm.MethodName)) ∈ lw_all := lw_g (lw_at lw_m0 183 rfl) rfl
theorem q201 : (Jvm.Cond.selects "CutTreeModel" ({ cls := "CutTreeModel", name := "smallest", desc := "()I" } : Jvm.MethodName) ({ cls := "CutTreeModel", name := "smallest", desc := "()I" } : Jvm.MethodName)) ∈ lw_all := lw_g (lw_at lw_m0 184 rfl) rfl
theorem q202 : (Jvm.Cond.code ({ cls := "CutTreeModel", name := "smallest", desc := "()I" } : Jvm.MethodName) prog_3_method_13_code (4 : Nat) (Option.some Jvm.ClassFile.FieldType.int)) ∈ lw_all := lw_g (lw_at lw_m0 185 rfl) rfl
theorem q204 : (Jvm.Cond.instanceMethod ({ cls := "CutTreeModel", name := "couples", desc := "(I)I" } : Jvm.MethodName)) ∈ lw_all := lw_g (lw_at lw_m0 187 rfl) rfl
theorem q205 : (Jvm.Cond.selects "CutTreeModel" ({ cls := "CutTreeModel", name := "couples", desc := "(I)I" } : Jvm.MethodName) ({ cls := "CutTreeModel", name := "couples", desc := "(I)I" } : Jvm.MethodName)) ∈ lw_all := lw_g (lw_at lw_m0 188 rfl) rfl
theorem q206 : (Jvm.Cond.code ({ cls := "CutTreeModel", name := "couples", desc := "(I)I" } : Jvm.MethodName) prog_3_method_14_code (5 : Nat) (Option.some Jvm.ClassFile.FieldType.int)) ∈ lw_all := lw_g (lw_at lw_m0 189 rfl) rfl
theorem q208 : (Jvm.Cond.instanceMethod ({ cls := "CutTreeModel", name := "groups", desc := "(I)I" } : Jvm.MethodName)) ∈ lw_all := lw_g (lw_at lw_m0 191 rfl) rfl
theorem q209 : (Jvm.Cond.selects "CutTreeModel" ({ cls := "CutTreeModel", name := "groups", desc := "(I)I" } : Jvm.MethodName) ({ cls := "CutTreeModel", name := "groups", desc := "(I)I" } : Jvm.MethodName)) ∈ lw_all := lw_g (lw_at lw_m0 192 rfl) rfl
theorem q210 : (Jvm.Cond.code ({ cls := "CutTreeModel", name := "groups", desc := "(I)I" } : Jvm.MethodName) prog_3_method_16_code (5 : Nat) (Option.some Jvm.ClassFile.FieldType.int)) ∈ lw_all := lw_g (lw_at lw_m0 193 rfl) rfl
theorem q211 : (Jvm.Cond.methodLink "CutTreeModel" (43 : Nat) ({ cls := "CutTreeModel", name := "groupOf", desc := "(II)I" } : Jvm.MethodName)) ∈ lw_all := lw_g (lw_at lw_m0 194 rfl) rfl
theorem q212 : (Jvm.Cond.privateMethod ({ cls := "CutTreeModel", name := "groupOf", desc := "(II)I" } : Jvm.MethodName)) ∈ lw_tbl := lw_at lw_m0 195 rfl
theorem q213 : (Jvm.Cond.instanceMethod ({ cls := "CutTreeModel", name := "groupOf", desc := "(II)I" } : Jvm.MethodName)) ∈ lw_all := lw_g (lw_at lw_m0 196 rfl) rfl
theorem q214 : (Jvm.Cond.code ({ cls := "CutTreeModel", name := "groupOf", desc := "(II)I" } : Jvm.MethodName) prog_3_method_15_code (5 : Nat) (Option.some Jvm.ClassFile.FieldType.int)) ∈ lw_all := lw_g (lw_at lw_m0 197 rfl) rfl
theorem q216 : (Jvm.Cond.instanceMethod ({ cls := "CutTreeModel", name := "group", desc := "(II)I" } : Jvm.MethodName)) ∈ lw_all := lw_g (lw_at lw_m0 199 rfl) rfl
theorem q217 : (Jvm.Cond.selects "CutTreeModel" ({ cls := "CutTreeModel", name := "group", desc := "(II)I" } : Jvm.MethodName) ({ cls := "CutTreeModel", name := "group", desc := "(II)I" } : Jvm.MethodName)) ∈ lw_all := lw_g (lw_at lw_m0 200 rfl) rfl
theorem q218 : (Jvm.Cond.code ({ cls := "CutTreeModel", name := "group", desc := "(II)I" } : Jvm.MethodName) prog_3_method_17_code (3 : Nat) (Option.some Jvm.ClassFile.FieldType.int)) ∈ lw_all := lw_g (lw_at lw_m0 201 rfl) rfl
theorem q220 : (Jvm.Cond.instanceMethod ({ cls := "CutTreeModel", name := "weight", desc := "(I)I" } : Jvm.MethodName)) ∈ lw_all := lw_g (lw_at lw_m0 203 rfl) rfl
theorem q221 : (Jvm.Cond.selects "CutTreeModel" ({ cls := "CutTreeModel", name := "weight", desc := "(I)I" } : Jvm.MethodName) ({ cls := "CutTreeModel", name := "weight", desc := "(I)I" } : Jvm.MethodName)) ∈ lw_all := lw_g (lw_at lw_m0 204 rfl) rfl
theorem q222 : (Jvm.Cond.code ({ cls := "CutTreeModel", name := "weight", desc := "(I)I" } : Jvm.MethodName) prog_3_method_18_code (2 : Nat) (Option.some Jvm.ClassFile.FieldType.int)) ∈ lw_all := lw_g (lw_at lw_m0 205 rfl) rfl
theorem q224 : (Jvm.Cond.instanceMethod ({ cls := "CutTreeModel", name := "total", desc := "()I" } : Jvm.MethodName)) ∈ lw_all := lw_g (lw_at lw_m0 207 rfl) rfl
theorem q225 : (Jvm.Cond.selects "CutTreeModel" ({ cls := "CutTreeModel", name := "total", desc := "()I" } : Jvm.MethodName) ({ cls := "CutTreeModel", name := "total", desc := "()I" } : Jvm.MethodName)) ∈ lw_all := lw_g (lw_at lw_m0 208 rfl) rfl
theorem q226 : (Jvm.Cond.code ({ cls := "CutTreeModel", name := "total", desc := "()I" } : Jvm.MethodName) prog_3_method_19_code (4 : Nat) (Option.some Jvm.ClassFile.FieldType.int)) ∈ lw_all := lw_g (lw_at lw_m0 209 rfl) rfl
theorem q228 : (Jvm.Cond.instanceMethod ({ cls := "CutTreeModel", name := "cap", desc := "(I)I" } : Jvm.MethodName)) ∈ lw_all := lw_g (lw_at lw_m0 211 rfl) rfl
theorem q229 : (Jvm.Cond.selects "CutTreeModel" ({ cls := "CutTreeModel", name := "cap", desc := "(I)I" } : Jvm.MethodName) ({ cls := "CutTreeModel", name := "cap", desc := "(I)I" } : Jvm.MethodName)) ∈ lw_all := lw_g (lw_at lw_m0 212 rfl) rfl
theorem q230 : (Jvm.Cond.code ({ cls := "CutTreeModel", name := "cap", desc := "(I)I" } : Jvm.MethodName) prog_3_method_20_code (5 : Nat) (Option.some Jvm.ClassFile.FieldType.int)) ∈ lw_all := lw_g (lw_at lw_m0 213 rfl) rfl
theorem in_X2 : ∀ w ∈ wsX20, w ∈ lw_all := lw_in wsX20 [150, 152] (by decide +kernel) (by decide +kernel)
end
section
/-! CutTree -/
set_option maxRecDepth 100000
def RX1 : String := "CutTree"
def TX1 : u_T := fun k => match k with
  | 0 => ("CutTree", "pointCount", "I", false)
  | 1 => ("CutTree", "capacities", "[B", true)
  | 2 => ("CutTree", "flow", "[I", true)
  | 3 => ("CutTree", "cameFrom", "[B", true)
  | 4 => ("CutTree", "queue", "[B", true)
  | 5 => ("CutTree", "reached", "I", false)
  | 6 => ("CutTree", "built", "Z", false)
  | 7 => ("CutTree", "hangsOn", "[B", true)
  | _ => ("CutTree", "hangsBy", "[I", true)
def tyX1 : Nat → FieldType := fun k => match k with
  | 0 => .int
  | 1 => .array .byte
  | 2 => .array .int
  | 3 => .array .byte
  | 4 => .array .byte
  | 5 => .int
  | 6 => .boolean
  | 7 => .array .byte
  | _ => .array .int
abbrev wsX10 : List Cond := u_ws RX1 TX1 9
theorem nmX1 : ∀ a, a < 9 → ∀ b, b < 9 → a ≠ b → (TX1 a).2.1 ≠ (TX1 b).2.1 := by decide +kernel
theorem tyX1_ok : ∀ k, k < 9 → parseFieldDescriptor (TX1 k).2.2.1 = some (tyX1 k) := by decide +kernel
abbrev cX1_init : ByteArray := prog_1_method_1_code
def yX1_init : MethodName := ⟨RX1, "<init>", "(I)V"⟩
theorem dX1_init_0 : decode cX1_init 0 = .ok (.aload_n 0, 1) := by decide +kernel
theorem dX1_init_1 : decode cX1_init 1 = .ok (.invokespecial 1, 3) := by decide +kernel
theorem dX1_init_4 : decode cX1_init 4 = .ok (.aload_n 0, 1) := by decide +kernel
theorem dX1_init_5 : decode cX1_init 5 = .ok (.bipush 64, 2) := by decide +kernel
theorem dX1_init_7 : decode cX1_init 7 = .ok (.newarray .byte, 2) := by decide +kernel
theorem dX1_init_9 : decode cX1_init 9 = .ok (.putfield 7, 3) := by decide +kernel
theorem dX1_init_12 : decode cX1_init 12 = .ok (.aload_n 0, 1) := by decide +kernel
theorem dX1_init_13 : decode cX1_init 13 = .ok (.bipush 64, 2) := by decide +kernel
theorem dX1_init_15 : decode cX1_init 15 = .ok (.newarray .int, 2) := by decide +kernel
theorem dX1_init_17 : decode cX1_init 17 = .ok (.putfield 13, 3) := by decide +kernel
theorem dX1_init_20 : decode cX1_init 20 = .ok (.aload_n 0, 1) := by decide +kernel
theorem dX1_init_21 : decode cX1_init 21 = .ok (.bipush 8, 2) := by decide +kernel
theorem dX1_init_23 : decode cX1_init 23 = .ok (.newarray .byte, 2) := by decide +kernel
theorem dX1_init_25 : decode cX1_init 25 = .ok (.putfield 17, 3) := by decide +kernel
theorem dX1_init_28 : decode cX1_init 28 = .ok (.aload_n 0, 1) := by decide +kernel
theorem dX1_init_29 : decode cX1_init 29 = .ok (.bipush 8, 2) := by decide +kernel
theorem dX1_init_31 : decode cX1_init 31 = .ok (.newarray .byte, 2) := by decide +kernel
theorem dX1_init_33 : decode cX1_init 33 = .ok (.putfield 20, 3) := by decide +kernel
theorem dX1_init_36 : decode cX1_init 36 = .ok (.aload_n 0, 1) := by decide +kernel
theorem dX1_init_37 : decode cX1_init 37 = .ok (.bipush 8, 2) := by decide +kernel
theorem dX1_init_39 : decode cX1_init 39 = .ok (.newarray .byte, 2) := by decide +kernel
theorem dX1_init_41 : decode cX1_init 41 = .ok (.putfield 23, 3) := by decide +kernel
theorem dX1_init_44 : decode cX1_init 44 = .ok (.aload_n 0, 1) := by decide +kernel
theorem dX1_init_45 : decode cX1_init 45 = .ok (.bipush 8, 2) := by decide +kernel
theorem dX1_init_47 : decode cX1_init 47 = .ok (.newarray .int, 2) := by decide +kernel
theorem dX1_init_49 : decode cX1_init 49 = .ok (.putfield 26, 3) := by decide +kernel
theorem dX1_init_52 : decode cX1_init 52 = .ok (.aload_n 0, 1) := by decide +kernel
theorem dX1_init_53 : decode cX1_init 53 = .ok (.iload_n 1, 1) := by decide +kernel
theorem dX1_init_54 : decode cX1_init 54 = .ok (.iconst 2, 1) := by decide +kernel
theorem dX1_init_55 : decode cX1_init 55 = .ok (.if_icmp .ge 7, 3) := by decide +kernel
theorem dX1_init_58 : decode cX1_init 58 = .ok (.iconst 2, 1) := by decide +kernel
theorem dX1_init_59 : decode cX1_init 59 = .ok (.goto 15, 3) := by decide +kernel
theorem dX1_init_62 : decode cX1_init 62 = .ok (.iload_n 1, 1) := by decide +kernel
theorem dX1_init_63 : decode cX1_init 63 = .ok (.bipush 8, 2) := by decide +kernel
theorem dX1_init_65 : decode cX1_init 65 = .ok (.if_icmp .le 8, 3) := by decide +kernel
theorem dX1_init_68 : decode cX1_init 68 = .ok (.bipush 8, 2) := by decide +kernel
theorem dX1_init_70 : decode cX1_init 70 = .ok (.goto 4, 3) := by decide +kernel
theorem dX1_init_73 : decode cX1_init 73 = .ok (.iload_n 1, 1) := by decide +kernel
theorem dX1_init_74 : decode cX1_init 74 = .ok (.putfield 29, 3) := by decide +kernel
theorem dX1_init_77 : decode cX1_init 77 = .ok (.return_, 1) := by decide +kernel
abbrev cX1_connect : ByteArray := prog_1_method_2_code
def yX1_connect : MethodName := ⟨RX1, "connect", "(III)Z"⟩
theorem dX1_connect_0 : decode cX1_connect 0 = .ok (.aload_n 0, 1) := by decide +kernel
theorem dX1_connect_1 : decode cX1_connect 1 = .ok (.iload_n 1, 1) := by decide +kernel
theorem dX1_connect_2 : decode cX1_connect 2 = .ok (.iload_n 2, 1) := by decide +kernel
theorem dX1_connect_3 : decode cX1_connect 3 = .ok (.invokevirtual 33, 3) := by decide +kernel
theorem dX1_connect_6 : decode cX1_connect 6 = .ok (.ifCond .eq 13, 3) := by decide +kernel
theorem dX1_connect_9 : decode cX1_connect 9 = .ok (.iload_n 3, 1) := by decide +kernel
theorem dX1_connect_10 : decode cX1_connect 10 = .ok (.ifCond .lt 9, 3) := by decide +kernel
theorem dX1_connect_13 : decode cX1_connect 13 = .ok (.iload_n 3, 1) := by decide +kernel
theorem dX1_connect_14 : decode cX1_connect 14 = .ok (.bipush 50, 2) := by decide +kernel
theorem dX1_connect_16 : decode cX1_connect 16 = .ok (.if_icmp .le 5, 3) := by decide +kernel
theorem dX1_connect_19 : decode cX1_connect 19 = .ok (.iconst 0, 1) := by decide +kernel
theorem dX1_connect_20 : decode cX1_connect 20 = .ok (.ireturn, 1) := by decide +kernel
theorem dX1_connect_21 : decode cX1_connect 21 = .ok (.aload_n 0, 1) := by decide +kernel
theorem dX1_connect_22 : decode cX1_connect 22 = .ok (.getfield 7, 3) := by decide +kernel
theorem dX1_connect_25 : decode cX1_connect 25 = .ok (.bipush 8, 2) := by decide +kernel
theorem dX1_connect_27 : decode cX1_connect 27 = .ok (.iload_n 1, 1) := by decide +kernel
theorem dX1_connect_28 : decode cX1_connect 28 = .ok (.imul, 1) := by decide +kernel
theorem dX1_connect_29 : decode cX1_connect 29 = .ok (.iload_n 2, 1) := by decide +kernel
theorem dX1_connect_30 : decode cX1_connect 30 = .ok (.iadd, 1) := by decide +kernel
theorem dX1_connect_31 : decode cX1_connect 31 = .ok (.iload_n 3, 1) := by decide +kernel
theorem dX1_connect_32 : decode cX1_connect 32 = .ok (.i2b, 1) := by decide +kernel
theorem dX1_connect_33 : decode cX1_connect 33 = .ok (.bastore, 1) := by decide +kernel
theorem dX1_connect_34 : decode cX1_connect 34 = .ok (.aload_n 0, 1) := by decide +kernel
theorem dX1_connect_35 : decode cX1_connect 35 = .ok (.getfield 7, 3) := by decide +kernel
theorem dX1_connect_38 : decode cX1_connect 38 = .ok (.bipush 8, 2) := by decide +kernel
theorem dX1_connect_40 : decode cX1_connect 40 = .ok (.iload_n 2, 1) := by decide +kernel
theorem dX1_connect_41 : decode cX1_connect 41 = .ok (.imul, 1) := by decide +kernel
theorem dX1_connect_42 : decode cX1_connect 42 = .ok (.iload_n 1, 1) := by decide +kernel
theorem dX1_connect_43 : decode cX1_connect 43 = .ok (.iadd, 1) := by decide +kernel
theorem dX1_connect_44 : decode cX1_connect 44 = .ok (.iload_n 3, 1) := by decide +kernel
theorem dX1_connect_45 : decode cX1_connect 45 = .ok (.i2b, 1) := by decide +kernel
theorem dX1_connect_46 : decode cX1_connect 46 = .ok (.bastore, 1) := by decide +kernel
theorem dX1_connect_47 : decode cX1_connect 47 = .ok (.aload_n 0, 1) := by decide +kernel
theorem dX1_connect_48 : decode cX1_connect 48 = .ok (.iconst 0, 1) := by decide +kernel
theorem dX1_connect_49 : decode cX1_connect 49 = .ok (.putfield 37, 3) := by decide +kernel
theorem dX1_connect_52 : decode cX1_connect 52 = .ok (.iconst 1, 1) := by decide +kernel
theorem dX1_connect_53 : decode cX1_connect 53 = .ok (.ireturn, 1) := by decide +kernel
abbrev cX1_isCouple : ByteArray := prog_1_method_5_code
def yX1_isCouple : MethodName := ⟨RX1, "isCouple", "(II)Z"⟩
theorem dX1_isCouple_0 : decode cX1_isCouple 0 = .ok (.aload_n 0, 1) := by decide +kernel
theorem dX1_isCouple_1 : decode cX1_isCouple 1 = .ok (.iload_n 1, 1) := by decide +kernel
theorem dX1_isCouple_2 : decode cX1_isCouple 2 = .ok (.invokevirtual 41, 3) := by decide +kernel
theorem dX1_isCouple_5 : decode cX1_isCouple 5 = .ok (.ifCond .eq 20, 3) := by decide +kernel
theorem dX1_isCouple_8 : decode cX1_isCouple 8 = .ok (.aload_n 0, 1) := by decide +kernel
theorem dX1_isCouple_9 : decode cX1_isCouple 9 = .ok (.iload_n 2, 1) := by decide +kernel
theorem dX1_isCouple_10 : decode cX1_isCouple 10 = .ok (.invokevirtual 41, 3) := by decide +kernel
theorem dX1_isCouple_13 : decode cX1_isCouple 13 = .ok (.ifCond .eq 12, 3) := by decide +kernel
theorem dX1_isCouple_16 : decode cX1_isCouple 16 = .ok (.iload_n 1, 1) := by decide +kernel
theorem dX1_isCouple_17 : decode cX1_isCouple 17 = .ok (.iload_n 2, 1) := by decide +kernel
theorem dX1_isCouple_18 : decode cX1_isCouple 18 = .ok (.if_icmp .eq 7, 3) := by decide +kernel
theorem dX1_isCouple_21 : decode cX1_isCouple 21 = .ok (.iconst 1, 1) := by decide +kernel
theorem dX1_isCouple_22 : decode cX1_isCouple 22 = .ok (.goto 4, 3) := by decide +kernel
theorem dX1_isCouple_25 : decode cX1_isCouple 25 = .ok (.iconst 0, 1) := by decide +kernel
theorem dX1_isCouple_26 : decode cX1_isCouple 26 = .ok (.ireturn, 1) := by decide +kernel
abbrev cX1_isPoint : ByteArray := prog_1_method_4_code
def yX1_isPoint : MethodName := ⟨RX1, "isPoint", "(I)Z"⟩
theorem dX1_isPoint_0 : decode cX1_isPoint 0 = .ok (.iload_n 1, 1) := by decide +kernel
theorem dX1_isPoint_1 : decode cX1_isPoint 1 = .ok (.ifCond .lt 15, 3) := by decide +kernel
theorem dX1_isPoint_4 : decode cX1_isPoint 4 = .ok (.iload_n 1, 1) := by decide +kernel
theorem dX1_isPoint_5 : decode cX1_isPoint 5 = .ok (.aload_n 0, 1) := by decide +kernel
theorem dX1_isPoint_6 : decode cX1_isPoint 6 = .ok (.getfield 29, 3) := by decide +kernel
theorem dX1_isPoint_9 : decode cX1_isPoint 9 = .ok (.if_icmp .ge 7, 3) := by decide +kernel
theorem dX1_isPoint_12 : decode cX1_isPoint 12 = .ok (.iconst 1, 1) := by decide +kernel
theorem dX1_isPoint_13 : decode cX1_isPoint 13 = .ok (.goto 4, 3) := by decide +kernel
theorem dX1_isPoint_16 : decode cX1_isPoint 16 = .ok (.iconst 0, 1) := by decide +kernel
theorem dX1_isPoint_17 : decode cX1_isPoint 17 = .ok (.ireturn, 1) := by decide +kernel
abbrev cX1_capacity : ByteArray := prog_1_method_3_code
def yX1_capacity : MethodName := ⟨RX1, "capacity", "(II)I"⟩
theorem dX1_capacity_0 : decode cX1_capacity 0 = .ok (.aload_n 0, 1) := by decide +kernel
theorem dX1_capacity_1 : decode cX1_capacity 1 = .ok (.iload_n 1, 1) := by decide +kernel
theorem dX1_capacity_2 : decode cX1_capacity 2 = .ok (.iload_n 2, 1) := by decide +kernel
theorem dX1_capacity_3 : decode cX1_capacity 3 = .ok (.invokevirtual 33, 3) := by decide +kernel
theorem dX1_capacity_6 : decode cX1_capacity 6 = .ok (.ifCond .eq 17, 3) := by decide +kernel
theorem dX1_capacity_9 : decode cX1_capacity 9 = .ok (.aload_n 0, 1) := by decide +kernel
theorem dX1_capacity_10 : decode cX1_capacity 10 = .ok (.getfield 7, 3) := by decide +kernel
theorem dX1_capacity_13 : decode cX1_capacity 13 = .ok (.bipush 8, 2) := by decide +kernel
theorem dX1_capacity_15 : decode cX1_capacity 15 = .ok (.iload_n 1, 1) := by decide +kernel
theorem dX1_capacity_16 : decode cX1_capacity 16 = .ok (.imul, 1) := by decide +kernel
theorem dX1_capacity_17 : decode cX1_capacity 17 = .ok (.iload_n 2, 1) := by decide +kernel
theorem dX1_capacity_18 : decode cX1_capacity 18 = .ok (.iadd, 1) := by decide +kernel
theorem dX1_capacity_19 : decode cX1_capacity 19 = .ok (.baload, 1) := by decide +kernel
theorem dX1_capacity_20 : decode cX1_capacity 20 = .ok (.goto 4, 3) := by decide +kernel
theorem dX1_capacity_23 : decode cX1_capacity 23 = .ok (.iconst (-1), 1) := by decide +kernel
theorem dX1_capacity_24 : decode cX1_capacity 24 = .ok (.ireturn, 1) := by decide +kernel
abbrev cX1_link : ByteArray := prog_1_method_6_code
def yX1_link : MethodName := ⟨RX1, "link", "(II)I"⟩
theorem dX1_link_0 : decode cX1_link 0 = .ok (.aload_n 0, 1) := by decide +kernel
theorem dX1_link_1 : decode cX1_link 1 = .ok (.iload_n 1, 1) := by decide +kernel
theorem dX1_link_2 : decode cX1_link 2 = .ok (.iload_n 2, 1) := by decide +kernel
theorem dX1_link_3 : decode cX1_link 3 = .ok (.invokevirtual 33, 3) := by decide +kernel
theorem dX1_link_6 : decode cX1_link 6 = .ok (.ifCond .ne 5, 3) := by decide +kernel
theorem dX1_link_9 : decode cX1_link 9 = .ok (.iconst (-1), 1) := by decide +kernel
theorem dX1_link_10 : decode cX1_link 10 = .ok (.ireturn, 1) := by decide +kernel
theorem dX1_link_11 : decode cX1_link 11 = .ok (.aload_n 0, 1) := by decide +kernel
theorem dX1_link_12 : decode cX1_link 12 = .ok (.invokevirtual 45, 3) := by decide +kernel
theorem dX1_link_15 : decode cX1_link 15 = .ok (.aload_n 0, 1) := by decide +kernel
theorem dX1_link_16 : decode cX1_link 16 = .ok (.iload_n 1, 1) := by decide +kernel
theorem dX1_link_17 : decode cX1_link 17 = .ok (.iload_n 2, 1) := by decide +kernel
theorem dX1_link_18 : decode cX1_link 18 = .ok (.invokevirtual 48, 3) := by decide +kernel
theorem dX1_link_21 : decode cX1_link 21 = .ok (.ireturn, 1) := by decide +kernel
abbrev cX1_build : ByteArray := prog_1_method_19_code
def yX1_build : MethodName := ⟨RX1, "build", "()V"⟩
theorem dX1_build_0 : decode cX1_build 0 = .ok (.aload_n 0, 1) := by decide +kernel
theorem dX1_build_1 : decode cX1_build 1 = .ok (.getfield 37, 3) := by decide +kernel
theorem dX1_build_4 : decode cX1_build 4 = .ok (.ifCond .eq 4, 3) := by decide +kernel
theorem dX1_build_7 : decode cX1_build 7 = .ok (.return_, 1) := by decide +kernel
theorem dX1_build_8 : decode cX1_build 8 = .ok (.aload_n 0, 1) := by decide +kernel
theorem dX1_build_9 : decode cX1_build 9 = .ok (.iconst 1, 1) := by decide +kernel
theorem dX1_build_10 : decode cX1_build 10 = .ok (.putfield 37, 3) := by decide +kernel
theorem dX1_build_13 : decode cX1_build 13 = .ok (.iconst 0, 1) := by decide +kernel
theorem dX1_build_14 : decode cX1_build 14 = .ok (.istore_n 1, 1) := by decide +kernel
theorem dX1_build_15 : decode cX1_build 15 = .ok (.iload_n 1, 1) := by decide +kernel
theorem dX1_build_16 : decode cX1_build 16 = .ok (.bipush 8, 2) := by decide +kernel
theorem dX1_build_18 : decode cX1_build 18 = .ok (.if_icmp .ge 23, 3) := by decide +kernel
theorem dX1_build_21 : decode cX1_build 21 = .ok (.aload_n 0, 1) := by decide +kernel
theorem dX1_build_22 : decode cX1_build 22 = .ok (.getfield 23, 3) := by decide +kernel
theorem dX1_build_25 : decode cX1_build 25 = .ok (.iload_n 1, 1) := by decide +kernel
theorem dX1_build_26 : decode cX1_build 26 = .ok (.iconst 0, 1) := by decide +kernel
theorem dX1_build_27 : decode cX1_build 27 = .ok (.bastore, 1) := by decide +kernel
theorem dX1_build_28 : decode cX1_build 28 = .ok (.aload_n 0, 1) := by decide +kernel
theorem dX1_build_29 : decode cX1_build 29 = .ok (.getfield 26, 3) := by decide +kernel
theorem dX1_build_32 : decode cX1_build 32 = .ok (.iload_n 1, 1) := by decide +kernel
theorem dX1_build_33 : decode cX1_build 33 = .ok (.iconst 0, 1) := by decide +kernel
theorem dX1_build_34 : decode cX1_build 34 = .ok (.iastore, 1) := by decide +kernel
theorem dX1_build_35 : decode cX1_build 35 = .ok (.iinc 1 1, 3) := by decide +kernel
theorem dX1_build_38 : decode cX1_build 38 = .ok (.goto (-23), 3) := by decide +kernel
theorem dX1_build_41 : decode cX1_build 41 = .ok (.iconst 1, 1) := by decide +kernel
theorem dX1_build_42 : decode cX1_build 42 = .ok (.istore_n 1, 1) := by decide +kernel
theorem dX1_build_43 : decode cX1_build 43 = .ok (.iload_n 1, 1) := by decide +kernel
theorem dX1_build_44 : decode cX1_build 44 = .ok (.aload_n 0, 1) := by decide +kernel
theorem dX1_build_45 : decode cX1_build 45 = .ok (.getfield 29, 3) := by decide +kernel
theorem dX1_build_48 : decode cX1_build 48 = .ok (.if_icmp .ge 78, 3) := by decide +kernel
theorem dX1_build_51 : decode cX1_build 51 = .ok (.aload_n 0, 1) := by decide +kernel
theorem dX1_build_52 : decode cX1_build 52 = .ok (.getfield 26, 3) := by decide +kernel
theorem dX1_build_55 : decode cX1_build 55 = .ok (.iload_n 1, 1) := by decide +kernel
theorem dX1_build_56 : decode cX1_build 56 = .ok (.aload_n 0, 1) := by decide +kernel
theorem dX1_build_57 : decode cX1_build 57 = .ok (.iload_n 1, 1) := by decide +kernel
theorem dX1_build_58 : decode cX1_build 58 = .ok (.aload_n 0, 1) := by decide +kernel
theorem dX1_build_59 : decode cX1_build 59 = .ok (.getfield 23, 3) := by decide +kernel
theorem dX1_build_62 : decode cX1_build 62 = .ok (.iload_n 1, 1) := by decide +kernel
theorem dX1_build_63 : decode cX1_build 63 = .ok (.baload, 1) := by decide +kernel
theorem dX1_build_64 : decode cX1_build 64 = .ok (.invokevirtual 52, 3) := by decide +kernel
theorem dX1_build_67 : decode cX1_build 67 = .ok (.iastore, 1) := by decide +kernel
theorem dX1_build_68 : decode cX1_build 68 = .ok (.iload_n 1, 1) := by decide +kernel
theorem dX1_build_69 : decode cX1_build 69 = .ok (.iconst 1, 1) := by decide +kernel
theorem dX1_build_70 : decode cX1_build 70 = .ok (.iadd, 1) := by decide +kernel
theorem dX1_build_71 : decode cX1_build 71 = .ok (.istore_n 2, 1) := by decide +kernel
theorem dX1_build_72 : decode cX1_build 72 = .ok (.iload_n 2, 1) := by decide +kernel
theorem dX1_build_73 : decode cX1_build 73 = .ok (.aload_n 0, 1) := by decide +kernel
theorem dX1_build_74 : decode cX1_build 74 = .ok (.getfield 29, 3) := by decide +kernel
theorem dX1_build_77 : decode cX1_build 77 = .ok (.if_icmp .ge 43, 3) := by decide +kernel
theorem dX1_build_80 : decode cX1_build 80 = .ok (.aload_n 0, 1) := by decide +kernel
theorem dX1_build_81 : decode cX1_build 81 = .ok (.getfield 55, 3) := by decide +kernel
theorem dX1_build_84 : decode cX1_build 84 = .ok (.iload_n 2, 1) := by decide +kernel
theorem dX1_build_85 : decode cX1_build 85 = .ok (.ishr, 1) := by decide +kernel
theorem dX1_build_86 : decode cX1_build 86 = .ok (.iconst 1, 1) := by decide +kernel
theorem dX1_build_87 : decode cX1_build 87 = .ok (.iand, 1) := by decide +kernel
theorem dX1_build_88 : decode cX1_build 88 = .ok (.ifCond .eq 26, 3) := by decide +kernel
theorem dX1_build_91 : decode cX1_build 91 = .ok (.aload_n 0, 1) := by decide +kernel
theorem dX1_build_92 : decode cX1_build 92 = .ok (.getfield 23, 3) := by decide +kernel
theorem dX1_build_95 : decode cX1_build 95 = .ok (.iload_n 2, 1) := by decide +kernel
theorem dX1_build_96 : decode cX1_build 96 = .ok (.baload, 1) := by decide +kernel
theorem dX1_build_97 : decode cX1_build 97 = .ok (.aload_n 0, 1) := by decide +kernel
theorem dX1_build_98 : decode cX1_build 98 = .ok (.getfield 23, 3) := by decide +kernel
theorem dX1_build_101 : decode cX1_build 101 = .ok (.iload_n 1, 1) := by decide +kernel
theorem dX1_build_102 : decode cX1_build 102 = .ok (.baload, 1) := by decide +kernel
theorem dX1_build_103 : decode cX1_build 103 = .ok (.if_icmp .ne 11, 3) := by decide +kernel
theorem dX1_build_106 : decode cX1_build 106 = .ok (.aload_n 0, 1) := by decide +kernel
theorem dX1_build_107 : decode cX1_build 107 = .ok (.getfield 23, 3) := by decide +kernel
theorem dX1_build_110 : decode cX1_build 110 = .ok (.iload_n 2, 1) := by decide +kernel
theorem dX1_build_111 : decode cX1_build 111 = .ok (.iload_n 1, 1) := by decide +kernel
theorem dX1_build_112 : decode cX1_build 112 = .ok (.i2b, 1) := by decide +kernel
theorem dX1_build_113 : decode cX1_build 113 = .ok (.bastore, 1) := by decide +kernel
theorem dX1_build_114 : decode cX1_build 114 = .ok (.iinc 2 1, 3) := by decide +kernel
theorem dX1_build_117 : decode cX1_build 117 = .ok (.goto (-45), 3) := by decide +kernel
theorem dX1_build_120 : decode cX1_build 120 = .ok (.iinc 1 1, 3) := by decide +kernel
theorem dX1_build_123 : decode cX1_build 123 = .ok (.goto (-80), 3) := by decide +kernel
theorem dX1_build_126 : decode cX1_build 126 = .ok (.return_, 1) := by decide +kernel
abbrev cX1_largestFlow : ByteArray := prog_1_method_15_code
def yX1_largestFlow : MethodName := ⟨RX1, "largestFlow", "(II)I"⟩
theorem dX1_largestFlow_0 : decode cX1_largestFlow 0 = .ok (.iconst 0, 1) := by decide +kernel
theorem dX1_largestFlow_1 : decode cX1_largestFlow 1 = .ok (.istore_n 3, 1) := by decide +kernel
theorem dX1_largestFlow_2 : decode cX1_largestFlow 2 = .ok (.iload_n 3, 1) := by decide +kernel
theorem dX1_largestFlow_3 : decode cX1_largestFlow 3 = .ok (.bipush 64, 2) := by decide +kernel
theorem dX1_largestFlow_5 : decode cX1_largestFlow 5 = .ok (.if_icmp .ge 16, 3) := by decide +kernel
theorem dX1_largestFlow_8 : decode cX1_largestFlow 8 = .ok (.aload_n 0, 1) := by decide +kernel
theorem dX1_largestFlow_9 : decode cX1_largestFlow 9 = .ok (.getfield 13, 3) := by decide +kernel
theorem dX1_largestFlow_12 : decode cX1_largestFlow 12 = .ok (.iload_n 3, 1) := by decide +kernel
theorem dX1_largestFlow_13 : decode cX1_largestFlow 13 = .ok (.iconst 0, 1) := by decide +kernel
theorem dX1_largestFlow_14 : decode cX1_largestFlow 14 = .ok (.iastore, 1) := by decide +kernel
theorem dX1_largestFlow_15 : decode cX1_largestFlow 15 = .ok (.iinc 3 1, 3) := by decide +kernel
theorem dX1_largestFlow_18 : decode cX1_largestFlow 18 = .ok (.goto (-16), 3) := by decide +kernel
theorem dX1_largestFlow_21 : decode cX1_largestFlow 21 = .ok (.iconst 0, 1) := by decide +kernel
theorem dX1_largestFlow_22 : decode cX1_largestFlow 22 = .ok (.istore_n 3, 1) := by decide +kernel
theorem dX1_largestFlow_23 : decode cX1_largestFlow 23 = .ok (.aload_n 0, 1) := by decide +kernel
theorem dX1_largestFlow_24 : decode cX1_largestFlow 24 = .ok (.iload_n 1, 1) := by decide +kernel
theorem dX1_largestFlow_25 : decode cX1_largestFlow 25 = .ok (.iload_n 2, 1) := by decide +kernel
theorem dX1_largestFlow_26 : decode cX1_largestFlow 26 = .ok (.invokevirtual 62, 3) := by decide +kernel
theorem dX1_largestFlow_29 : decode cX1_largestFlow 29 = .ok (.ifCond .eq 27, 3) := by decide +kernel
theorem dX1_largestFlow_32 : decode cX1_largestFlow 32 = .ok (.aload_n 0, 1) := by decide +kernel
theorem dX1_largestFlow_33 : decode cX1_largestFlow 33 = .ok (.iload_n 1, 1) := by decide +kernel
theorem dX1_largestFlow_34 : decode cX1_largestFlow 34 = .ok (.iload_n 2, 1) := by decide +kernel
theorem dX1_largestFlow_35 : decode cX1_largestFlow 35 = .ok (.invokevirtual 65, 3) := by decide +kernel
theorem dX1_largestFlow_38 : decode cX1_largestFlow 38 = .ok (.istore 4, 2) := by decide +kernel
theorem dX1_largestFlow_40 : decode cX1_largestFlow 40 = .ok (.aload_n 0, 1) := by decide +kernel
theorem dX1_largestFlow_41 : decode cX1_largestFlow 41 = .ok (.iload_n 1, 1) := by decide +kernel
theorem dX1_largestFlow_42 : decode cX1_largestFlow 42 = .ok (.iload_n 2, 1) := by decide +kernel
theorem dX1_largestFlow_43 : decode cX1_largestFlow 43 = .ok (.iload 4, 2) := by decide +kernel
theorem dX1_largestFlow_45 : decode cX1_largestFlow 45 = .ok (.invokevirtual 68, 3) := by decide +kernel
theorem dX1_largestFlow_48 : decode cX1_largestFlow 48 = .ok (.iload_n 3, 1) := by decide +kernel
theorem dX1_largestFlow_49 : decode cX1_largestFlow 49 = .ok (.iload 4, 2) := by decide +kernel
theorem dX1_largestFlow_51 : decode cX1_largestFlow 51 = .ok (.iadd, 1) := by decide +kernel
theorem dX1_largestFlow_52 : decode cX1_largestFlow 52 = .ok (.istore_n 3, 1) := by decide +kernel
theorem dX1_largestFlow_53 : decode cX1_largestFlow 53 = .ok (.goto (-30), 3) := by decide +kernel
theorem dX1_largestFlow_56 : decode cX1_largestFlow 56 = .ok (.iload_n 3, 1) := by decide +kernel
theorem dX1_largestFlow_57 : decode cX1_largestFlow 57 = .ok (.ireturn, 1) := by decide +kernel
abbrev cX1_search : ByteArray := prog_1_method_16_code
def yX1_search : MethodName := ⟨RX1, "search", "(II)Z"⟩
theorem dX1_search_0 : decode cX1_search 0 = .ok (.iconst 1, 1) := by decide +kernel
theorem dX1_search_1 : decode cX1_search 1 = .ok (.istore_n 3, 1) := by decide +kernel
theorem dX1_search_2 : decode cX1_search 2 = .ok (.aload_n 0, 1) := by decide +kernel
theorem dX1_search_3 : decode cX1_search 3 = .ok (.getfield 20, 3) := by decide +kernel
theorem dX1_search_6 : decode cX1_search 6 = .ok (.iconst 0, 1) := by decide +kernel
theorem dX1_search_7 : decode cX1_search 7 = .ok (.iload_n 1, 1) := by decide +kernel
theorem dX1_search_8 : decode cX1_search 8 = .ok (.i2b, 1) := by decide +kernel
theorem dX1_search_9 : decode cX1_search 9 = .ok (.bastore, 1) := by decide +kernel
theorem dX1_search_10 : decode cX1_search 10 = .ok (.aload_n 0, 1) := by decide +kernel
theorem dX1_search_11 : decode cX1_search 11 = .ok (.iconst 1, 1) := by decide +kernel
theorem dX1_search_12 : decode cX1_search 12 = .ok (.iload_n 1, 1) := by decide +kernel
theorem dX1_search_13 : decode cX1_search 13 = .ok (.ishl, 1) := by decide +kernel
theorem dX1_search_14 : decode cX1_search 14 = .ok (.putfield 55, 3) := by decide +kernel
theorem dX1_search_17 : decode cX1_search 17 = .ok (.iconst 0, 1) := by decide +kernel
theorem dX1_search_18 : decode cX1_search 18 = .ok (.istore 4, 2) := by decide +kernel
theorem dX1_search_20 : decode cX1_search 20 = .ok (.iload 4, 2) := by decide +kernel
theorem dX1_search_22 : decode cX1_search 22 = .ok (.iload_n 3, 1) := by decide +kernel
theorem dX1_search_23 : decode cX1_search 23 = .ok (.if_icmp .ge 115, 3) := by decide +kernel
theorem dX1_search_26 : decode cX1_search 26 = .ok (.aload_n 0, 1) := by decide +kernel
theorem dX1_search_27 : decode cX1_search 27 = .ok (.getfield 20, 3) := by decide +kernel
theorem dX1_search_30 : decode cX1_search 30 = .ok (.iload 4, 2) := by decide +kernel
theorem dX1_search_32 : decode cX1_search 32 = .ok (.baload, 1) := by decide +kernel
theorem dX1_search_33 : decode cX1_search 33 = .ok (.istore 5, 2) := by decide +kernel
theorem dX1_search_35 : decode cX1_search 35 = .ok (.iconst 0, 1) := by decide +kernel
theorem dX1_search_36 : decode cX1_search 36 = .ok (.istore 6, 2) := by decide +kernel
theorem dX1_search_38 : decode cX1_search 38 = .ok (.iload 6, 2) := by decide +kernel
theorem dX1_search_40 : decode cX1_search 40 = .ok (.aload_n 0, 1) := by decide +kernel
theorem dX1_search_41 : decode cX1_search 41 = .ok (.getfield 29, 3) := by decide +kernel
theorem dX1_search_44 : decode cX1_search 44 = .ok (.if_icmp .ge 88, 3) := by decide +kernel
theorem dX1_search_47 : decode cX1_search 47 = .ok (.aload_n 0, 1) := by decide +kernel
theorem dX1_search_48 : decode cX1_search 48 = .ok (.getfield 55, 3) := by decide +kernel
theorem dX1_search_51 : decode cX1_search 51 = .ok (.iload 6, 2) := by decide +kernel
theorem dX1_search_53 : decode cX1_search 53 = .ok (.ishr, 1) := by decide +kernel
theorem dX1_search_54 : decode cX1_search 54 = .ok (.iconst 1, 1) := by decide +kernel
theorem dX1_search_55 : decode cX1_search 55 = .ok (.iand, 1) := by decide +kernel
theorem dX1_search_56 : decode cX1_search 56 = .ok (.ifCond .ne 70, 3) := by decide +kernel
theorem dX1_search_59 : decode cX1_search 59 = .ok (.aload_n 0, 1) := by decide +kernel
theorem dX1_search_60 : decode cX1_search 60 = .ok (.getfield 13, 3) := by decide +kernel
theorem dX1_search_63 : decode cX1_search 63 = .ok (.bipush 8, 2) := by decide +kernel
theorem dX1_search_65 : decode cX1_search 65 = .ok (.iload 5, 2) := by decide +kernel
theorem dX1_search_67 : decode cX1_search 67 = .ok (.imul, 1) := by decide +kernel
theorem dX1_search_68 : decode cX1_search 68 = .ok (.iload 6, 2) := by decide +kernel
theorem dX1_search_70 : decode cX1_search 70 = .ok (.iadd, 1) := by decide +kernel
theorem dX1_search_71 : decode cX1_search 71 = .ok (.iaload, 1) := by decide +kernel
theorem dX1_search_72 : decode cX1_search 72 = .ok (.aload_n 0, 1) := by decide +kernel
theorem dX1_search_73 : decode cX1_search 73 = .ok (.getfield 7, 3) := by decide +kernel
theorem dX1_search_76 : decode cX1_search 76 = .ok (.bipush 8, 2) := by decide +kernel
theorem dX1_search_78 : decode cX1_search 78 = .ok (.iload 5, 2) := by decide +kernel
theorem dX1_search_80 : decode cX1_search 80 = .ok (.imul, 1) := by decide +kernel
theorem dX1_search_81 : decode cX1_search 81 = .ok (.iload 6, 2) := by decide +kernel
theorem dX1_search_83 : decode cX1_search 83 = .ok (.iadd, 1) := by decide +kernel
theorem dX1_search_84 : decode cX1_search 84 = .ok (.baload, 1) := by decide +kernel
theorem dX1_search_85 : decode cX1_search 85 = .ok (.if_icmp .lt 6, 3) := by decide +kernel
theorem dX1_search_88 : decode cX1_search 88 = .ok (.goto 38, 3) := by decide +kernel
theorem dX1_search_91 : decode cX1_search 91 = .ok (.aload_n 0, 1) := by decide +kernel
theorem dX1_search_92 : decode cX1_search 92 = .ok (.dup, 1) := by decide +kernel
theorem dX1_search_93 : decode cX1_search 93 = .ok (.getfield 55, 3) := by decide +kernel
theorem dX1_search_96 : decode cX1_search 96 = .ok (.iconst 1, 1) := by decide +kernel
theorem dX1_search_97 : decode cX1_search 97 = .ok (.iload 6, 2) := by decide +kernel
theorem dX1_search_99 : decode cX1_search 99 = .ok (.ishl, 1) := by decide +kernel
theorem dX1_search_100 : decode cX1_search 100 = .ok (.ior, 1) := by decide +kernel
theorem dX1_search_101 : decode cX1_search 101 = .ok (.putfield 55, 3) := by decide +kernel
theorem dX1_search_104 : decode cX1_search 104 = .ok (.aload_n 0, 1) := by decide +kernel
theorem dX1_search_105 : decode cX1_search 105 = .ok (.getfield 17, 3) := by decide +kernel
theorem dX1_search_108 : decode cX1_search 108 = .ok (.iload 6, 2) := by decide +kernel
theorem dX1_search_110 : decode cX1_search 110 = .ok (.iload 5, 2) := by decide +kernel
theorem dX1_search_112 : decode cX1_search 112 = .ok (.i2b, 1) := by decide +kernel
theorem dX1_search_113 : decode cX1_search 113 = .ok (.bastore, 1) := by decide +kernel
theorem dX1_search_114 : decode cX1_search 114 = .ok (.aload_n 0, 1) := by decide +kernel
theorem dX1_search_115 : decode cX1_search 115 = .ok (.getfield 20, 3) := by decide +kernel
theorem dX1_search_118 : decode cX1_search 118 = .ok (.iload_n 3, 1) := by decide +kernel
theorem dX1_search_119 : decode cX1_search 119 = .ok (.iload 6, 2) := by decide +kernel
theorem dX1_search_121 : decode cX1_search 121 = .ok (.i2b, 1) := by decide +kernel
theorem dX1_search_122 : decode cX1_search 122 = .ok (.bastore, 1) := by decide +kernel
theorem dX1_search_123 : decode cX1_search 123 = .ok (.iinc 3 1, 3) := by decide +kernel
theorem dX1_search_126 : decode cX1_search 126 = .ok (.iinc 6 1, 3) := by decide +kernel
theorem dX1_search_129 : decode cX1_search 129 = .ok (.goto (-91), 3) := by decide +kernel
theorem dX1_search_132 : decode cX1_search 132 = .ok (.iinc 4 1, 3) := by decide +kernel
theorem dX1_search_135 : decode cX1_search 135 = .ok (.goto (-115), 3) := by decide +kernel
theorem dX1_search_138 : decode cX1_search 138 = .ok (.aload_n 0, 1) := by decide +kernel
theorem dX1_search_139 : decode cX1_search 139 = .ok (.getfield 55, 3) := by decide +kernel
theorem dX1_search_142 : decode cX1_search 142 = .ok (.iload_n 2, 1) := by decide +kernel
theorem dX1_search_143 : decode cX1_search 143 = .ok (.ishr, 1) := by decide +kernel
theorem dX1_search_144 : decode cX1_search 144 = .ok (.iconst 1, 1) := by decide +kernel
theorem dX1_search_145 : decode cX1_search 145 = .ok (.iand, 1) := by decide +kernel
theorem dX1_search_146 : decode cX1_search 146 = .ok (.ifCond .eq 7, 3) := by decide +kernel
theorem dX1_search_149 : decode cX1_search 149 = .ok (.iconst 1, 1) := by decide +kernel
theorem dX1_search_150 : decode cX1_search 150 = .ok (.goto 4, 3) := by decide +kernel
theorem dX1_search_153 : decode cX1_search 153 = .ok (.iconst 0, 1) := by decide +kernel
theorem dX1_search_154 : decode cX1_search 154 = .ok (.ireturn, 1) := by decide +kernel
abbrev cX1_roomOnWay : ByteArray := prog_1_method_17_code
def yX1_roomOnWay : MethodName := ⟨RX1, "roomOnWay", "(II)I"⟩
theorem dX1_roomOnWay_0 : decode cX1_roomOnWay 0 = .ok (.sipush 1000, 3) := by decide +kernel
theorem dX1_roomOnWay_3 : decode cX1_roomOnWay 3 = .ok (.istore_n 3, 1) := by decide +kernel
theorem dX1_roomOnWay_4 : decode cX1_roomOnWay 4 = .ok (.iload_n 2, 1) := by decide +kernel
theorem dX1_roomOnWay_5 : decode cX1_roomOnWay 5 = .ok (.istore 4, 2) := by decide +kernel
theorem dX1_roomOnWay_7 : decode cX1_roomOnWay 7 = .ok (.iload 4, 2) := by decide +kernel
theorem dX1_roomOnWay_9 : decode cX1_roomOnWay 9 = .ok (.iload_n 1, 1) := by decide +kernel
theorem dX1_roomOnWay_10 : decode cX1_roomOnWay 10 = .ok (.if_icmp .eq 57, 3) := by decide +kernel
theorem dX1_roomOnWay_13 : decode cX1_roomOnWay 13 = .ok (.aload_n 0, 1) := by decide +kernel
theorem dX1_roomOnWay_14 : decode cX1_roomOnWay 14 = .ok (.getfield 17, 3) := by decide +kernel
theorem dX1_roomOnWay_17 : decode cX1_roomOnWay 17 = .ok (.iload 4, 2) := by decide +kernel
theorem dX1_roomOnWay_19 : decode cX1_roomOnWay 19 = .ok (.baload, 1) := by decide +kernel
theorem dX1_roomOnWay_20 : decode cX1_roomOnWay 20 = .ok (.istore 5, 2) := by decide +kernel
theorem dX1_roomOnWay_22 : decode cX1_roomOnWay 22 = .ok (.aload_n 0, 1) := by decide +kernel
theorem dX1_roomOnWay_23 : decode cX1_roomOnWay 23 = .ok (.getfield 7, 3) := by decide +kernel
theorem dX1_roomOnWay_26 : decode cX1_roomOnWay 26 = .ok (.bipush 8, 2) := by decide +kernel
theorem dX1_roomOnWay_28 : decode cX1_roomOnWay 28 = .ok (.iload 5, 2) := by decide +kernel
theorem dX1_roomOnWay_30 : decode cX1_roomOnWay 30 = .ok (.imul, 1) := by decide +kernel
theorem dX1_roomOnWay_31 : decode cX1_roomOnWay 31 = .ok (.iload 4, 2) := by decide +kernel
theorem dX1_roomOnWay_33 : decode cX1_roomOnWay 33 = .ok (.iadd, 1) := by decide +kernel
theorem dX1_roomOnWay_34 : decode cX1_roomOnWay 34 = .ok (.baload, 1) := by decide +kernel
theorem dX1_roomOnWay_35 : decode cX1_roomOnWay 35 = .ok (.aload_n 0, 1) := by decide +kernel
theorem dX1_roomOnWay_36 : decode cX1_roomOnWay 36 = .ok (.getfield 13, 3) := by decide +kernel
theorem dX1_roomOnWay_39 : decode cX1_roomOnWay 39 = .ok (.bipush 8, 2) := by decide +kernel
theorem dX1_roomOnWay_41 : decode cX1_roomOnWay 41 = .ok (.iload 5, 2) := by decide +kernel
theorem dX1_roomOnWay_43 : decode cX1_roomOnWay 43 = .ok (.imul, 1) := by decide +kernel
theorem dX1_roomOnWay_44 : decode cX1_roomOnWay 44 = .ok (.iload 4, 2) := by decide +kernel
theorem dX1_roomOnWay_46 : decode cX1_roomOnWay 46 = .ok (.iadd, 1) := by decide +kernel
theorem dX1_roomOnWay_47 : decode cX1_roomOnWay 47 = .ok (.iaload, 1) := by decide +kernel
theorem dX1_roomOnWay_48 : decode cX1_roomOnWay 48 = .ok (.isub, 1) := by decide +kernel
theorem dX1_roomOnWay_49 : decode cX1_roomOnWay 49 = .ok (.istore 6, 2) := by decide +kernel
theorem dX1_roomOnWay_51 : decode cX1_roomOnWay 51 = .ok (.iload 6, 2) := by decide +kernel
theorem dX1_roomOnWay_53 : decode cX1_roomOnWay 53 = .ok (.iload_n 3, 1) := by decide +kernel
theorem dX1_roomOnWay_54 : decode cX1_roomOnWay 54 = .ok (.if_icmp .ge 6, 3) := by decide +kernel
theorem dX1_roomOnWay_57 : decode cX1_roomOnWay 57 = .ok (.iload 6, 2) := by decide +kernel
theorem dX1_roomOnWay_59 : decode cX1_roomOnWay 59 = .ok (.istore_n 3, 1) := by decide +kernel
theorem dX1_roomOnWay_60 : decode cX1_roomOnWay 60 = .ok (.iload 5, 2) := by decide +kernel
theorem dX1_roomOnWay_62 : decode cX1_roomOnWay 62 = .ok (.istore 4, 2) := by decide +kernel
theorem dX1_roomOnWay_64 : decode cX1_roomOnWay 64 = .ok (.goto (-57), 3) := by decide +kernel
theorem dX1_roomOnWay_67 : decode cX1_roomOnWay 67 = .ok (.iload_n 3, 1) := by decide +kernel
theorem dX1_roomOnWay_68 : decode cX1_roomOnWay 68 = .ok (.ireturn, 1) := by decide +kernel
end
section
set_option maxRecDepth 100000
abbrev cX1_push : ByteArray := prog_1_method_18_code
def yX1_push : MethodName := ⟨RX1, "push", "(III)V"⟩
theorem dX1_push_0 : decode cX1_push 0 = .ok (.iload_n 2, 1) := by decide +kernel
theorem dX1_push_1 : decode cX1_push 1 = .ok (.istore 4, 2) := by decide +kernel
theorem dX1_push_3 : decode cX1_push 3 = .ok (.iload 4, 2) := by decide +kernel
theorem dX1_push_5 : decode cX1_push 5 = .ok (.iload_n 1, 1) := by decide +kernel
theorem dX1_push_6 : decode cX1_push 6 = .ok (.if_icmp .eq 53, 3) := by decide +kernel
theorem dX1_push_9 : decode cX1_push 9 = .ok (.aload_n 0, 1) := by decide +kernel
theorem dX1_push_10 : decode cX1_push 10 = .ok (.getfield 17, 3) := by decide +kernel
theorem dX1_push_13 : decode cX1_push 13 = .ok (.iload 4, 2) := by decide +kernel
theorem dX1_push_15 : decode cX1_push 15 = .ok (.baload, 1) := by decide +kernel
theorem dX1_push_16 : decode cX1_push 16 = .ok (.istore 5, 2) := by decide +kernel
theorem dX1_push_18 : decode cX1_push 18 = .ok (.aload_n 0, 1) := by decide +kernel
theorem dX1_push_19 : decode cX1_push 19 = .ok (.getfield 13, 3) := by decide +kernel
theorem dX1_push_22 : decode cX1_push 22 = .ok (.bipush 8, 2) := by decide +kernel
theorem dX1_push_24 : decode cX1_push 24 = .ok (.iload 5, 2) := by decide +kernel
theorem dX1_push_26 : decode cX1_push 26 = .ok (.imul, 1) := by decide +kernel
theorem dX1_push_27 : decode cX1_push 27 = .ok (.iload 4, 2) := by decide +kernel
theorem dX1_push_29 : decode cX1_push 29 = .ok (.iadd, 1) := by decide +kernel
theorem dX1_push_30 : decode cX1_push 30 = .ok (.dup2, 1) := by decide +kernel
theorem dX1_push_31 : decode cX1_push 31 = .ok (.iaload, 1) := by decide +kernel
theorem dX1_push_32 : decode cX1_push 32 = .ok (.iload_n 3, 1) := by decide +kernel
theorem dX1_push_33 : decode cX1_push 33 = .ok (.iadd, 1) := by decide +kernel
theorem dX1_push_34 : decode cX1_push 34 = .ok (.iastore, 1) := by decide +kernel
theorem dX1_push_35 : decode cX1_push 35 = .ok (.aload_n 0, 1) := by decide +kernel
theorem dX1_push_36 : decode cX1_push 36 = .ok (.getfield 13, 3) := by decide +kernel
theorem dX1_push_39 : decode cX1_push 39 = .ok (.bipush 8, 2) := by decide +kernel
theorem dX1_push_41 : decode cX1_push 41 = .ok (.iload 4, 2) := by decide +kernel
theorem dX1_push_43 : decode cX1_push 43 = .ok (.imul, 1) := by decide +kernel
theorem dX1_push_44 : decode cX1_push 44 = .ok (.iload 5, 2) := by decide +kernel
theorem dX1_push_46 : decode cX1_push 46 = .ok (.iadd, 1) := by decide +kernel
theorem dX1_push_47 : decode cX1_push 47 = .ok (.dup2, 1) := by decide +kernel
theorem dX1_push_48 : decode cX1_push 48 = .ok (.iaload, 1) := by decide +kernel
theorem dX1_push_49 : decode cX1_push 49 = .ok (.iload_n 3, 1) := by decide +kernel
theorem dX1_push_50 : decode cX1_push 50 = .ok (.isub, 1) := by decide +kernel
theorem dX1_push_51 : decode cX1_push 51 = .ok (.iastore, 1) := by decide +kernel
theorem dX1_push_52 : decode cX1_push 52 = .ok (.iload 5, 2) := by decide +kernel
theorem dX1_push_54 : decode cX1_push 54 = .ok (.istore 4, 2) := by decide +kernel
theorem dX1_push_56 : decode cX1_push 56 = .ok (.goto (-53), 3) := by decide +kernel
theorem dX1_push_59 : decode cX1_push 59 = .ok (.return_, 1) := by decide +kernel
abbrev cX1_weakest : ByteArray := prog_1_method_21_code
def yX1_weakest : MethodName := ⟨RX1, "weakest", "(II)I"⟩
theorem dX1_weakest_0 : decode cX1_weakest 0 = .ok (.iload_n 1, 1) := by decide +kernel
theorem dX1_weakest_1 : decode cX1_weakest 1 = .ok (.istore_n 3, 1) := by decide +kernel
theorem dX1_weakest_2 : decode cX1_weakest 2 = .ok (.iload_n 2, 1) := by decide +kernel
theorem dX1_weakest_3 : decode cX1_weakest 3 = .ok (.istore 4, 2) := by decide +kernel
theorem dX1_weakest_5 : decode cX1_weakest 5 = .ok (.aload_n 0, 1) := by decide +kernel
theorem dX1_weakest_6 : decode cX1_weakest 6 = .ok (.iload_n 3, 1) := by decide +kernel
theorem dX1_weakest_7 : decode cX1_weakest 7 = .ok (.invokevirtual 72, 3) := by decide +kernel
theorem dX1_weakest_10 : decode cX1_weakest 10 = .ok (.istore 5, 2) := by decide +kernel
theorem dX1_weakest_12 : decode cX1_weakest 12 = .ok (.aload_n 0, 1) := by decide +kernel
theorem dX1_weakest_13 : decode cX1_weakest 13 = .ok (.iload 4, 2) := by decide +kernel
theorem dX1_weakest_15 : decode cX1_weakest 15 = .ok (.invokevirtual 72, 3) := by decide +kernel
theorem dX1_weakest_18 : decode cX1_weakest 18 = .ok (.istore 6, 2) := by decide +kernel
theorem dX1_weakest_20 : decode cX1_weakest 20 = .ok (.sipush 1000, 3) := by decide +kernel
theorem dX1_weakest_23 : decode cX1_weakest 23 = .ok (.istore 7, 2) := by decide +kernel
theorem dX1_weakest_25 : decode cX1_weakest 25 = .ok (.iload_n 3, 1) := by decide +kernel
theorem dX1_weakest_26 : decode cX1_weakest 26 = .ok (.iload 4, 2) := by decide +kernel
theorem dX1_weakest_28 : decode cX1_weakest 28 = .ok (.if_icmp .eq 78, 3) := by decide +kernel
theorem dX1_weakest_31 : decode cX1_weakest 31 = .ok (.iload 5, 2) := by decide +kernel
theorem dX1_weakest_33 : decode cX1_weakest 33 = .ok (.iload 6, 2) := by decide +kernel
theorem dX1_weakest_35 : decode cX1_weakest 35 = .ok (.if_icmp .lt 35, 3) := by decide +kernel
theorem dX1_weakest_38 : decode cX1_weakest 38 = .ok (.aload_n 0, 1) := by decide +kernel
theorem dX1_weakest_39 : decode cX1_weakest 39 = .ok (.getfield 26, 3) := by decide +kernel
theorem dX1_weakest_42 : decode cX1_weakest 42 = .ok (.iload_n 3, 1) := by decide +kernel
theorem dX1_weakest_43 : decode cX1_weakest 43 = .ok (.iaload, 1) := by decide +kernel
theorem dX1_weakest_44 : decode cX1_weakest 44 = .ok (.iload 7, 2) := by decide +kernel
theorem dX1_weakest_46 : decode cX1_weakest 46 = .ok (.if_icmp .ge 11, 3) := by decide +kernel
theorem dX1_weakest_49 : decode cX1_weakest 49 = .ok (.aload_n 0, 1) := by decide +kernel
theorem dX1_weakest_50 : decode cX1_weakest 50 = .ok (.getfield 26, 3) := by decide +kernel
theorem dX1_weakest_53 : decode cX1_weakest 53 = .ok (.iload_n 3, 1) := by decide +kernel
theorem dX1_weakest_54 : decode cX1_weakest 54 = .ok (.iaload, 1) := by decide +kernel
theorem dX1_weakest_55 : decode cX1_weakest 55 = .ok (.istore 7, 2) := by decide +kernel
theorem dX1_weakest_57 : decode cX1_weakest 57 = .ok (.aload_n 0, 1) := by decide +kernel
theorem dX1_weakest_58 : decode cX1_weakest 58 = .ok (.getfield 23, 3) := by decide +kernel
theorem dX1_weakest_61 : decode cX1_weakest 61 = .ok (.iload_n 3, 1) := by decide +kernel
theorem dX1_weakest_62 : decode cX1_weakest 62 = .ok (.baload, 1) := by decide +kernel
theorem dX1_weakest_63 : decode cX1_weakest 63 = .ok (.istore_n 3, 1) := by decide +kernel
theorem dX1_weakest_64 : decode cX1_weakest 64 = .ok (.iinc 5 (-1), 3) := by decide +kernel
theorem dX1_weakest_67 : decode cX1_weakest 67 = .ok (.goto (-42), 3) := by decide +kernel
theorem dX1_weakest_70 : decode cX1_weakest 70 = .ok (.aload_n 0, 1) := by decide +kernel
theorem dX1_weakest_71 : decode cX1_weakest 71 = .ok (.getfield 26, 3) := by decide +kernel
theorem dX1_weakest_74 : decode cX1_weakest 74 = .ok (.iload 4, 2) := by decide +kernel
theorem dX1_weakest_76 : decode cX1_weakest 76 = .ok (.iaload, 1) := by decide +kernel
theorem dX1_weakest_77 : decode cX1_weakest 77 = .ok (.iload 7, 2) := by decide +kernel
theorem dX1_weakest_79 : decode cX1_weakest 79 = .ok (.if_icmp .ge 12, 3) := by decide +kernel
theorem dX1_weakest_82 : decode cX1_weakest 82 = .ok (.aload_n 0, 1) := by decide +kernel
theorem dX1_weakest_83 : decode cX1_weakest 83 = .ok (.getfield 26, 3) := by decide +kernel
theorem dX1_weakest_86 : decode cX1_weakest 86 = .ok (.iload 4, 2) := by decide +kernel
theorem dX1_weakest_88 : decode cX1_weakest 88 = .ok (.iaload, 1) := by decide +kernel
theorem dX1_weakest_89 : decode cX1_weakest 89 = .ok (.istore 7, 2) := by decide +kernel
theorem dX1_weakest_91 : decode cX1_weakest 91 = .ok (.aload_n 0, 1) := by decide +kernel
theorem dX1_weakest_92 : decode cX1_weakest 92 = .ok (.getfield 23, 3) := by decide +kernel
theorem dX1_weakest_95 : decode cX1_weakest 95 = .ok (.iload 4, 2) := by decide +kernel
theorem dX1_weakest_97 : decode cX1_weakest 97 = .ok (.baload, 1) := by decide +kernel
theorem dX1_weakest_98 : decode cX1_weakest 98 = .ok (.istore 4, 2) := by decide +kernel
theorem dX1_weakest_100 : decode cX1_weakest 100 = .ok (.iinc 6 (-1), 3) := by decide +kernel
theorem dX1_weakest_103 : decode cX1_weakest 103 = .ok (.goto (-78), 3) := by decide +kernel
theorem dX1_weakest_106 : decode cX1_weakest 106 = .ok (.iload 7, 2) := by decide +kernel
theorem dX1_weakest_108 : decode cX1_weakest 108 = .ok (.ireturn, 1) := by decide +kernel
abbrev cX1_depthOf : ByteArray := prog_1_method_20_code
def yX1_depthOf : MethodName := ⟨RX1, "depthOf", "(I)I"⟩
theorem dX1_depthOf_0 : decode cX1_depthOf 0 = .ok (.iconst 0, 1) := by decide +kernel
theorem dX1_depthOf_1 : decode cX1_depthOf 1 = .ok (.istore_n 2, 1) := by decide +kernel
theorem dX1_depthOf_2 : decode cX1_depthOf 2 = .ok (.iload_n 1, 1) := by decide +kernel
theorem dX1_depthOf_3 : decode cX1_depthOf 3 = .ok (.istore_n 3, 1) := by decide +kernel
theorem dX1_depthOf_4 : decode cX1_depthOf 4 = .ok (.iload_n 3, 1) := by decide +kernel
theorem dX1_depthOf_5 : decode cX1_depthOf 5 = .ok (.ifCond .eq 16, 3) := by decide +kernel
theorem dX1_depthOf_8 : decode cX1_depthOf 8 = .ok (.aload_n 0, 1) := by decide +kernel
theorem dX1_depthOf_9 : decode cX1_depthOf 9 = .ok (.getfield 23, 3) := by decide +kernel
theorem dX1_depthOf_12 : decode cX1_depthOf 12 = .ok (.iload_n 3, 1) := by decide +kernel
theorem dX1_depthOf_13 : decode cX1_depthOf 13 = .ok (.baload, 1) := by decide +kernel
theorem dX1_depthOf_14 : decode cX1_depthOf 14 = .ok (.istore_n 3, 1) := by decide +kernel
theorem dX1_depthOf_15 : decode cX1_depthOf 15 = .ok (.iinc 2 1, 3) := by decide +kernel
theorem dX1_depthOf_18 : decode cX1_depthOf 18 = .ok (.goto (-14), 3) := by decide +kernel
theorem dX1_depthOf_21 : decode cX1_depthOf 21 = .ok (.iload_n 2, 1) := by decide +kernel
theorem dX1_depthOf_22 : decode cX1_depthOf 22 = .ok (.ireturn, 1) := by decide +kernel
abbrev cX1_side : ByteArray := prog_1_method_7_code
def yX1_side : MethodName := ⟨RX1, "side", "(II)I"⟩
theorem dX1_side_0 : decode cX1_side 0 = .ok (.aload_n 0, 1) := by decide +kernel
theorem dX1_side_1 : decode cX1_side 1 = .ok (.iload_n 1, 1) := by decide +kernel
theorem dX1_side_2 : decode cX1_side 2 = .ok (.iload_n 2, 1) := by decide +kernel
theorem dX1_side_3 : decode cX1_side 3 = .ok (.invokevirtual 33, 3) := by decide +kernel
theorem dX1_side_6 : decode cX1_side 6 = .ok (.ifCond .ne 5, 3) := by decide +kernel
theorem dX1_side_9 : decode cX1_side 9 = .ok (.iconst (-1), 1) := by decide +kernel
theorem dX1_side_10 : decode cX1_side 10 = .ok (.ireturn, 1) := by decide +kernel
theorem dX1_side_11 : decode cX1_side 11 = .ok (.aload_n 0, 1) := by decide +kernel
theorem dX1_side_12 : decode cX1_side 12 = .ok (.iload_n 1, 1) := by decide +kernel
theorem dX1_side_13 : decode cX1_side 13 = .ok (.iload_n 2, 1) := by decide +kernel
theorem dX1_side_14 : decode cX1_side 14 = .ok (.invokevirtual 52, 3) := by decide +kernel
theorem dX1_side_17 : decode cX1_side 17 = .ok (.pop, 1) := by decide +kernel
theorem dX1_side_18 : decode cX1_side 18 = .ok (.aload_n 0, 1) := by decide +kernel
theorem dX1_side_19 : decode cX1_side 19 = .ok (.getfield 55, 3) := by decide +kernel
theorem dX1_side_22 : decode cX1_side 22 = .ok (.ireturn, 1) := by decide +kernel
abbrev cX1_smallest : ByteArray := prog_1_method_8_code
def yX1_smallest : MethodName := ⟨RX1, "smallest", "()I"⟩
theorem dX1_smallest_0 : decode cX1_smallest 0 = .ok (.aload_n 0, 1) := by decide +kernel
theorem dX1_smallest_1 : decode cX1_smallest 1 = .ok (.invokevirtual 45, 3) := by decide +kernel
theorem dX1_smallest_4 : decode cX1_smallest 4 = .ok (.aload_n 0, 1) := by decide +kernel
theorem dX1_smallest_5 : decode cX1_smallest 5 = .ok (.getfield 26, 3) := by decide +kernel
theorem dX1_smallest_8 : decode cX1_smallest 8 = .ok (.iconst 1, 1) := by decide +kernel
theorem dX1_smallest_9 : decode cX1_smallest 9 = .ok (.iaload, 1) := by decide +kernel
theorem dX1_smallest_10 : decode cX1_smallest 10 = .ok (.istore_n 1, 1) := by decide +kernel
theorem dX1_smallest_11 : decode cX1_smallest 11 = .ok (.iconst 2, 1) := by decide +kernel
theorem dX1_smallest_12 : decode cX1_smallest 12 = .ok (.istore_n 2, 1) := by decide +kernel
theorem dX1_smallest_13 : decode cX1_smallest 13 = .ok (.iload_n 2, 1) := by decide +kernel
theorem dX1_smallest_14 : decode cX1_smallest 14 = .ok (.aload_n 0, 1) := by decide +kernel
theorem dX1_smallest_15 : decode cX1_smallest 15 = .ok (.getfield 29, 3) := by decide +kernel
theorem dX1_smallest_18 : decode cX1_smallest 18 = .ok (.if_icmp .ge 26, 3) := by decide +kernel
theorem dX1_smallest_21 : decode cX1_smallest 21 = .ok (.aload_n 0, 1) := by decide +kernel
theorem dX1_smallest_22 : decode cX1_smallest 22 = .ok (.getfield 26, 3) := by decide +kernel
theorem dX1_smallest_25 : decode cX1_smallest 25 = .ok (.iload_n 2, 1) := by decide +kernel
theorem dX1_smallest_26 : decode cX1_smallest 26 = .ok (.iaload, 1) := by decide +kernel
theorem dX1_smallest_27 : decode cX1_smallest 27 = .ok (.iload_n 1, 1) := by decide +kernel
theorem dX1_smallest_28 : decode cX1_smallest 28 = .ok (.if_icmp .ge 10, 3) := by decide +kernel
theorem dX1_smallest_31 : decode cX1_smallest 31 = .ok (.aload_n 0, 1) := by decide +kernel
theorem dX1_smallest_32 : decode cX1_smallest 32 = .ok (.getfield 26, 3) := by decide +kernel
theorem dX1_smallest_35 : decode cX1_smallest 35 = .ok (.iload_n 2, 1) := by decide +kernel
theorem dX1_smallest_36 : decode cX1_smallest 36 = .ok (.iaload, 1) := by decide +kernel
theorem dX1_smallest_37 : decode cX1_smallest 37 = .ok (.istore_n 1, 1) := by decide +kernel
theorem dX1_smallest_38 : decode cX1_smallest 38 = .ok (.iinc 2 1, 3) := by decide +kernel
theorem dX1_smallest_41 : decode cX1_smallest 41 = .ok (.goto (-28), 3) := by decide +kernel
theorem dX1_smallest_44 : decode cX1_smallest 44 = .ok (.iload_n 1, 1) := by decide +kernel
theorem dX1_smallest_45 : decode cX1_smallest 45 = .ok (.ireturn, 1) := by decide +kernel
abbrev cX1_couples : ByteArray := prog_1_method_9_code
def yX1_couples : MethodName := ⟨RX1, "couples", "(I)I"⟩
theorem dX1_couples_0 : decode cX1_couples 0 = .ok (.aload_n 0, 1) := by decide +kernel
theorem dX1_couples_1 : decode cX1_couples 1 = .ok (.invokevirtual 45, 3) := by decide +kernel
theorem dX1_couples_4 : decode cX1_couples 4 = .ok (.iconst 0, 1) := by decide +kernel
theorem dX1_couples_5 : decode cX1_couples 5 = .ok (.istore_n 2, 1) := by decide +kernel
theorem dX1_couples_6 : decode cX1_couples 6 = .ok (.iconst 0, 1) := by decide +kernel
theorem dX1_couples_7 : decode cX1_couples 7 = .ok (.istore_n 3, 1) := by decide +kernel
theorem dX1_couples_8 : decode cX1_couples 8 = .ok (.iload_n 3, 1) := by decide +kernel
theorem dX1_couples_9 : decode cX1_couples 9 = .ok (.aload_n 0, 1) := by decide +kernel
theorem dX1_couples_10 : decode cX1_couples 10 = .ok (.getfield 29, 3) := by decide +kernel
theorem dX1_couples_13 : decode cX1_couples 13 = .ok (.if_icmp .ge 47, 3) := by decide +kernel
theorem dX1_couples_16 : decode cX1_couples 16 = .ok (.iload_n 3, 1) := by decide +kernel
theorem dX1_couples_17 : decode cX1_couples 17 = .ok (.iconst 1, 1) := by decide +kernel
theorem dX1_couples_18 : decode cX1_couples 18 = .ok (.iadd, 1) := by decide +kernel
theorem dX1_couples_19 : decode cX1_couples 19 = .ok (.istore 4, 2) := by decide +kernel
theorem dX1_couples_21 : decode cX1_couples 21 = .ok (.iload 4, 2) := by decide +kernel
theorem dX1_couples_23 : decode cX1_couples 23 = .ok (.aload_n 0, 1) := by decide +kernel
theorem dX1_couples_24 : decode cX1_couples 24 = .ok (.getfield 29, 3) := by decide +kernel
theorem dX1_couples_27 : decode cX1_couples 27 = .ok (.if_icmp .ge 27, 3) := by decide +kernel
theorem dX1_couples_30 : decode cX1_couples 30 = .ok (.aload_n 0, 1) := by decide +kernel
theorem dX1_couples_31 : decode cX1_couples 31 = .ok (.iload_n 3, 1) := by decide +kernel
theorem dX1_couples_32 : decode cX1_couples 32 = .ok (.iload 4, 2) := by decide +kernel
theorem dX1_couples_34 : decode cX1_couples 34 = .ok (.invokevirtual 48, 3) := by decide +kernel
theorem dX1_couples_37 : decode cX1_couples 37 = .ok (.istore 5, 2) := by decide +kernel
theorem dX1_couples_39 : decode cX1_couples 39 = .ok (.iload 5, 2) := by decide +kernel
theorem dX1_couples_41 : decode cX1_couples 41 = .ok (.iload_n 1, 1) := by decide +kernel
theorem dX1_couples_42 : decode cX1_couples 42 = .ok (.if_icmp .lt 6, 3) := by decide +kernel
theorem dX1_couples_45 : decode cX1_couples 45 = .ok (.iinc 2 1, 3) := by decide +kernel
theorem dX1_couples_48 : decode cX1_couples 48 = .ok (.iinc 4 1, 3) := by decide +kernel
theorem dX1_couples_51 : decode cX1_couples 51 = .ok (.goto (-30), 3) := by decide +kernel
theorem dX1_couples_54 : decode cX1_couples 54 = .ok (.iinc 3 1, 3) := by decide +kernel
theorem dX1_couples_57 : decode cX1_couples 57 = .ok (.goto (-49), 3) := by decide +kernel
theorem dX1_couples_60 : decode cX1_couples 60 = .ok (.iload_n 2, 1) := by decide +kernel
theorem dX1_couples_61 : decode cX1_couples 61 = .ok (.ireturn, 1) := by decide +kernel
abbrev cX1_groups : ByteArray := prog_1_method_10_code
def yX1_groups : MethodName := ⟨RX1, "groups", "(I)I"⟩
theorem dX1_groups_0 : decode cX1_groups 0 = .ok (.aload_n 0, 1) := by decide +kernel
theorem dX1_groups_1 : decode cX1_groups 1 = .ok (.invokevirtual 45, 3) := by decide +kernel
theorem dX1_groups_4 : decode cX1_groups 4 = .ok (.iconst 1, 1) := by decide +kernel
theorem dX1_groups_5 : decode cX1_groups 5 = .ok (.istore_n 2, 1) := by decide +kernel
theorem dX1_groups_6 : decode cX1_groups 6 = .ok (.iconst 1, 1) := by decide +kernel
theorem dX1_groups_7 : decode cX1_groups 7 = .ok (.istore_n 3, 1) := by decide +kernel
theorem dX1_groups_8 : decode cX1_groups 8 = .ok (.iload_n 3, 1) := by decide +kernel
theorem dX1_groups_9 : decode cX1_groups 9 = .ok (.aload_n 0, 1) := by decide +kernel
theorem dX1_groups_10 : decode cX1_groups 10 = .ok (.getfield 29, 3) := by decide +kernel
theorem dX1_groups_13 : decode cX1_groups 13 = .ok (.if_icmp .ge 22, 3) := by decide +kernel
theorem dX1_groups_16 : decode cX1_groups 16 = .ok (.aload_n 0, 1) := by decide +kernel
theorem dX1_groups_17 : decode cX1_groups 17 = .ok (.getfield 26, 3) := by decide +kernel
theorem dX1_groups_20 : decode cX1_groups 20 = .ok (.iload_n 3, 1) := by decide +kernel
theorem dX1_groups_21 : decode cX1_groups 21 = .ok (.iaload, 1) := by decide +kernel
theorem dX1_groups_22 : decode cX1_groups 22 = .ok (.iload_n 1, 1) := by decide +kernel
theorem dX1_groups_23 : decode cX1_groups 23 = .ok (.if_icmp .ge 6, 3) := by decide +kernel
theorem dX1_groups_26 : decode cX1_groups 26 = .ok (.iinc 2 1, 3) := by decide +kernel
theorem dX1_groups_29 : decode cX1_groups 29 = .ok (.iinc 3 1, 3) := by decide +kernel
theorem dX1_groups_32 : decode cX1_groups 32 = .ok (.goto (-24), 3) := by decide +kernel
theorem dX1_groups_35 : decode cX1_groups 35 = .ok (.iload_n 2, 1) := by decide +kernel
theorem dX1_groups_36 : decode cX1_groups 36 = .ok (.ireturn, 1) := by decide +kernel
abbrev cX1_group : ByteArray := prog_1_method_11_code
def yX1_group : MethodName := ⟨RX1, "group", "(II)I"⟩
theorem dX1_group_0 : decode cX1_group 0 = .ok (.aload_n 0, 1) := by decide +kernel
theorem dX1_group_1 : decode cX1_group 1 = .ok (.iload_n 1, 1) := by decide +kernel
theorem dX1_group_2 : decode cX1_group 2 = .ok (.invokevirtual 41, 3) := by decide +kernel
theorem dX1_group_5 : decode cX1_group 5 = .ok (.ifCond .ne 5, 3) := by decide +kernel
theorem dX1_group_8 : decode cX1_group 8 = .ok (.iconst (-1), 1) := by decide +kernel
theorem dX1_group_9 : decode cX1_group 9 = .ok (.ireturn, 1) := by decide +kernel
theorem dX1_group_10 : decode cX1_group 10 = .ok (.aload_n 0, 1) := by decide +kernel
theorem dX1_group_11 : decode cX1_group 11 = .ok (.invokevirtual 45, 3) := by decide +kernel
theorem dX1_group_14 : decode cX1_group 14 = .ok (.iconst 1, 1) := by decide +kernel
theorem dX1_group_15 : decode cX1_group 15 = .ok (.iload_n 1, 1) := by decide +kernel
theorem dX1_group_16 : decode cX1_group 16 = .ok (.ishl, 1) := by decide +kernel
theorem dX1_group_17 : decode cX1_group 17 = .ok (.istore_n 3, 1) := by decide +kernel
theorem dX1_group_18 : decode cX1_group 18 = .ok (.iconst 0, 1) := by decide +kernel
theorem dX1_group_19 : decode cX1_group 19 = .ok (.istore 4, 2) := by decide +kernel
theorem dX1_group_21 : decode cX1_group 21 = .ok (.iload 4, 2) := by decide +kernel
theorem dX1_group_23 : decode cX1_group 23 = .ok (.bipush 8, 2) := by decide +kernel
theorem dX1_group_25 : decode cX1_group 25 = .ok (.if_icmp .ge 69, 3) := by decide +kernel
theorem dX1_group_28 : decode cX1_group 28 = .ok (.iconst 1, 1) := by decide +kernel
theorem dX1_group_29 : decode cX1_group 29 = .ok (.istore 5, 2) := by decide +kernel
theorem dX1_group_31 : decode cX1_group 31 = .ok (.iload 5, 2) := by decide +kernel
theorem dX1_group_33 : decode cX1_group 33 = .ok (.aload_n 0, 1) := by decide +kernel
theorem dX1_group_34 : decode cX1_group 34 = .ok (.getfield 29, 3) := by decide +kernel
theorem dX1_group_37 : decode cX1_group 37 = .ok (.if_icmp .ge 51, 3) := by decide +kernel
theorem dX1_group_40 : decode cX1_group 40 = .ok (.aload_n 0, 1) := by decide +kernel
theorem dX1_group_41 : decode cX1_group 41 = .ok (.getfield 26, 3) := by decide +kernel
theorem dX1_group_44 : decode cX1_group 44 = .ok (.iload 5, 2) := by decide +kernel
theorem dX1_group_46 : decode cX1_group 46 = .ok (.iaload, 1) := by decide +kernel
theorem dX1_group_47 : decode cX1_group 47 = .ok (.iload_n 2, 1) := by decide +kernel
theorem dX1_group_48 : decode cX1_group 48 = .ok (.if_icmp .ge 6, 3) := by decide +kernel
theorem dX1_group_51 : decode cX1_group 51 = .ok (.goto 31, 3) := by decide +kernel
theorem dX1_group_54 : decode cX1_group 54 = .ok (.iconst 1, 1) := by decide +kernel
theorem dX1_group_55 : decode cX1_group 55 = .ok (.iload 5, 2) := by decide +kernel
theorem dX1_group_57 : decode cX1_group 57 = .ok (.ishl, 1) := by decide +kernel
theorem dX1_group_58 : decode cX1_group 58 = .ok (.iconst 1, 1) := by decide +kernel
theorem dX1_group_59 : decode cX1_group 59 = .ok (.aload_n 0, 1) := by decide +kernel
theorem dX1_group_60 : decode cX1_group 60 = .ok (.getfield 23, 3) := by decide +kernel
theorem dX1_group_63 : decode cX1_group 63 = .ok (.iload 5, 2) := by decide +kernel
theorem dX1_group_65 : decode cX1_group 65 = .ok (.baload, 1) := by decide +kernel
theorem dX1_group_66 : decode cX1_group 66 = .ok (.ishl, 1) := by decide +kernel
theorem dX1_group_67 : decode cX1_group 67 = .ok (.ior, 1) := by decide +kernel
theorem dX1_group_68 : decode cX1_group 68 = .ok (.istore 6, 2) := by decide +kernel
theorem dX1_group_70 : decode cX1_group 70 = .ok (.iload_n 3, 1) := by decide +kernel
theorem dX1_group_71 : decode cX1_group 71 = .ok (.iload 6, 2) := by decide +kernel
theorem dX1_group_73 : decode cX1_group 73 = .ok (.iand, 1) := by decide +kernel
theorem dX1_group_74 : decode cX1_group 74 = .ok (.ifCond .eq 8, 3) := by decide +kernel
theorem dX1_group_77 : decode cX1_group 77 = .ok (.iload_n 3, 1) := by decide +kernel
theorem dX1_group_78 : decode cX1_group 78 = .ok (.iload 6, 2) := by decide +kernel
theorem dX1_group_80 : decode cX1_group 80 = .ok (.ior, 1) := by decide +kernel
theorem dX1_group_81 : decode cX1_group 81 = .ok (.istore_n 3, 1) := by decide +kernel
theorem dX1_group_82 : decode cX1_group 82 = .ok (.iinc 5 1, 3) := by decide +kernel
theorem dX1_group_85 : decode cX1_group 85 = .ok (.goto (-54), 3) := by decide +kernel
theorem dX1_group_88 : decode cX1_group 88 = .ok (.iinc 4 1, 3) := by decide +kernel
theorem dX1_group_91 : decode cX1_group 91 = .ok (.goto (-70), 3) := by decide +kernel
theorem dX1_group_94 : decode cX1_group 94 = .ok (.iload_n 3, 1) := by decide +kernel
theorem dX1_group_95 : decode cX1_group 95 = .ok (.ireturn, 1) := by decide +kernel
abbrev cX1_weight : ByteArray := prog_1_method_12_code
def yX1_weight : MethodName := ⟨RX1, "weight", "(I)I"⟩
theorem dX1_weight_0 : decode cX1_weight 0 = .ok (.iload_n 1, 1) := by decide +kernel
theorem dX1_weight_1 : decode cX1_weight 1 = .ok (.ifCond .le 15, 3) := by decide +kernel
theorem dX1_weight_4 : decode cX1_weight 4 = .ok (.iload_n 1, 1) := by decide +kernel
theorem dX1_weight_5 : decode cX1_weight 5 = .ok (.iconst 1, 1) := by decide +kernel
theorem dX1_weight_6 : decode cX1_weight 6 = .ok (.aload_n 0, 1) := by decide +kernel
theorem dX1_weight_7 : decode cX1_weight 7 = .ok (.getfield 29, 3) := by decide +kernel
theorem dX1_weight_10 : decode cX1_weight 10 = .ok (.ishl, 1) := by decide +kernel
theorem dX1_weight_11 : decode cX1_weight 11 = .ok (.iconst 1, 1) := by decide +kernel
theorem dX1_weight_12 : decode cX1_weight 12 = .ok (.isub, 1) := by decide +kernel
theorem dX1_weight_13 : decode cX1_weight 13 = .ok (.if_icmp .lt 5, 3) := by decide +kernel
theorem dX1_weight_16 : decode cX1_weight 16 = .ok (.iconst (-1), 1) := by decide +kernel
theorem dX1_weight_17 : decode cX1_weight 17 = .ok (.ireturn, 1) := by decide +kernel
theorem dX1_weight_18 : decode cX1_weight 18 = .ok (.iconst 0, 1) := by decide +kernel
theorem dX1_weight_19 : decode cX1_weight 19 = .ok (.istore_n 2, 1) := by decide +kernel
theorem dX1_weight_20 : decode cX1_weight 20 = .ok (.iconst 0, 1) := by decide +kernel
theorem dX1_weight_21 : decode cX1_weight 21 = .ok (.istore_n 3, 1) := by decide +kernel
theorem dX1_weight_22 : decode cX1_weight 22 = .ok (.iload_n 3, 1) := by decide +kernel
theorem dX1_weight_23 : decode cX1_weight 23 = .ok (.aload_n 0, 1) := by decide +kernel
theorem dX1_weight_24 : decode cX1_weight 24 = .ok (.getfield 29, 3) := by decide +kernel
theorem dX1_weight_27 : decode cX1_weight 27 = .ok (.if_icmp .ge 59, 3) := by decide +kernel
theorem dX1_weight_30 : decode cX1_weight 30 = .ok (.iconst 0, 1) := by decide +kernel
theorem dX1_weight_31 : decode cX1_weight 31 = .ok (.istore 4, 2) := by decide +kernel
theorem dX1_weight_33 : decode cX1_weight 33 = .ok (.iload 4, 2) := by decide +kernel
theorem dX1_weight_35 : decode cX1_weight 35 = .ok (.aload_n 0, 1) := by decide +kernel
theorem dX1_weight_36 : decode cX1_weight 36 = .ok (.getfield 29, 3) := by decide +kernel
theorem dX1_weight_39 : decode cX1_weight 39 = .ok (.if_icmp .ge 41, 3) := by decide +kernel
theorem dX1_weight_42 : decode cX1_weight 42 = .ok (.iload_n 1, 1) := by decide +kernel
theorem dX1_weight_43 : decode cX1_weight 43 = .ok (.iload_n 3, 1) := by decide +kernel
theorem dX1_weight_44 : decode cX1_weight 44 = .ok (.ishr, 1) := by decide +kernel
theorem dX1_weight_45 : decode cX1_weight 45 = .ok (.iconst 1, 1) := by decide +kernel
theorem dX1_weight_46 : decode cX1_weight 46 = .ok (.iand, 1) := by decide +kernel
theorem dX1_weight_47 : decode cX1_weight 47 = .ok (.ifCond .eq 27, 3) := by decide +kernel
theorem dX1_weight_50 : decode cX1_weight 50 = .ok (.iload_n 1, 1) := by decide +kernel
theorem dX1_weight_51 : decode cX1_weight 51 = .ok (.iload 4, 2) := by decide +kernel
theorem dX1_weight_53 : decode cX1_weight 53 = .ok (.ishr, 1) := by decide +kernel
theorem dX1_weight_54 : decode cX1_weight 54 = .ok (.iconst 1, 1) := by decide +kernel
theorem dX1_weight_55 : decode cX1_weight 55 = .ok (.iand, 1) := by decide +kernel
theorem dX1_weight_56 : decode cX1_weight 56 = .ok (.ifCond .ne 18, 3) := by decide +kernel
theorem dX1_weight_59 : decode cX1_weight 59 = .ok (.iload_n 2, 1) := by decide +kernel
theorem dX1_weight_60 : decode cX1_weight 60 = .ok (.aload_n 0, 1) := by decide +kernel
theorem dX1_weight_61 : decode cX1_weight 61 = .ok (.getfield 7, 3) := by decide +kernel
theorem dX1_weight_64 : decode cX1_weight 64 = .ok (.bipush 8, 2) := by decide +kernel
theorem dX1_weight_66 : decode cX1_weight 66 = .ok (.iload_n 3, 1) := by decide +kernel
theorem dX1_weight_67 : decode cX1_weight 67 = .ok (.imul, 1) := by decide +kernel
theorem dX1_weight_68 : decode cX1_weight 68 = .ok (.iload 4, 2) := by decide +kernel
theorem dX1_weight_70 : decode cX1_weight 70 = .ok (.iadd, 1) := by decide +kernel
theorem dX1_weight_71 : decode cX1_weight 71 = .ok (.baload, 1) := by decide +kernel
theorem dX1_weight_72 : decode cX1_weight 72 = .ok (.iadd, 1) := by decide +kernel
theorem dX1_weight_73 : decode cX1_weight 73 = .ok (.istore_n 2, 1) := by decide +kernel
theorem dX1_weight_74 : decode cX1_weight 74 = .ok (.iinc 4 1, 3) := by decide +kernel
theorem dX1_weight_77 : decode cX1_weight 77 = .ok (.goto (-44), 3) := by decide +kernel
theorem dX1_weight_80 : decode cX1_weight 80 = .ok (.iinc 3 1, 3) := by decide +kernel
theorem dX1_weight_83 : decode cX1_weight 83 = .ok (.goto (-61), 3) := by decide +kernel
theorem dX1_weight_86 : decode cX1_weight 86 = .ok (.iload_n 2, 1) := by decide +kernel
theorem dX1_weight_87 : decode cX1_weight 87 = .ok (.ireturn, 1) := by decide +kernel
abbrev cX1_total : ByteArray := prog_1_method_13_code
def yX1_total : MethodName := ⟨RX1, "total", "()I"⟩
theorem dX1_total_0 : decode cX1_total 0 = .ok (.aload_n 0, 1) := by decide +kernel
theorem dX1_total_1 : decode cX1_total 1 = .ok (.invokevirtual 45, 3) := by decide +kernel
theorem dX1_total_4 : decode cX1_total 4 = .ok (.iconst 0, 1) := by decide +kernel
theorem dX1_total_5 : decode cX1_total 5 = .ok (.istore_n 1, 1) := by decide +kernel
theorem dX1_total_6 : decode cX1_total 6 = .ok (.iconst 0, 1) := by decide +kernel
theorem dX1_total_7 : decode cX1_total 7 = .ok (.istore_n 2, 1) := by decide +kernel
theorem dX1_total_8 : decode cX1_total 8 = .ok (.iload_n 2, 1) := by decide +kernel
theorem dX1_total_9 : decode cX1_total 9 = .ok (.aload_n 0, 1) := by decide +kernel
theorem dX1_total_10 : decode cX1_total 10 = .ok (.getfield 29, 3) := by decide +kernel
theorem dX1_total_13 : decode cX1_total 13 = .ok (.if_icmp .ge 36, 3) := by decide +kernel
theorem dX1_total_16 : decode cX1_total 16 = .ok (.iload_n 2, 1) := by decide +kernel
theorem dX1_total_17 : decode cX1_total 17 = .ok (.iconst 1, 1) := by decide +kernel
theorem dX1_total_18 : decode cX1_total 18 = .ok (.iadd, 1) := by decide +kernel
theorem dX1_total_19 : decode cX1_total 19 = .ok (.istore_n 3, 1) := by decide +kernel
theorem dX1_total_20 : decode cX1_total 20 = .ok (.iload_n 3, 1) := by decide +kernel
theorem dX1_total_21 : decode cX1_total 21 = .ok (.aload_n 0, 1) := by decide +kernel
theorem dX1_total_22 : decode cX1_total 22 = .ok (.getfield 29, 3) := by decide +kernel
theorem dX1_total_25 : decode cX1_total 25 = .ok (.if_icmp .ge 18, 3) := by decide +kernel
theorem dX1_total_28 : decode cX1_total 28 = .ok (.iload_n 1, 1) := by decide +kernel
theorem dX1_total_29 : decode cX1_total 29 = .ok (.aload_n 0, 1) := by decide +kernel
theorem dX1_total_30 : decode cX1_total 30 = .ok (.iload_n 2, 1) := by decide +kernel
theorem dX1_total_31 : decode cX1_total 31 = .ok (.iload_n 3, 1) := by decide +kernel
theorem dX1_total_32 : decode cX1_total 32 = .ok (.invokevirtual 48, 3) := by decide +kernel
theorem dX1_total_35 : decode cX1_total 35 = .ok (.iadd, 1) := by decide +kernel
theorem dX1_total_36 : decode cX1_total 36 = .ok (.istore_n 1, 1) := by decide +kernel
theorem dX1_total_37 : decode cX1_total 37 = .ok (.iinc 3 1, 3) := by decide +kernel
theorem dX1_total_40 : decode cX1_total 40 = .ok (.goto (-20), 3) := by decide +kernel
theorem dX1_total_43 : decode cX1_total 43 = .ok (.iinc 2 1, 3) := by decide +kernel
theorem dX1_total_46 : decode cX1_total 46 = .ok (.goto (-38), 3) := by decide +kernel
theorem dX1_total_49 : decode cX1_total 49 = .ok (.iload_n 1, 1) := by decide +kernel
theorem dX1_total_50 : decode cX1_total 50 = .ok (.ireturn, 1) := by decide +kernel
abbrev cX1_cap : ByteArray := prog_1_method_14_code
def yX1_cap : MethodName := ⟨RX1, "cap", "(I)I"⟩
theorem dX1_cap_0 : decode cX1_cap 0 = .ok (.iload_n 1, 1) := by decide +kernel
theorem dX1_cap_1 : decode cX1_cap 1 = .ok (.ifCond .ge 5, 3) := by decide +kernel
theorem dX1_cap_4 : decode cX1_cap 4 = .ok (.iconst (-1), 1) := by decide +kernel
theorem dX1_cap_5 : decode cX1_cap 5 = .ok (.ireturn, 1) := by decide +kernel
theorem dX1_cap_6 : decode cX1_cap 6 = .ok (.iconst 0, 1) := by decide +kernel
theorem dX1_cap_7 : decode cX1_cap 7 = .ok (.istore_n 2, 1) := by decide +kernel
theorem dX1_cap_8 : decode cX1_cap 8 = .ok (.iconst 0, 1) := by decide +kernel
theorem dX1_cap_9 : decode cX1_cap 9 = .ok (.istore_n 3, 1) := by decide +kernel
theorem dX1_cap_10 : decode cX1_cap 10 = .ok (.iload_n 3, 1) := by decide +kernel
theorem dX1_cap_11 : decode cX1_cap 11 = .ok (.aload_n 0, 1) := by decide +kernel
theorem dX1_cap_12 : decode cX1_cap 12 = .ok (.getfield 29, 3) := by decide +kernel
theorem dX1_cap_15 : decode cX1_cap 15 = .ok (.if_icmp .ge 60, 3) := by decide +kernel
theorem dX1_cap_18 : decode cX1_cap 18 = .ok (.iload_n 3, 1) := by decide +kernel
theorem dX1_cap_19 : decode cX1_cap 19 = .ok (.iconst 1, 1) := by decide +kernel
theorem dX1_cap_20 : decode cX1_cap 20 = .ok (.iadd, 1) := by decide +kernel
theorem dX1_cap_21 : decode cX1_cap 21 = .ok (.istore 4, 2) := by decide +kernel
theorem dX1_cap_23 : decode cX1_cap 23 = .ok (.iload 4, 2) := by decide +kernel
theorem dX1_cap_25 : decode cX1_cap 25 = .ok (.aload_n 0, 1) := by decide +kernel
theorem dX1_cap_26 : decode cX1_cap 26 = .ok (.getfield 29, 3) := by decide +kernel
theorem dX1_cap_29 : decode cX1_cap 29 = .ok (.if_icmp .ge 40, 3) := by decide +kernel
theorem dX1_cap_32 : decode cX1_cap 32 = .ok (.aload_n 0, 1) := by decide +kernel
theorem dX1_cap_33 : decode cX1_cap 33 = .ok (.getfield 7, 3) := by decide +kernel
theorem dX1_cap_36 : decode cX1_cap 36 = .ok (.bipush 8, 2) := by decide +kernel
theorem dX1_cap_38 : decode cX1_cap 38 = .ok (.iload_n 3, 1) := by decide +kernel
theorem dX1_cap_39 : decode cX1_cap 39 = .ok (.imul, 1) := by decide +kernel
theorem dX1_cap_40 : decode cX1_cap 40 = .ok (.iload 4, 2) := by decide +kernel
theorem dX1_cap_42 : decode cX1_cap 42 = .ok (.iadd, 1) := by decide +kernel
theorem dX1_cap_43 : decode cX1_cap 43 = .ok (.baload, 1) := by decide +kernel
theorem dX1_cap_44 : decode cX1_cap 44 = .ok (.iload_n 1, 1) := by decide +kernel
theorem dX1_cap_45 : decode cX1_cap 45 = .ok (.if_icmp .gt 6, 3) := by decide +kernel
theorem dX1_cap_48 : decode cX1_cap 48 = .ok (.goto 15, 3) := by decide +kernel
theorem dX1_cap_51 : decode cX1_cap 51 = .ok (.aload_n 0, 1) := by decide +kernel
theorem dX1_cap_52 : decode cX1_cap 52 = .ok (.iload_n 3, 1) := by decide +kernel
theorem dX1_cap_53 : decode cX1_cap 53 = .ok (.iload 4, 2) := by decide +kernel
theorem dX1_cap_55 : decode cX1_cap 55 = .ok (.iload_n 1, 1) := by decide +kernel
theorem dX1_cap_56 : decode cX1_cap 56 = .ok (.invokevirtual 58, 3) := by decide +kernel
theorem dX1_cap_59 : decode cX1_cap 59 = .ok (.pop, 1) := by decide +kernel
theorem dX1_cap_60 : decode cX1_cap 60 = .ok (.iinc 2 1, 3) := by decide +kernel
theorem dX1_cap_63 : decode cX1_cap 63 = .ok (.iinc 4 1, 3) := by decide +kernel
theorem dX1_cap_66 : decode cX1_cap 66 = .ok (.goto (-43), 3) := by decide +kernel
theorem dX1_cap_69 : decode cX1_cap 69 = .ok (.iinc 3 1, 3) := by decide +kernel
theorem dX1_cap_72 : decode cX1_cap 72 = .ok (.goto (-62), 3) := by decide +kernel
theorem dX1_cap_75 : decode cX1_cap 75 = .ok (.iload_n 2, 1) := by decide +kernel
theorem dX1_cap_76 : decode cX1_cap 76 = .ok (.ireturn, 1) := by decide +kernel
theorem q18 : (Jvm.Cond.initialized "CutTree") ∈ lw_all := lw_g (lw_at lw_m0 1 rfl) rfl
theorem q21 : (Jvm.Cond.instantiable "CutTree" (9 : Nat)) ∈ lw_all := lw_g (lw_at lw_m0 4 rfl) rfl
theorem q23 : (Jvm.Cond.instanceMethod ({ cls := "CutTree", name := "<init>", desc := "(I)V" } : Jvm.MethodName)) ∈ lw_all := lw_g (lw_at lw_m0 6 rfl) rfl
theorem q24 : (Jvm.Cond.code ({ cls := "CutTree", name := "<init>", desc := "(I)V" } : Jvm.MethodName) prog_1_method_1_code (2 : Nat) (Option.none : Option Jvm.ClassFile.FieldType)) ∈ lw_all := lw_g (lw_at lw_m0 7 rfl) rfl
theorem q25 : (Jvm.Cond.methodLink "CutTree" (1 : Nat) ({ cls := "java/lang/Object", name := "<init>", desc := "()V" } : Jvm.MethodName)) ∈ lw_all := lw_g (lw_at lw_m0 8 rfl) rfl
theorem q28 : (Jvm.Cond.fieldLink "CutTree" (29 : Nat) "CutTree" "pointCount" "I") ∈ lw_all := lw_g (lw_at lw_m0 11 rfl) rfl
theorem q29 : (Jvm.Cond.fieldLink "CutTree" (7 : Nat) "CutTree" "capacities" "[B") ∈ lw_all := lw_g (lw_at lw_m0 12 rfl) rfl
theorem q30 : (Jvm.Cond.fieldLink "CutTree" (13 : Nat) "CutTree" "flow" "[I") ∈ lw_all := lw_g (lw_at lw_m0 13 rfl) rfl
theorem q31 : (Jvm.Cond.fieldLink "CutTree" (17 : Nat) "CutTree" "cameFrom" "[B") ∈ lw_all := lw_g (lw_at lw_m0 14 rfl) rfl
theorem q32 : (Jvm.Cond.fieldLink "CutTree" (20 : Nat) "CutTree" "queue" "[B") ∈ lw_all := lw_g (lw_at lw_m0 15 rfl) rfl
theorem q33 : (Jvm.Cond.fieldLink "CutTree" (55 : Nat) "CutTree" "reached" "I") ∈ lw_all := lw_g (lw_at lw_m0 16 rfl) rfl
theorem q34 : (Jvm.Cond.fieldLink "CutTree" (37 : Nat) "CutTree" "built" "Z") ∈ lw_all := lw_g (lw_at lw_m0 17 rfl) rfl
theorem q35 : (Jvm.Cond.fieldLink "CutTree" (23 : Nat) "CutTree" "hangsOn" "[B") ∈ lw_all := lw_g (lw_at lw_m0 18 rfl) rfl
theorem q36 : (Jvm.Cond.fieldLink "CutTree" (26 : Nat) "CutTree" "hangsBy" "[I") ∈ lw_all := lw_g (lw_at lw_m0 19 rfl) rfl
theorem q37 : (Jvm.Cond.lays "CutTree" "CutTree" "pointCount" "I") ∈ lw_all := lw_g (lw_at lw_m0 20 rfl) rfl
theorem q38 : (Jvm.Cond.soleField "CutTree" "pointCount") ∈ lw_all := lw_g (lw_at lw_m0 21 rfl) rfl
theorem q39 : (Jvm.Cond.laysFinal "CutTree" "CutTree" "capacities" "[B") ∈ lw_all := lw_g (lw_at lw_m0 22 rfl) rfl
theorem q40 : (Jvm.Cond.soleField "CutTree" "capacities") ∈ lw_all := lw_g (lw_at lw_m0 23 rfl) rfl
theorem q41 : (Jvm.Cond.laysFinal "CutTree" "CutTree" "flow" "[I") ∈ lw_all := lw_g (lw_at lw_m0 24 rfl) rfl
theorem q42 : (Jvm.Cond.soleField "CutTree" "flow") ∈ lw_all := lw_g (lw_at lw_m0 25 rfl) rfl
theorem q43 : (Jvm.Cond.laysFinal "CutTree" "CutTree" "cameFrom" "[B") ∈ lw_all := lw_g (lw_at lw_m0 26 rfl) rfl
theorem q44 : (Jvm.Cond.soleField "CutTree" "cameFrom") ∈ lw_all := lw_g (lw_at lw_m0 27 rfl) rfl
theorem q45 : (Jvm.Cond.laysFinal "CutTree" "CutTree" "queue" "[B") ∈ lw_all := lw_g (lw_at lw_m0 28 rfl) rfl
theorem q46 : (Jvm.Cond.soleField "CutTree" "queue") ∈ lw_all := lw_g (lw_at lw_m0 29 rfl) rfl
theorem q47 : (Jvm.Cond.lays "CutTree" "CutTree" "reached" "I") ∈ lw_all := lw_g (lw_at lw_m0 30 rfl) rfl
theorem q48 : (Jvm.Cond.soleField "CutTree" "reached") ∈ lw_all := lw_g (lw_at lw_m0 31 rfl) rfl
theorem q49 : (Jvm.Cond.lays "CutTree" "CutTree" "built" "Z") ∈ lw_all := lw_g (lw_at lw_m0 32 rfl) rfl
theorem q50 : (Jvm.Cond.soleField "CutTree" "built") ∈ lw_all := lw_g (lw_at lw_m0 33 rfl) rfl
theorem q51 : (Jvm.Cond.laysFinal "CutTree" "CutTree" "hangsOn" "[B") ∈ lw_all := lw_g (lw_at lw_m0 34 rfl) rfl
theorem q52 : (Jvm.Cond.soleField "CutTree" "hangsOn") ∈ lw_all := lw_g (lw_at lw_m0 35 rfl) rfl
theorem q53 : (Jvm.Cond.laysFinal "CutTree" "CutTree" "hangsBy" "[I") ∈ lw_all := lw_g (lw_at lw_m0 36 rfl) rfl
theorem q54 : (Jvm.Cond.soleField "CutTree" "hangsBy") ∈ lw_all := lw_g (lw_at lw_m0 37 rfl) rfl
theorem q55 : (Jvm.Cond.superclass "CutTree" "java/lang/Object") ∈ lw_all := lw_g (lw_at lw_m0 38 rfl) rfl
theorem q59 : (Jvm.Cond.instanceMethod ({ cls := "CutTree", name := "connect", desc := "(III)Z" } : Jvm.MethodName)) ∈ lw_all := lw_g (lw_at lw_m0 42 rfl) rfl
theorem q60 : (Jvm.Cond.selects "CutTree" ({ cls := "CutTree", name := "connect", desc := "(III)Z" } : Jvm.MethodName) ({ cls := "CutTree", name := "connect", desc := "(III)Z" } : Jvm.MethodName)) ∈ lw_all := lw_g (lw_at lw_m0 43 rfl) rfl
theorem q61 : (Jvm.Cond.code ({ cls := "CutTree", name := "connect", desc := "(III)Z" } : Jvm.MethodName) prog_1_method_2_code (4 : Nat) (Option.some Jvm.ClassFile.FieldType.boolean)) ∈ lw_all := lw_g (lw_at lw_m0 44 rfl) rfl
theorem q62 : (Jvm.Cond.methodLink "CutTree" (33 : Nat) ({ cls := "CutTree", name := "isCouple", desc := "(II)Z" } : Jvm.MethodName)) ∈ lw_all := lw_g (lw_at lw_m0 45 rfl) rfl
theorem q63 : (Jvm.Cond.privateMethod ({ cls := "CutTree", name := "isCouple", desc := "(II)Z" } : Jvm.MethodName)) ∈ lw_tbl := lw_at lw_m0 46 rfl
theorem q64 : (Jvm.Cond.instanceMethod ({ cls := "CutTree", name := "isCouple", desc := "(II)Z" } : Jvm.MethodName)) ∈ lw_all := lw_g (lw_at lw_m0 47 rfl) rfl
theorem q65 : (Jvm.Cond.code ({ cls := "CutTree", name := "isCouple", desc := "(II)Z" } : Jvm.MethodName) prog_1_method_5_code (3 : Nat) (Option.some Jvm.ClassFile.FieldType.boolean)) ∈ lw_all := lw_g (lw_at lw_m0 48 rfl) rfl
theorem q66 : (Jvm.Cond.methodLink "CutTree" (41 : Nat) ({ cls := "CutTree", name := "isPoint", desc := "(I)Z" } : Jvm.MethodName)) ∈ lw_all := lw_g (lw_at lw_m0 49 rfl) rfl
theorem q67 : (Jvm.Cond.privateMethod ({ cls := "CutTree", name := "isPoint", desc := "(I)Z" } : Jvm.MethodName)) ∈ lw_tbl := lw_at lw_m0 50 rfl
theorem q68 : (Jvm.Cond.instanceMethod ({ cls := "CutTree", name := "isPoint", desc := "(I)Z" } : Jvm.MethodName)) ∈ lw_all := lw_g (lw_at lw_m0 51 rfl) rfl
theorem q69 : (Jvm.Cond.code ({ cls := "CutTree", name := "isPoint", desc := "(I)Z" } : Jvm.MethodName) prog_1_method_4_code (2 : Nat) (Option.some Jvm.ClassFile.FieldType.boolean)) ∈ lw_all := lw_g (lw_at lw_m0 52 rfl) rfl
theorem q71 : (Jvm.Cond.instanceMethod ({ cls := "CutTree", name := "capacity", desc := "(II)I" } : Jvm.MethodName)) ∈ lw_all := lw_g (lw_at lw_m0 54 rfl) rfl
theorem q72 : (Jvm.Cond.selects "CutTree" ({ cls := "CutTree", name := "capacity", desc := "(II)I" } : Jvm.MethodName) ({ cls := "CutTree", name := "capacity", desc := "(II)I" } : Jvm.MethodName)) ∈ lw_all := lw_g (lw_at lw_m0 55 rfl) rfl
theorem q73 : (Jvm.Cond.code ({ cls := "CutTree", name := "capacity", desc := "(II)I" } : Jvm.MethodName) prog_1_method_3_code (3 : Nat) (Option.some Jvm.ClassFile.FieldType.int)) ∈ lw_all := lw_g (lw_at lw_m0 56 rfl) rfl
theorem q75 : (Jvm.Cond.instanceMethod ({ cls := "CutTree", name := "link", desc := "(II)I" } : Jvm.MethodName)) ∈ lw_all := lw_g (lw_at lw_m0 58 rfl) rfl
theorem q76 : (Jvm.Cond.selects "CutTree" ({ cls := "CutTree", name := "link", desc := "(II)I" } : Jvm.MethodName) ({ cls := "CutTree", name := "link", desc := "(II)I" } : Jvm.MethodName)) ∈ lw_all := lw_g (lw_at lw_m0 59 rfl) rfl
theorem q77 : (Jvm.Cond.code ({ cls := "CutTree", name := "link", desc := "(II)I" } : Jvm.MethodName) prog_1_method_6_code (3 : Nat) (Option.some Jvm.ClassFile.FieldType.int)) ∈ lw_all := lw_g (lw_at lw_m0 60 rfl) rfl
theorem q78 : (Jvm.Cond.methodLink "CutTree" (45 : Nat) ({ cls := "CutTree", name := "build", desc := "()V" } : Jvm.MethodName)) ∈ lw_all := lw_g (lw_at lw_m0 61 rfl) rfl
theorem q79 : (Jvm.Cond.privateMethod ({ cls := "CutTree", name := "build", desc := "()V" } : Jvm.MethodName)) ∈ lw_tbl := lw_at lw_m0 62 rfl
theorem q80 : (Jvm.Cond.instanceMethod ({ cls := "CutTree", name := "build", desc := "()V" } : Jvm.MethodName)) ∈ lw_all := lw_g (lw_at lw_m0 63 rfl) rfl
theorem q81 : (Jvm.Cond.code ({ cls := "CutTree", name := "build", desc := "()V" } : Jvm.MethodName) prog_1_method_19_code (3 : Nat) (Option.none : Option Jvm.ClassFile.FieldType)) ∈ lw_all := lw_g (lw_at lw_m0 64 rfl) rfl
theorem q82 : (Jvm.Cond.methodLink "CutTree" (52 : Nat) ({ cls := "CutTree", name := "largestFlow", desc := "(II)I" } : Jvm.MethodName)) ∈ lw_all := lw_g (lw_at lw_m0 65 rfl) rfl
theorem q83 : (Jvm.Cond.privateMethod ({ cls := "CutTree", name := "largestFlow", desc := "(II)I" } : Jvm.MethodName)) ∈ lw_tbl := lw_at lw_m0 66 rfl
theorem q84 : (Jvm.Cond.instanceMethod ({ cls := "CutTree", name := "largestFlow", desc := "(II)I" } : Jvm.MethodName)) ∈ lw_all := lw_g (lw_at lw_m0 67 rfl) rfl
theorem q85 : (Jvm.Cond.code ({ cls := "CutTree", name := "largestFlow", desc := "(II)I" } : Jvm.MethodName) prog_1_method_15_code (5 : Nat) (Option.some Jvm.ClassFile.FieldType.int)) ∈ lw_all := lw_g (lw_at lw_m0 68 rfl) rfl
theorem q86 : (Jvm.Cond.methodLink "CutTree" (62 : Nat) ({ cls := "CutTree", name := "search", desc := "(II)Z" } : Jvm.MethodName)) ∈ lw_all := lw_g (lw_at lw_m0 69 rfl) rfl
theorem q87 : (Jvm.Cond.privateMethod ({ cls := "CutTree", name := "search", desc := "(II)Z" } : Jvm.MethodName)) ∈ lw_tbl := lw_at lw_m0 70 rfl
theorem q88 : (Jvm.Cond.instanceMethod ({ cls := "CutTree", name := "search", desc := "(II)Z" } : Jvm.MethodName)) ∈ lw_all := lw_g (lw_at lw_m0 71 rfl) rfl
theorem q89 : (Jvm.Cond.code ({ cls := "CutTree", name := "search", desc := "(II)Z" } : Jvm.MethodName) prog_1_method_16_code (7 : Nat) (Option.some Jvm.ClassFile.FieldType.boolean)) ∈ lw_all := lw_g (lw_at lw_m0 72 rfl) rfl
theorem q90 : (Jvm.Cond.methodLink "CutTree" (65 : Nat) ({ cls := "CutTree", name := "roomOnWay", desc := "(II)I" } : Jvm.MethodName)) ∈ lw_all := lw_g (lw_at lw_m0 73 rfl) rfl
theorem q91 : (Jvm.Cond.privateMethod ({ cls := "CutTree", name := "roomOnWay", desc := "(II)I" } : Jvm.MethodName)) ∈ lw_tbl := lw_at lw_m0 74 rfl
theorem q92 : (Jvm.Cond.instanceMethod ({ cls := "CutTree", name := "roomOnWay", desc := "(II)I" } : Jvm.MethodName)) ∈ lw_all := lw_g (lw_at lw_m0 75 rfl) rfl
theorem q93 : (Jvm.Cond.code ({ cls := "CutTree", name := "roomOnWay", desc := "(II)I" } : Jvm.MethodName) prog_1_method_17_code (7 : Nat) (Option.some Jvm.ClassFile.FieldType.int)) ∈ lw_all := lw_g (lw_at lw_m0 76 rfl) rfl
theorem q94 : (Jvm.Cond.methodLink "CutTree" (68 : Nat) ({ cls := "CutTree", name := "push", desc := "(III)V" } : Jvm.MethodName)) ∈ lw_all := lw_g (lw_at lw_m0 77 rfl) rfl
theorem q95 : (Jvm.Cond.privateMethod ({ cls := "CutTree", name := "push", desc := "(III)V" } : Jvm.MethodName)) ∈ lw_tbl := lw_at lw_m0 78 rfl
theorem q96 : (Jvm.Cond.instanceMethod ({ cls := "CutTree", name := "push", desc := "(III)V" } : Jvm.MethodName)) ∈ lw_all := lw_g (lw_at lw_m0 79 rfl) rfl
theorem q97 : (Jvm.Cond.code ({ cls := "CutTree", name := "push", desc := "(III)V" } : Jvm.MethodName) prog_1_method_18_code (6 : Nat) (Option.none : Option Jvm.ClassFile.FieldType)) ∈ lw_all := lw_g (lw_at lw_m0 80 rfl) rfl
theorem q98 : (Jvm.Cond.methodLink "CutTree" (48 : Nat) ({ cls := "CutTree", name := "weakest", desc := "(II)I" } : Jvm.MethodName)) ∈ lw_all := lw_g (lw_at lw_m0 81 rfl) rfl
theorem q99 : (Jvm.Cond.privateMethod ({ cls := "CutTree", name := "weakest", desc := "(II)I" } : Jvm.MethodName)) ∈ lw_tbl := lw_at lw_m0 82 rfl
theorem q100 : (Jvm.Cond.instanceMethod ({ cls := "CutTree", name := "weakest", desc := "(II)I" } : Jvm.MethodName)) ∈ lw_all := lw_g (lw_at lw_m0 83 rfl) rfl
theorem q101 : (Jvm.Cond.code ({ cls := "CutTree", name := "weakest", desc := "(II)I" } : Jvm.MethodName) prog_1_method_21_code (8 : Nat) (Option.some Jvm.ClassFile.FieldType.int)) ∈ lw_all := lw_g (lw_at lw_m0 84 rfl) rfl
theorem q102 : (Jvm.Cond.methodLink "CutTree" (72 : Nat) ({ cls := "CutTree", name := "depthOf", desc := "(I)I" } : Jvm.MethodName)) ∈ lw_all := lw_g (lw_at lw_m0 85 rfl) rfl
theorem q103 : (Jvm.Cond.privateMethod ({ cls := "CutTree", name := "depthOf", desc := "(I)I" } : Jvm.MethodName)) ∈ lw_tbl := lw_at lw_m0 86 rfl
theorem q104 : (Jvm.Cond.instanceMethod ({ cls := "CutTree", name := "depthOf", desc := "(I)I" } : Jvm.MethodName)) ∈ lw_all := lw_g (lw_at lw_m0 87 rfl) rfl
theorem q105 : (Jvm.Cond.code ({ cls := "CutTree", name := "depthOf", desc := "(I)I" } : Jvm.MethodName) prog_1_method_20_code (4 : Nat) (Option.some Jvm.ClassFile.FieldType.int)) ∈ lw_all := lw_g (lw_at lw_m0 88 rfl) rfl
theorem q107 : (Jvm.Cond.instanceMethod ({ cls := "CutTree", name := "side", desc := "(II)I" } : Jvm.MethodName)) ∈ lw_all := lw_g (lw_at lw_m0 90 rfl) rfl
theorem q108 : (Jvm.Cond.selects "CutTree" ({ cls := "CutTree", name := "side", desc := "(II)I" } : Jvm.MethodName) ({ cls := "CutTree", name := "side", desc := "(II)I" } : Jvm.MethodName)) ∈ lw_all := lw_g (lw_at lw_m0 91 rfl) rfl
theorem q109 : (Jvm.Cond.code ({ cls := "CutTree", name := "side", desc := "(II)I" } : Jvm.MethodName) prog_1_method_7_code (3 : Nat) (Option.some Jvm.ClassFile.FieldType.int)) ∈ lw_all := lw_g (lw_at lw_m0 92 rfl) rfl
theorem q111 : (Jvm.Cond.instanceMethod ({ cls := "CutTree", name := "smallest", desc := "()I" } : Jvm.MethodName)) ∈ lw_all := lw_g (lw_at lw_m0 94 rfl) rfl
theorem q112 : (Jvm.Cond.selects "CutTree" ({ cls := "CutTree", name := "smallest", desc := "()I" } : Jvm.MethodName) ({ cls := "CutTree", name := "smallest", desc := "()I" } : Jvm.MethodName)) ∈ lw_all := lw_g (lw_at lw_m0 95 rfl) rfl
theorem q113 : (Jvm.Cond.code ({ cls := "CutTree", name := "smallest", desc := "()I" } : Jvm.MethodName) prog_1_method_8_code (3 : Nat) (Option.some Jvm.ClassFile.FieldType.int)) ∈ lw_all := lw_g (lw_at lw_m0 96 rfl) rfl
theorem q115 : (Jvm.Cond.instanceMethod ({ cls := "CutTree", name := "couples", desc := "(I)I" } : Jvm.MethodName)) ∈ lw_all := lw_g (lw_at lw_m0 98 rfl) rfl
theorem q116 : (Jvm.Cond.selects "CutTree" ({ cls := "CutTree", name := "couples", desc := "(I)I" } : Jvm.MethodName) ({ cls := "CutTree", name := "couples", desc := "(I)I" } : Jvm.MethodName)) ∈ lw_all := lw_g (lw_at lw_m0 99 rfl) rfl
theorem q117 : (Jvm.Cond.code ({ cls := "CutTree", name := "couples", desc := "(I)I" } : Jvm.MethodName) prog_1_method_9_code (6 : Nat) (Option.some Jvm.ClassFile.FieldType.int)) ∈ lw_all := lw_g (lw_at lw_m0 100 rfl) rfl
theorem q119 : (Jvm.Cond.instanceMethod ({ cls := "CutTree", name := "groups", desc := "(I)I" } : Jvm.MethodName)) ∈ lw_all := lw_g (lw_at lw_m0 102 rfl) rfl
theorem q120 : (Jvm.Cond.selects "CutTree" ({ cls := "CutTree", name := "groups", desc := "(I)I" } : Jvm.MethodName) ({ cls := "CutTree", name := "groups", desc := "(I)I" } : Jvm.MethodName)) ∈ lw_all := lw_g (lw_at lw_m0 103 rfl) rfl
theorem q121 : (Jvm.Cond.code ({ cls := "CutTree", name := "groups", desc := "(I)I" } : Jvm.MethodName) prog_1_method_10_code (4 : Nat) (Option.some Jvm.ClassFile.FieldType.int)) ∈ lw_all := lw_g (lw_at lw_m0 104 rfl) rfl
theorem q123 : (Jvm.Cond.instanceMethod ({ cls := "CutTree", name := "group", desc := "(II)I" } : Jvm.MethodName)) ∈ lw_all := lw_g (lw_at lw_m0 106 rfl) rfl
theorem q124 : (Jvm.Cond.selects "CutTree" ({ cls := "CutTree", name := "group", desc := "(II)I" } : Jvm.MethodName) ({ cls := "CutTree", name := "group", desc := "(II)I" } : Jvm.MethodName)) ∈ lw_all := lw_g (lw_at lw_m0 107 rfl) rfl
theorem q125 : (Jvm.Cond.code ({ cls := "CutTree", name := "group", desc := "(II)I" } : Jvm.MethodName) prog_1_method_11_code (7 : Nat) (Option.some Jvm.ClassFile.FieldType.int)) ∈ lw_all := lw_g (lw_at lw_m0 108 rfl) rfl
theorem q127 : (Jvm.Cond.instanceMethod ({ cls := "CutTree", name := "weight", desc := "(I)I" } : Jvm.MethodName)) ∈ lw_all := lw_g (lw_at lw_m0 110 rfl) rfl
theorem q128 : (Jvm.Cond.selects "CutTree" ({ cls := "CutTree", name := "weight", desc := "(I)I" } : Jvm.MethodName) ({ cls := "CutTree", name := "weight", desc := "(I)I" } : Jvm.MethodName)) ∈ lw_all := lw_g (lw_at lw_m0 111 rfl) rfl
theorem q129 : (Jvm.Cond.code ({ cls := "CutTree", name := "weight", desc := "(I)I" } : Jvm.MethodName) prog_1_method_12_code (5 : Nat) (Option.some Jvm.ClassFile.FieldType.int)) ∈ lw_all := lw_g (lw_at lw_m0 112 rfl) rfl
theorem q131 : (Jvm.Cond.instanceMethod ({ cls := "CutTree", name := "total", desc := "()I" } : Jvm.MethodName)) ∈ lw_all := lw_g (lw_at lw_m0 114 rfl) rfl
theorem q132 : (Jvm.Cond.selects "CutTree" ({ cls := "CutTree", name := "total", desc := "()I" } : Jvm.MethodName) ({ cls := "CutTree", name := "total", desc := "()I" } : Jvm.MethodName)) ∈ lw_all := lw_g (lw_at lw_m0 115 rfl) rfl
theorem q133 : (Jvm.Cond.code ({ cls := "CutTree", name := "total", desc := "()I" } : Jvm.MethodName) prog_1_method_13_code (4 : Nat) (Option.some Jvm.ClassFile.FieldType.int)) ∈ lw_all := lw_g (lw_at lw_m0 116 rfl) rfl
theorem q135 : (Jvm.Cond.instanceMethod ({ cls := "CutTree", name := "cap", desc := "(I)I" } : Jvm.MethodName)) ∈ lw_all := lw_g (lw_at lw_m0 118 rfl) rfl
theorem q136 : (Jvm.Cond.selects "CutTree" ({ cls := "CutTree", name := "cap", desc := "(I)I" } : Jvm.MethodName) ({ cls := "CutTree", name := "cap", desc := "(I)I" } : Jvm.MethodName)) ∈ lw_all := lw_g (lw_at lw_m0 119 rfl) rfl
theorem q137 : (Jvm.Cond.code ({ cls := "CutTree", name := "cap", desc := "(I)I" } : Jvm.MethodName) prog_1_method_14_code (5 : Nat) (Option.some Jvm.ClassFile.FieldType.int)) ∈ lw_all := lw_g (lw_at lw_m0 120 rfl) rfl
theorem q138 : (Jvm.Cond.methodLink "CutTree" (58 : Nat) ({ cls := "CutTree", name := "connect", desc := "(III)Z" } : Jvm.MethodName)) ∈ lw_all := lw_g (lw_at lw_m0 121 rfl) rfl
theorem in_X1 : ∀ w ∈ wsX10, w ∈ lw_all := lw_in wsX10 [37, 39, 41, 43, 45, 47, 49, 51, 53] (by decide +kernel) (by decide +kernel)
end
section
/-! the law's own entry -/
set_option maxRecDepth 100000
abbrev cL_law : ByteArray := code
theorem dL_law_0 : decode cL_law 0 = .ok (.new 7, 3) := by decide +kernel
theorem dL_law_3 : decode cL_law 3 = .ok (.dup, 1) := by decide +kernel
theorem dL_law_4 : decode cL_law 4 = .ok (.aload_n 0, 1) := by decide +kernel
theorem dL_law_5 : decode cL_law 5 = .ok (.iconst 0, 1) := by decide +kernel
theorem dL_law_6 : decode cL_law 6 = .ok (.invokestatic 9, 3) := by decide +kernel
theorem dL_law_9 : decode cL_law 9 = .ok (.invokespecial 15, 3) := by decide +kernel
theorem dL_law_12 : decode cL_law 12 = .ok (.astore_n 1, 1) := by decide +kernel
theorem dL_law_13 : decode cL_law 13 = .ok (.new 18, 3) := by decide +kernel
theorem dL_law_16 : decode cL_law 16 = .ok (.dup, 1) := by decide +kernel
theorem dL_law_17 : decode cL_law 17 = .ok (.aload_n 0, 1) := by decide +kernel
theorem dL_law_18 : decode cL_law 18 = .ok (.iconst 0, 1) := by decide +kernel
theorem dL_law_19 : decode cL_law 19 = .ok (.invokestatic 9, 3) := by decide +kernel
theorem dL_law_22 : decode cL_law 22 = .ok (.invokespecial 20, 3) := by decide +kernel
theorem dL_law_25 : decode cL_law 25 = .ok (.astore_n 2, 1) := by decide +kernel
theorem dL_law_26 : decode cL_law 26 = .ok (.iconst 1, 1) := by decide +kernel
theorem dL_law_27 : decode cL_law 27 = .ok (.istore_n 3, 1) := by decide +kernel
theorem dL_law_28 : decode cL_law 28 = .ok (.iload_n 3, 1) := by decide +kernel
theorem dL_law_29 : decode cL_law 29 = .ok (.aload_n 0, 1) := by decide +kernel
theorem dL_law_30 : decode cL_law 30 = .ok (.arraylength, 1) := by decide +kernel
theorem dL_law_31 : decode cL_law 31 = .ok (.iconst 4, 1) := by decide +kernel
theorem dL_law_32 : decode cL_law 32 = .ok (.isub, 1) := by decide +kernel
theorem dL_law_33 : decode cL_law 33 = .ok (.if_icmp .gt 366, 3) := by decide +kernel
theorem dL_law_36 : decode cL_law 36 = .ok (.aload_n 0, 1) := by decide +kernel
theorem dL_law_37 : decode cL_law 37 = .ok (.iload_n 3, 1) := by decide +kernel
theorem dL_law_38 : decode cL_law 38 = .ok (.iaload, 1) := by decide +kernel
theorem dL_law_39 : decode cL_law 39 = .ok (.bipush 15, 2) := by decide +kernel
theorem dL_law_41 : decode cL_law 41 = .ok (.iand, 1) := by decide +kernel
theorem dL_law_42 : decode cL_law 42 = .ok (.tableswitch 351 0 10 #[58, 101, 134, 167, 200, 213, 236, 259, 292, 315, 328], 58) := by decide +kernel
theorem dL_law_100 : decode cL_law 100 = .ok (.aload_n 1, 1) := by decide +kernel
theorem dL_law_101 : decode cL_law 101 = .ok (.aload_n 0, 1) := by decide +kernel
theorem dL_law_102 : decode cL_law 102 = .ok (.iload_n 3, 1) := by decide +kernel
theorem dL_law_103 : decode cL_law 103 = .ok (.iconst 1, 1) := by decide +kernel
theorem dL_law_104 : decode cL_law 104 = .ok (.iadd, 1) := by decide +kernel
theorem dL_law_105 : decode cL_law 105 = .ok (.iaload, 1) := by decide +kernel
theorem dL_law_106 : decode cL_law 106 = .ok (.aload_n 0, 1) := by decide +kernel
theorem dL_law_107 : decode cL_law 107 = .ok (.iload_n 3, 1) := by decide +kernel
theorem dL_law_108 : decode cL_law 108 = .ok (.iconst 2, 1) := by decide +kernel
theorem dL_law_109 : decode cL_law 109 = .ok (.iadd, 1) := by decide +kernel
theorem dL_law_110 : decode cL_law 110 = .ok (.iaload, 1) := by decide +kernel
theorem dL_law_111 : decode cL_law 111 = .ok (.aload_n 0, 1) := by decide +kernel
theorem dL_law_112 : decode cL_law 112 = .ok (.iload_n 3, 1) := by decide +kernel
theorem dL_law_113 : decode cL_law 113 = .ok (.iconst 3, 1) := by decide +kernel
theorem dL_law_114 : decode cL_law 114 = .ok (.iadd, 1) := by decide +kernel
theorem dL_law_115 : decode cL_law 115 = .ok (.iaload, 1) := by decide +kernel
theorem dL_law_116 : decode cL_law 116 = .ok (.invokevirtual 21, 3) := by decide +kernel
theorem dL_law_119 : decode cL_law 119 = .ok (.aload_n 2, 1) := by decide +kernel
theorem dL_law_120 : decode cL_law 120 = .ok (.aload_n 0, 1) := by decide +kernel
theorem dL_law_121 : decode cL_law 121 = .ok (.iload_n 3, 1) := by decide +kernel
theorem dL_law_122 : decode cL_law 122 = .ok (.iconst 1, 1) := by decide +kernel
theorem dL_law_123 : decode cL_law 123 = .ok (.iadd, 1) := by decide +kernel
theorem dL_law_124 : decode cL_law 124 = .ok (.iaload, 1) := by decide +kernel
theorem dL_law_125 : decode cL_law 125 = .ok (.aload_n 0, 1) := by decide +kernel
theorem dL_law_126 : decode cL_law 126 = .ok (.iload_n 3, 1) := by decide +kernel
theorem dL_law_127 : decode cL_law 127 = .ok (.iconst 2, 1) := by decide +kernel
theorem dL_law_128 : decode cL_law 128 = .ok (.iadd, 1) := by decide +kernel
theorem dL_law_129 : decode cL_law 129 = .ok (.iaload, 1) := by decide +kernel
theorem dL_law_130 : decode cL_law 130 = .ok (.aload_n 0, 1) := by decide +kernel
theorem dL_law_131 : decode cL_law 131 = .ok (.iload_n 3, 1) := by decide +kernel
theorem dL_law_132 : decode cL_law 132 = .ok (.iconst 3, 1) := by decide +kernel
theorem dL_law_133 : decode cL_law 133 = .ok (.iadd, 1) := by decide +kernel
theorem dL_law_134 : decode cL_law 134 = .ok (.iaload, 1) := by decide +kernel
theorem dL_law_135 : decode cL_law 135 = .ok (.invokevirtual 25, 3) := by decide +kernel
theorem dL_law_138 : decode cL_law 138 = .ok (.if_icmp .eq 255, 3) := by decide +kernel
theorem dL_law_141 : decode cL_law 141 = .ok (.iconst 0, 1) := by decide +kernel
theorem dL_law_142 : decode cL_law 142 = .ok (.ireturn, 1) := by decide +kernel
theorem dL_law_143 : decode cL_law 143 = .ok (.aload_n 1, 1) := by decide +kernel
theorem dL_law_144 : decode cL_law 144 = .ok (.aload_n 0, 1) := by decide +kernel
theorem dL_law_145 : decode cL_law 145 = .ok (.iload_n 3, 1) := by decide +kernel
theorem dL_law_146 : decode cL_law 146 = .ok (.iconst 1, 1) := by decide +kernel
theorem dL_law_147 : decode cL_law 147 = .ok (.iadd, 1) := by decide +kernel
theorem dL_law_148 : decode cL_law 148 = .ok (.iaload, 1) := by decide +kernel
theorem dL_law_149 : decode cL_law 149 = .ok (.aload_n 0, 1) := by decide +kernel
theorem dL_law_150 : decode cL_law 150 = .ok (.iload_n 3, 1) := by decide +kernel
theorem dL_law_151 : decode cL_law 151 = .ok (.iconst 2, 1) := by decide +kernel
theorem dL_law_152 : decode cL_law 152 = .ok (.iadd, 1) := by decide +kernel
theorem dL_law_153 : decode cL_law 153 = .ok (.iaload, 1) := by decide +kernel
theorem dL_law_154 : decode cL_law 154 = .ok (.invokevirtual 26, 3) := by decide +kernel
theorem dL_law_157 : decode cL_law 157 = .ok (.aload_n 2, 1) := by decide +kernel
theorem dL_law_158 : decode cL_law 158 = .ok (.aload_n 0, 1) := by decide +kernel
theorem dL_law_159 : decode cL_law 159 = .ok (.iload_n 3, 1) := by decide +kernel
theorem dL_law_160 : decode cL_law 160 = .ok (.iconst 1, 1) := by decide +kernel
theorem dL_law_161 : decode cL_law 161 = .ok (.iadd, 1) := by decide +kernel
theorem dL_law_162 : decode cL_law 162 = .ok (.iaload, 1) := by decide +kernel
theorem dL_law_163 : decode cL_law 163 = .ok (.aload_n 0, 1) := by decide +kernel
theorem dL_law_164 : decode cL_law 164 = .ok (.iload_n 3, 1) := by decide +kernel
theorem dL_law_165 : decode cL_law 165 = .ok (.iconst 2, 1) := by decide +kernel
theorem dL_law_166 : decode cL_law 166 = .ok (.iadd, 1) := by decide +kernel
theorem dL_law_167 : decode cL_law 167 = .ok (.iaload, 1) := by decide +kernel
theorem dL_law_168 : decode cL_law 168 = .ok (.invokevirtual 30, 3) := by decide +kernel
theorem dL_law_171 : decode cL_law 171 = .ok (.if_icmp .eq 222, 3) := by decide +kernel
theorem dL_law_174 : decode cL_law 174 = .ok (.iconst 0, 1) := by decide +kernel
theorem dL_law_175 : decode cL_law 175 = .ok (.ireturn, 1) := by decide +kernel
theorem dL_law_176 : decode cL_law 176 = .ok (.aload_n 1, 1) := by decide +kernel
theorem dL_law_177 : decode cL_law 177 = .ok (.aload_n 0, 1) := by decide +kernel
theorem dL_law_178 : decode cL_law 178 = .ok (.iload_n 3, 1) := by decide +kernel
theorem dL_law_179 : decode cL_law 179 = .ok (.iconst 1, 1) := by decide +kernel
theorem dL_law_180 : decode cL_law 180 = .ok (.iadd, 1) := by decide +kernel
theorem dL_law_181 : decode cL_law 181 = .ok (.iaload, 1) := by decide +kernel
theorem dL_law_182 : decode cL_law 182 = .ok (.aload_n 0, 1) := by decide +kernel
theorem dL_law_183 : decode cL_law 183 = .ok (.iload_n 3, 1) := by decide +kernel
theorem dL_law_184 : decode cL_law 184 = .ok (.iconst 2, 1) := by decide +kernel
theorem dL_law_185 : decode cL_law 185 = .ok (.iadd, 1) := by decide +kernel
theorem dL_law_186 : decode cL_law 186 = .ok (.iaload, 1) := by decide +kernel
theorem dL_law_187 : decode cL_law 187 = .ok (.invokevirtual 31, 3) := by decide +kernel
theorem dL_law_190 : decode cL_law 190 = .ok (.aload_n 2, 1) := by decide +kernel
theorem dL_law_191 : decode cL_law 191 = .ok (.aload_n 0, 1) := by decide +kernel
theorem dL_law_192 : decode cL_law 192 = .ok (.iload_n 3, 1) := by decide +kernel
theorem dL_law_193 : decode cL_law 193 = .ok (.iconst 1, 1) := by decide +kernel
theorem dL_law_194 : decode cL_law 194 = .ok (.iadd, 1) := by decide +kernel
theorem dL_law_195 : decode cL_law 195 = .ok (.iaload, 1) := by decide +kernel
theorem dL_law_196 : decode cL_law 196 = .ok (.aload_n 0, 1) := by decide +kernel
theorem dL_law_197 : decode cL_law 197 = .ok (.iload_n 3, 1) := by decide +kernel
theorem dL_law_198 : decode cL_law 198 = .ok (.iconst 2, 1) := by decide +kernel
theorem dL_law_199 : decode cL_law 199 = .ok (.iadd, 1) := by decide +kernel
theorem dL_law_200 : decode cL_law 200 = .ok (.iaload, 1) := by decide +kernel
theorem dL_law_201 : decode cL_law 201 = .ok (.invokevirtual 34, 3) := by decide +kernel
theorem dL_law_204 : decode cL_law 204 = .ok (.if_icmp .eq 189, 3) := by decide +kernel
theorem dL_law_207 : decode cL_law 207 = .ok (.iconst 0, 1) := by decide +kernel
theorem dL_law_208 : decode cL_law 208 = .ok (.ireturn, 1) := by decide +kernel
theorem dL_law_209 : decode cL_law 209 = .ok (.aload_n 1, 1) := by decide +kernel
theorem dL_law_210 : decode cL_law 210 = .ok (.aload_n 0, 1) := by decide +kernel
theorem dL_law_211 : decode cL_law 211 = .ok (.iload_n 3, 1) := by decide +kernel
theorem dL_law_212 : decode cL_law 212 = .ok (.iconst 1, 1) := by decide +kernel
theorem dL_law_213 : decode cL_law 213 = .ok (.iadd, 1) := by decide +kernel
theorem dL_law_214 : decode cL_law 214 = .ok (.iaload, 1) := by decide +kernel
theorem dL_law_215 : decode cL_law 215 = .ok (.aload_n 0, 1) := by decide +kernel
theorem dL_law_216 : decode cL_law 216 = .ok (.iload_n 3, 1) := by decide +kernel
theorem dL_law_217 : decode cL_law 217 = .ok (.iconst 2, 1) := by decide +kernel
theorem dL_law_218 : decode cL_law 218 = .ok (.iadd, 1) := by decide +kernel
theorem dL_law_219 : decode cL_law 219 = .ok (.iaload, 1) := by decide +kernel
theorem dL_law_220 : decode cL_law 220 = .ok (.invokevirtual 35, 3) := by decide +kernel
theorem dL_law_223 : decode cL_law 223 = .ok (.aload_n 2, 1) := by decide +kernel
theorem dL_law_224 : decode cL_law 224 = .ok (.aload_n 0, 1) := by decide +kernel
theorem dL_law_225 : decode cL_law 225 = .ok (.iload_n 3, 1) := by decide +kernel
theorem dL_law_226 : decode cL_law 226 = .ok (.iconst 1, 1) := by decide +kernel
theorem dL_law_227 : decode cL_law 227 = .ok (.iadd, 1) := by decide +kernel
theorem dL_law_228 : decode cL_law 228 = .ok (.iaload, 1) := by decide +kernel
theorem dL_law_229 : decode cL_law 229 = .ok (.aload_n 0, 1) := by decide +kernel
theorem dL_law_230 : decode cL_law 230 = .ok (.iload_n 3, 1) := by decide +kernel
theorem dL_law_231 : decode cL_law 231 = .ok (.iconst 2, 1) := by decide +kernel
theorem dL_law_232 : decode cL_law 232 = .ok (.iadd, 1) := by decide +kernel
theorem dL_law_233 : decode cL_law 233 = .ok (.iaload, 1) := by decide +kernel
theorem dL_law_234 : decode cL_law 234 = .ok (.invokevirtual 38, 3) := by decide +kernel
theorem dL_law_237 : decode cL_law 237 = .ok (.if_icmp .eq 156, 3) := by decide +kernel
theorem dL_law_240 : decode cL_law 240 = .ok (.iconst 0, 1) := by decide +kernel
theorem dL_law_241 : decode cL_law 241 = .ok (.ireturn, 1) := by decide +kernel
theorem dL_law_242 : decode cL_law 242 = .ok (.aload_n 1, 1) := by decide +kernel
theorem dL_law_243 : decode cL_law 243 = .ok (.invokevirtual 39, 3) := by decide +kernel
theorem dL_law_246 : decode cL_law 246 = .ok (.aload_n 2, 1) := by decide +kernel
theorem dL_law_247 : decode cL_law 247 = .ok (.invokevirtual 43, 3) := by decide +kernel
theorem dL_law_250 : decode cL_law 250 = .ok (.if_icmp .eq 143, 3) := by decide +kernel
theorem dL_law_253 : decode cL_law 253 = .ok (.iconst 0, 1) := by decide +kernel
theorem dL_law_254 : decode cL_law 254 = .ok (.ireturn, 1) := by decide +kernel
theorem dL_law_255 : decode cL_law 255 = .ok (.aload_n 1, 1) := by decide +kernel
theorem dL_law_256 : decode cL_law 256 = .ok (.aload_n 0, 1) := by decide +kernel
theorem dL_law_257 : decode cL_law 257 = .ok (.iload_n 3, 1) := by decide +kernel
theorem dL_law_258 : decode cL_law 258 = .ok (.iconst 1, 1) := by decide +kernel
theorem dL_law_259 : decode cL_law 259 = .ok (.iadd, 1) := by decide +kernel
theorem dL_law_260 : decode cL_law 260 = .ok (.iaload, 1) := by decide +kernel
theorem dL_law_261 : decode cL_law 261 = .ok (.invokevirtual 44, 3) := by decide +kernel
theorem dL_law_264 : decode cL_law 264 = .ok (.aload_n 2, 1) := by decide +kernel
theorem dL_law_265 : decode cL_law 265 = .ok (.aload_n 0, 1) := by decide +kernel
theorem dL_law_266 : decode cL_law 266 = .ok (.iload_n 3, 1) := by decide +kernel
theorem dL_law_267 : decode cL_law 267 = .ok (.iconst 1, 1) := by decide +kernel
theorem dL_law_268 : decode cL_law 268 = .ok (.iadd, 1) := by decide +kernel
theorem dL_law_269 : decode cL_law 269 = .ok (.iaload, 1) := by decide +kernel
theorem dL_law_270 : decode cL_law 270 = .ok (.invokevirtual 48, 3) := by decide +kernel
theorem dL_law_273 : decode cL_law 273 = .ok (.if_icmp .eq 120, 3) := by decide +kernel
theorem dL_law_276 : decode cL_law 276 = .ok (.iconst 0, 1) := by decide +kernel
theorem dL_law_277 : decode cL_law 277 = .ok (.ireturn, 1) := by decide +kernel
theorem dL_law_278 : decode cL_law 278 = .ok (.aload_n 1, 1) := by decide +kernel
theorem dL_law_279 : decode cL_law 279 = .ok (.aload_n 0, 1) := by decide +kernel
theorem dL_law_280 : decode cL_law 280 = .ok (.iload_n 3, 1) := by decide +kernel
theorem dL_law_281 : decode cL_law 281 = .ok (.iconst 1, 1) := by decide +kernel
theorem dL_law_282 : decode cL_law 282 = .ok (.iadd, 1) := by decide +kernel
theorem dL_law_283 : decode cL_law 283 = .ok (.iaload, 1) := by decide +kernel
theorem dL_law_284 : decode cL_law 284 = .ok (.invokevirtual 49, 3) := by decide +kernel
theorem dL_law_287 : decode cL_law 287 = .ok (.aload_n 2, 1) := by decide +kernel
theorem dL_law_288 : decode cL_law 288 = .ok (.aload_n 0, 1) := by decide +kernel
theorem dL_law_289 : decode cL_law 289 = .ok (.iload_n 3, 1) := by decide +kernel
theorem dL_law_290 : decode cL_law 290 = .ok (.iconst 1, 1) := by decide +kernel
theorem dL_law_291 : decode cL_law 291 = .ok (.iadd, 1) := by decide +kernel
theorem dL_law_292 : decode cL_law 292 = .ok (.iaload, 1) := by decide +kernel
theorem dL_law_293 : decode cL_law 293 = .ok (.invokevirtual 52, 3) := by decide +kernel
theorem dL_law_296 : decode cL_law 296 = .ok (.if_icmp .eq 97, 3) := by decide +kernel
theorem dL_law_299 : decode cL_law 299 = .ok (.iconst 0, 1) := by decide +kernel
theorem dL_law_300 : decode cL_law 300 = .ok (.ireturn, 1) := by decide +kernel
theorem dL_law_301 : decode cL_law 301 = .ok (.aload_n 1, 1) := by decide +kernel
theorem dL_law_302 : decode cL_law 302 = .ok (.aload_n 0, 1) := by decide +kernel
theorem dL_law_303 : decode cL_law 303 = .ok (.iload_n 3, 1) := by decide +kernel
theorem dL_law_304 : decode cL_law 304 = .ok (.iconst 1, 1) := by decide +kernel
theorem dL_law_305 : decode cL_law 305 = .ok (.iadd, 1) := by decide +kernel
theorem dL_law_306 : decode cL_law 306 = .ok (.iaload, 1) := by decide +kernel
theorem dL_law_307 : decode cL_law 307 = .ok (.aload_n 0, 1) := by decide +kernel
theorem dL_law_308 : decode cL_law 308 = .ok (.iload_n 3, 1) := by decide +kernel
theorem dL_law_309 : decode cL_law 309 = .ok (.iconst 2, 1) := by decide +kernel
theorem dL_law_310 : decode cL_law 310 = .ok (.iadd, 1) := by decide +kernel
theorem dL_law_311 : decode cL_law 311 = .ok (.iaload, 1) := by decide +kernel
theorem dL_law_312 : decode cL_law 312 = .ok (.invokevirtual 53, 3) := by decide +kernel
theorem dL_law_315 : decode cL_law 315 = .ok (.aload_n 2, 1) := by decide +kernel
theorem dL_law_316 : decode cL_law 316 = .ok (.aload_n 0, 1) := by decide +kernel
theorem dL_law_317 : decode cL_law 317 = .ok (.iload_n 3, 1) := by decide +kernel
theorem dL_law_318 : decode cL_law 318 = .ok (.iconst 1, 1) := by decide +kernel
theorem dL_law_319 : decode cL_law 319 = .ok (.iadd, 1) := by decide +kernel
theorem dL_law_320 : decode cL_law 320 = .ok (.iaload, 1) := by decide +kernel
theorem dL_law_321 : decode cL_law 321 = .ok (.aload_n 0, 1) := by decide +kernel
theorem dL_law_322 : decode cL_law 322 = .ok (.iload_n 3, 1) := by decide +kernel
theorem dL_law_323 : decode cL_law 323 = .ok (.iconst 2, 1) := by decide +kernel
theorem dL_law_324 : decode cL_law 324 = .ok (.iadd, 1) := by decide +kernel
theorem dL_law_325 : decode cL_law 325 = .ok (.iaload, 1) := by decide +kernel
theorem dL_law_326 : decode cL_law 326 = .ok (.invokevirtual 56, 3) := by decide +kernel
theorem dL_law_329 : decode cL_law 329 = .ok (.if_icmp .eq 64, 3) := by decide +kernel
theorem dL_law_332 : decode cL_law 332 = .ok (.iconst 0, 1) := by decide +kernel
theorem dL_law_333 : decode cL_law 333 = .ok (.ireturn, 1) := by decide +kernel
theorem dL_law_334 : decode cL_law 334 = .ok (.aload_n 1, 1) := by decide +kernel
theorem dL_law_335 : decode cL_law 335 = .ok (.aload_n 0, 1) := by decide +kernel
theorem dL_law_336 : decode cL_law 336 = .ok (.iload_n 3, 1) := by decide +kernel
theorem dL_law_337 : decode cL_law 337 = .ok (.iconst 1, 1) := by decide +kernel
theorem dL_law_338 : decode cL_law 338 = .ok (.iadd, 1) := by decide +kernel
theorem dL_law_339 : decode cL_law 339 = .ok (.iaload, 1) := by decide +kernel
theorem dL_law_340 : decode cL_law 340 = .ok (.invokevirtual 57, 3) := by decide +kernel
theorem dL_law_343 : decode cL_law 343 = .ok (.aload_n 2, 1) := by decide +kernel
theorem dL_law_344 : decode cL_law 344 = .ok (.aload_n 0, 1) := by decide +kernel
theorem dL_law_345 : decode cL_law 345 = .ok (.iload_n 3, 1) := by decide +kernel
theorem dL_law_346 : decode cL_law 346 = .ok (.iconst 1, 1) := by decide +kernel
theorem dL_law_347 : decode cL_law 347 = .ok (.iadd, 1) := by decide +kernel
theorem dL_law_348 : decode cL_law 348 = .ok (.iaload, 1) := by decide +kernel
theorem dL_law_349 : decode cL_law 349 = .ok (.invokevirtual 60, 3) := by decide +kernel
theorem dL_law_352 : decode cL_law 352 = .ok (.if_icmp .eq 41, 3) := by decide +kernel
theorem dL_law_355 : decode cL_law 355 = .ok (.iconst 0, 1) := by decide +kernel
theorem dL_law_356 : decode cL_law 356 = .ok (.ireturn, 1) := by decide +kernel
theorem dL_law_357 : decode cL_law 357 = .ok (.aload_n 1, 1) := by decide +kernel
theorem dL_law_358 : decode cL_law 358 = .ok (.invokevirtual 61, 3) := by decide +kernel
theorem dL_law_361 : decode cL_law 361 = .ok (.aload_n 2, 1) := by decide +kernel
theorem dL_law_362 : decode cL_law 362 = .ok (.invokevirtual 64, 3) := by decide +kernel
theorem dL_law_365 : decode cL_law 365 = .ok (.if_icmp .eq 28, 3) := by decide +kernel
theorem dL_law_368 : decode cL_law 368 = .ok (.iconst 0, 1) := by decide +kernel
theorem dL_law_369 : decode cL_law 369 = .ok (.ireturn, 1) := by decide +kernel
theorem dL_law_370 : decode cL_law 370 = .ok (.aload_n 1, 1) := by decide +kernel
theorem dL_law_371 : decode cL_law 371 = .ok (.aload_n 0, 1) := by decide +kernel
theorem dL_law_372 : decode cL_law 372 = .ok (.iload_n 3, 1) := by decide +kernel
theorem dL_law_373 : decode cL_law 373 = .ok (.iconst 1, 1) := by decide +kernel
theorem dL_law_374 : decode cL_law 374 = .ok (.iadd, 1) := by decide +kernel
theorem dL_law_375 : decode cL_law 375 = .ok (.iaload, 1) := by decide +kernel
theorem dL_law_376 : decode cL_law 376 = .ok (.invokevirtual 65, 3) := by decide +kernel
theorem dL_law_379 : decode cL_law 379 = .ok (.aload_n 2, 1) := by decide +kernel
theorem dL_law_380 : decode cL_law 380 = .ok (.aload_n 0, 1) := by decide +kernel
theorem dL_law_381 : decode cL_law 381 = .ok (.iload_n 3, 1) := by decide +kernel
theorem dL_law_382 : decode cL_law 382 = .ok (.iconst 1, 1) := by decide +kernel
theorem dL_law_383 : decode cL_law 383 = .ok (.iadd, 1) := by decide +kernel
theorem dL_law_384 : decode cL_law 384 = .ok (.iaload, 1) := by decide +kernel
theorem dL_law_385 : decode cL_law 385 = .ok (.invokevirtual 68, 3) := by decide +kernel
theorem dL_law_388 : decode cL_law 388 = .ok (.if_icmp .eq 5, 3) := by decide +kernel
theorem dL_law_391 : decode cL_law 391 = .ok (.iconst 0, 1) := by decide +kernel
theorem dL_law_392 : decode cL_law 392 = .ok (.ireturn, 1) := by decide +kernel
theorem dL_law_393 : decode cL_law 393 = .ok (.iinc 3 4, 3) := by decide +kernel
theorem dL_law_396 : decode cL_law 396 = .ok (.goto (-368), 3) := by decide +kernel
theorem dL_law_399 : decode cL_law 399 = .ok (.iconst 1, 1) := by decide +kernel
theorem dL_law_400 : decode cL_law 400 = .ok (.ireturn, 1) := by decide +kernel
end
section
/-! plain facts on numbers and arrays, to paste: each family by itself; over the kit's rows on nI and upd -/
/-! ===== order of ints, in all its forms, and through longs ===== -/
theorem fa_lt (a b : Int32) : a < b ↔ a.toInt < b.toInt := Int32.lt_iff_toInt_lt
theorem fa_le (a b : Int32) : a ≤ b ↔ a.toInt ≤ b.toInt := Int32.le_iff_toInt_le
theorem fa_eq (a b : Int32) : a = b ↔ a.toInt = b.toInt := Int32.toInt_inj.symm
theorem fa_lt64 (a b : Int64) : a < b ↔ a.toInt < b.toInt := Int64.lt_iff_toInt_lt
theorem fa_le64 (a b : Int64) : a ≤ b ↔ a.toInt ≤ b.toInt := Int64.le_iff_toInt_le
theorem fa_eq64 (a b : Int64) : a = b ↔ a.toInt = b.toInt := Int64.toInt_inj.symm
/-- a comparison of two ints taken as longs -/
theorem fa_wide_lt (a b : Int32) : a.toInt64 < b.toInt64 ↔ a < b := by rw [fa_lt64, fa_lt, Int32.toInt_toInt64, Int32.toInt_toInt64]
theorem fa_wide_le (a b : Int32) : a.toInt64 ≤ b.toInt64 ↔ a ≤ b := by rw [fa_le64, fa_le, Int32.toInt_toInt64, Int32.toInt_toInt64]
theorem fa_wide_eq (a b : Int32) : a.toInt64 = b.toInt64 ↔ a = b := by rw [fa_eq64, fa_eq, Int32.toInt_toInt64, Int32.toInt_toInt64]
/-- one strict comparison gives all the others -/
theorem fa_of_lt {a b : Int32} (h : a < b) : a ≤ b ∧ ¬ b ≤ a ∧ ¬ b < a ∧ a ≠ b ∧ b ≠ a := by
  rw [fa_lt] at h
  refine ⟨?_, ?_, ?_, ?_, ?_⟩
  · rw [fa_le]; omega
  · rw [fa_le]; omega
  · rw [fa_lt]; omega
  · intro e; rw [fa_eq] at e; omega
  · intro e; rw [fa_eq] at e; omega
theorem fa_of_nlt {a b : Int32} (h : ¬ a < b) : b ≤ a := by
  rw [fa_lt] at h
  rw [fa_le]
  omega
theorem fa_of_nle {a b : Int32} (h : ¬ a ≤ b) : b < a := by
  rw [fa_le] at h
  rw [fa_lt]
  omega
theorem fa_le_ne {a b : Int32} (h : a ≤ b) (h2 : a ≠ b) : a < b := by
  rw [fa_le] at h
  rw [fa_lt]
  have h3 : a.toInt ≠ b.toInt := fun e => h2 ((fa_eq a b).mpr e)
  omega
theorem fa_three (a b : Int32) : a < b ∨ a = b ∨ b < a := by
  rw [fa_lt, fa_lt, fa_eq]
  omega
theorem fa_trans {a b c : Int32} (h : a < b) (h2 : b ≤ c) : a < c := by
  rw [fa_lt] at *
  rw [fa_le] at h2
  omega
/-! ===== small literals as numbers ===== -/
theorem fa_lit (n : Nat) : (OfNat.ofNat n : Int32) = nI n := rfl
theorem fa_litL (n : Nat) : (OfNat.ofNat n : Int64) = lN n := rfl
/-! ===== bits of a number: 'or', masks, one bit ===== -/
theorem fa_and (a b : Nat) : nI a &&& nI b = nI (a &&& b) := by
  apply Int32.toBitVec_inj.1
  show BitVec.ofNat 32 a &&& BitVec.ofNat 32 b = BitVec.ofNat 32 (a &&& b)
  apply BitVec.eq_of_getLsbD_eq
  intro i hi
  simp [hi]
theorem fa_or (a b : Nat) : nI a ||| nI b = nI (a ||| b) := by
  apply Int32.toBitVec_inj.1
  show BitVec.ofNat 32 a ||| BitVec.ofNat 32 b = BitVec.ofNat 32 (a ||| b)
  apply BitVec.eq_of_getLsbD_eq
  intro i hi
  simp [hi]
/-- a remainder by a power of two, as a mask -/
theorem fa_mask (n k : Nat) : nI n &&& nI (2 ^ k - 1) = nI (n % 2 ^ k) := by rw [fa_and, Nat.and_two_pow_sub_one_eq_mod]
/-- 'or' of a high part and a low one that don't meet is their sum -/
theorem fa_or_sum {a k : Nat} (b : Nat) (h : a < 2 ^ k) : nI (2 ^ k * b) ||| nI a = nI (2 ^ k * b + a) := by rw [fa_or, Nat.two_pow_add_eq_or_of_lt h]
/-- one bit, by 'and' with a power of two -/
theorem fa_bit {n j : Nat} (hj : j < 31) : nI n &&& nI (2 ^ j) = 0 ↔ n.testBit j = false := by
  have h2 : (2 : Nat) ^ j < 2 ^ 31 := Nat.pow_lt_pow_right (by decide) hj
  have hle : n &&& 2 ^ j ≤ 2 ^ j := Nat.and_le_right
  have e : n &&& 2 ^ j = 0 ↔ n.testBit j = false := by
    constructor
    · intro h
      have h1 : (n &&& 2 ^ j).testBit j = false := by rw [h]; simp
      rw [Nat.testBit_and] at h1
      first | simpa using h1 | simpa [Nat.testBit_two_pow_self] using h1 | simpa [Nat.testBit_two_pow] using h1
    · intro h
      apply Nat.eq_of_testBit_eq
      intro i
      rw [Nat.testBit_and]
      by_cases hi : j = i
      · subst hi; simp [h]
      · first | (simp [Nat.testBit_two_pow, hi]; done) | (simp [Nat.testBit_two_pow_of_ne hi]; done)
  rw [fa_and]
  constructor
  · intro h
    apply e.mp
    rcases Nat.eq_zero_or_pos (n &&& 2 ^ j) with z | z
    · exact z
    · exact absurd h (nI_ne0 z (Nat.lt_of_le_of_lt hle h2))
  · intro h
    rw [e.mpr h]; exact nI_0
/-- a remainder by a power of two of a number that isn't negative, as Java divides -/
theorem fa_rem {a k : Nat} (ha : a < 2 ^ 31) (hk : k < 31) : nI a - nI a / nI (2 ^ k) * nI (2 ^ k) = nI (a % 2 ^ k) := pk_rem ha (Nat.two_pow_pos k) (Nat.pow_lt_pow_right (by decide) hk)
/-! ===== cuts to a byte, a short ===== -/
theorem fa_byte_xor (x y : Int32) : (x ^^^ y).toInt8 = x.toInt8 ^^^ y.toInt8 := by
  apply Int8.toBitVec_inj.1
  apply BitVec.eq_of_getLsbD_eq
  intro i hi
  first | (simp [hi]; done) | (simp [hi, BitVec.getLsbD_setWidth, BitVec.getLsbD_signExtend]; done)
theorem fa_short_xor (x y : Int32) : (x ^^^ y).toInt16 = x.toInt16 ^^^ y.toInt16 := by
  apply Int16.toBitVec_inj.1
  apply BitVec.eq_of_getLsbD_eq
  intro i hi
  first | (simp [hi]; done) | (simp [hi, BitVec.getLsbD_setWidth, BitVec.getLsbD_signExtend]; done)
/-- the cut to a byte sees the low byte alone -/
theorem fa_byte_low (x : Int32) : (x &&& 255).toInt8 = x.toInt8 := by
  apply Int8.toBitVec_inj.1
  apply BitVec.eq_of_getLsbD_eq
  intro i hi
  have h2 : (255 : Int32).toBitVec.getLsbD i = true := by
    have : ∀ j : Fin 8, (255 : Int32).toBitVec.getLsbD j.val = true := by decide +kernel
    exact this ⟨i, hi⟩
  have h4 : (x &&& 255).toBitVec.getLsbD i = x.toBitVec.getLsbD i := by
    show (x.toBitVec &&& (255 : Int32).toBitVec).getLsbD i = _
    rw [BitVec.getLsbD_and, h2, Bool.and_true]
  have h3 : i < 32 := by omega
  first
    | (show (((x &&& 255).toBitVec).signExtend 8).getLsbD i = (x.toBitVec.signExtend 8).getLsbD i; rw [BitVec.getLsbD_signExtend, BitVec.getLsbD_signExtend, if_pos h3, if_pos h3, h4])
    | (show (((x &&& 255).toBitVec).setWidth 8).getLsbD i = (x.toBitVec.setWidth 8).getLsbD i; rw [BitVec.getLsbD_setWidth, BitVec.getLsbD_setWidth, h4])
    | (simp [hi, h3, h4]; done)
theorem fa_short_low (x : Int32) : (x &&& 65535).toInt16 = x.toInt16 := by
  apply Int16.toBitVec_inj.1
  apply BitVec.eq_of_getLsbD_eq
  intro i hi
  have h2 : (65535 : Int32).toBitVec.getLsbD i = true := by
    have : ∀ j : Fin 16, (65535 : Int32).toBitVec.getLsbD j.val = true := by decide +kernel
    exact this ⟨i, hi⟩
  have h4 : (x &&& 65535).toBitVec.getLsbD i = x.toBitVec.getLsbD i := by
    show (x.toBitVec &&& (65535 : Int32).toBitVec).getLsbD i = _
    rw [BitVec.getLsbD_and, h2, Bool.and_true]
  have h3 : i < 32 := by omega
  first
    | (show (((x &&& 65535).toBitVec).signExtend 16).getLsbD i = (x.toBitVec.signExtend 16).getLsbD i; rw [BitVec.getLsbD_signExtend, BitVec.getLsbD_signExtend, if_pos h3, if_pos h3, h4])
    | (show (((x &&& 65535).toBitVec).setWidth 16).getLsbD i = (x.toBitVec.setWidth 16).getLsbD i; rw [BitVec.getLsbD_setWidth, BitVec.getLsbD_setWidth, h4])
    | (simp [hi, h3, h4]; done)
/-- a small number is its own byte, its own short -/
theorem fa_byte_small {n : Nat} (h : n < 128) : (nI n).toInt8.toInt32 = nI n := by
  have : ∀ j : Fin 128, (nI j.val).toInt8.toInt32 = nI j.val := by decide +kernel
  exact this ⟨n, h⟩
/-! ===== absolute difference ===== -/
theorem fa_absdiff {a b : Nat} (ha : a < 2 ^ 31) (hb : b < 2 ^ 31) : (if nI a < nI b then nI b - nI a else nI a - nI b) = nI (if a < b then b - a else a - b) := by
  by_cases h : a < b
  · rw [if_pos (nI_lt h hb), if_pos h]
    exact pk_sub (Nat.le_of_lt h)
  · rw [if_neg (nI_nlt (Nat.le_of_not_lt h) ha), if_neg h]
    exact pk_sub (Nat.le_of_not_lt h)
/-! ===== an array behind i stores, a conditional store, a row copied ===== -/
/-- f where k < i, what stood there else -/
def fa_fill {α : Type} (f g : Nat → α) (i : Nat) : Nat → α := fun k => if k < i then f k else g k
theorem fa_fill_0 {α : Type} (f g : Nat → α) : fa_fill f g 0 = g := funext fun k => if_neg (Nat.not_lt_zero k)
theorem fa_fill_in {α : Type} {f g : Nat → α} {i k : Nat} (h : k < i) : fa_fill f g i k = f k := if_pos h
theorem fa_fill_out {α : Type} {f g : Nat → α} {i k : Nat} (h : i ≤ k) : fa_fill f g i k = g k := if_neg (Nat.not_lt.mpr h)
theorem fa_fill_succ (f g : Nat → Int32) (i : Nat) : upd (fa_fill f g i) i (f i) = fa_fill f g (i + 1) := by
  funext k
  by_cases e : k = i
  · subst e
    rw [pk_us]
    exact (if_pos (Nat.lt_succ_self k)).symm
  · rw [pk_un e]
    by_cases h : k < i
    · rw [fa_fill_in h, fa_fill_in (Nat.lt_succ_of_lt h)]
    · rw [fa_fill_out (Nat.le_of_not_lt h), fa_fill_out (by omega)]
/-- a store that changes nothing -/
theorem fa_upd_same {f : Nat → Int32} {i : Nat} {x : Int32} (h : f i = x) : upd f i x = f := by
  funext k
  by_cases e : k = i
  · subst e
    rw [pk_us, h]
  · rw [pk_un e]
/-- a store under a condition, told as one -/
theorem fa_upd_if (c : Prop) [Decidable c] (f : Nat → Int32) (i : Nat) (x : Int32) : (if c then upd f i x else f) = upd f i (if c then x else f i) := by
  by_cases h : c
  · rw [if_pos h, if_pos h]
  · rw [if_neg h, if_neg h, fa_upd_same rfl]
/-- two stores at one place, at two -/
theorem fa_upd_twice (f : Nat → Int32) (i : Nat) (x y : Int32) : upd (upd f i x) i y = upd f i y := by
  funext k
  by_cases e : k = i
  · subst e
    rw [pk_us, pk_us]
  · rw [pk_un e, pk_un e, pk_un e]
theorem fa_upd_swap (f : Nat → Int32) {i j : Nat} (h : i ≠ j) (x y : Int32) : upd (upd f i x) j y = upd (upd f j y) i x := by
  funext k
  by_cases e : k = i
  · subst e
    rw [pk_un h, pk_us, pk_us]
  · by_cases e2 : k = j
    · subst e2
      rw [pk_us, pk_un e, pk_us]
    · rw [pk_un e2, pk_un e, pk_un e, pk_un e2]
/-! ===== the first index with a property; a count ===== -/
/-- the first k < n with p k, n if there is none -/
def fa_first (p : Nat → Bool) : Nat → Nat
  | 0 => 0
  | n + 1 => if fa_first p n < n then fa_first p n else if p n then n else n + 1
theorem fa_first_le (p : Nat → Bool) : ∀ n, fa_first p n ≤ n
  | 0 => Nat.le_refl 0
  | n + 1 => by
    have ih := fa_first_le p n
    unfold fa_first
    split
    · omega
    · split
      · omega
      · omega
theorem fa_first_no (p : Nat → Bool) : ∀ n k, k < fa_first p n → p k = false
  | 0, k, h => absurd h (Nat.not_lt_zero k)
  | n + 1, k, h => by
    have ih := fa_first_no p n
    have hl := fa_first_le p n
    unfold fa_first at h
    split at h
    · exact ih k h
    · rename_i h1
      split at h
      · exact ih k (by omega)
      · rename_i h2
        by_cases e : k = n
        · subst e
          exact Bool.eq_false_iff.mpr h2
        · exact ih k (by omega)
theorem fa_first_yes (p : Nat → Bool) : ∀ n, fa_first p n < n → p (fa_first p n) = true
  | 0, h => absurd h (Nat.not_lt_zero _)
  | n + 1, h => by
    have ih := fa_first_yes p n
    have hl := fa_first_le p n
    unfold fa_first at h ⊢
    split at h
    · rename_i h1
      rw [if_pos h1]
      exact ih h1
    · rename_i h1
      rw [if_neg h1]
      split at h
      · rename_i h2
        rw [if_pos h2]
        exact h2
      · omega
/-- how many k < n have p k -/
def fa_cnt (p : Nat → Bool) : Nat → Nat
  | 0 => 0
  | n + 1 => fa_cnt p n + if p n then 1 else 0
theorem fa_cnt_le (p : Nat → Bool) : ∀ n, fa_cnt p n ≤ n
  | 0 => Nat.le_refl 0
  | n + 1 => by
    have ih := fa_cnt_le p n
    unfold fa_cnt
    split
    · omega
    · omega
theorem fa_cnt_yes {p : Nat → Bool} {n : Nat} (h : p n = true) : fa_cnt p (n + 1) = fa_cnt p n + 1 := by rw [fa_cnt, if_pos h]
theorem fa_cnt_no {p : Nat → Bool} {n : Nat} (h : p n = false) : fa_cnt p (n + 1) = fa_cnt p n := by rw [fa_cnt, if_neg (by rw [h]; decide)]; rfl
theorem fa_cnt_cong {p q : Nat → Bool} : ∀ {n : Nat}, (∀ k, k < n → p k = q k) → fa_cnt p n = fa_cnt q n
  | 0, _ => rfl
  | n + 1, h => by rw [fa_cnt, fa_cnt, fa_cnt_cong (fun k hk => h k (Nat.lt_succ_of_lt hk)), h n (Nat.lt_succ_self n)]
/-! ===== an answer carried into a post; a branch on a boolean answer ===== -/
theorem fa_post {α : Type} {P : α → Prop} {x y : α} (h : x = y) (hp : P y) : P x := h ▸ hp
theorem fa_post2 {α β : Type} {P : α → β → Prop} {x y : α} {u v : β} (h : x = y) (h2 : u = v) (hp : P y v) : P x u := h ▸ h2 ▸ hp
theorem fa_bool {r : Int32} {b : Bool} (h : r = if b then 1 else 0) : (r = 0 ↔ b = false) ∧ (¬ r = 0 ↔ b = true) := by
  subst h
  cases b
  · exact ⟨⟨fun _ => rfl, fun _ => rfl⟩, ⟨fun h => absurd rfl h, fun h => absurd h (by decide)⟩⟩
  · exact ⟨⟨fun h => absurd h (by decide), fun h => absurd h (by decide)⟩, ⟨fun _ => rfl, fun _ => by decide⟩⟩
/-- a boolean's narrowing changes nothing -/
theorem fa_bool_and {r : Int32} (h : r = 0 ∨ r = 1) : r &&& 1 = r := by
  rcases h with rfl | rfl
  · decide
  · decide
theorem fa_bool_prop {c : Prop} [Decidable c] {r : Int32} (h : r = if c then 1 else 0) : (r = 0 ↔ ¬ c) ∧ (¬ r = 0 ↔ c) := by
  subst h
  by_cases hc : c
  · rw [if_pos hc]
    exact ⟨⟨fun h => absurd h (by decide), fun h => absurd hc h⟩, ⟨fun _ => hc, fun _ => by decide⟩⟩
  · rw [if_neg hc]
    exact ⟨⟨fun _ => hc, fun _ => rfl⟩, ⟨fun h => absurd rfl h, fun h => absurd h hc⟩⟩
end
section
/-! plain facts to paste, each family by itself; over the kit's nI, lN and upd -/
/-! ===== drawers: more things than places ===== -/
theorem fb_holes : ∀ (m n : Nat) (f : Nat → Nat), (∀ i, i < n → f i < m) → (∀ i j, i < j → j < n → f i ≠ f j) → n ≤ m := by
  intro m
  induction m with
  | zero =>
    intro n f h1 _
    rcases Nat.eq_zero_or_pos n with h | h
    · omega
    · exact absurd (h1 0 h) (Nat.not_lt_zero _)
  | succ m ih =>
    intro n f h1 h2
    by_cases hx : ∃ i, i < n ∧ f i = m
    · obtain ⟨a, ha, hfa⟩ := hx
      have hg := ih (n - 1) (fun i => if i < a then f i else f (i + 1)) (by
        intro i hi
        by_cases q : i < a
        · simp only [if_pos q]
          have b1 := h1 i (by omega)
          have b2 := h2 i a q ha
          omega
        · simp only [if_neg q]
          have b1 := h1 (i + 1) (by omega)
          have b2 := h2 a (i + 1) (by omega) (by omega)
          omega) (by
        intro i j hij hj
        by_cases q : i < a
        · by_cases r : j < a
          · simp only [if_pos q, if_pos r]
            exact h2 i j hij (by omega)
          · simp only [if_pos q, if_neg r]
            exact h2 i (j + 1) (by omega) (by omega)
        · have r : ¬ j < a := by omega
          simp only [if_neg q, if_neg r]
          exact h2 (i + 1) (j + 1) (by omega) (by omega))
      omega
    · have hg := ih n f (fun i hi => by
        have b1 := h1 i hi
        have b2 : f i ≠ m := fun e => hx ⟨i, hi, e⟩
        omega) h2
      omega
/-- two of them in one place -/
theorem fb_twice {m n : Nat} {f : Nat → Nat} (h : ∀ i, i < n → f i < m) (hm : m < n) : ∃ i j, i < j ∧ j < n ∧ f i = f j := by
  refine Classical.byContradiction fun hx => ?_
  have := fb_holes m n f h (fun i j hij hj e => hx ⟨i, j, hij, hj, e⟩)
  omega
/-- as many as places, none twice: each place is taken -/
theorem fb_onto {n : Nat} {f : Nat → Nat} (h : ∀ i, i < n → f i < n) (h2 : ∀ i j, i < j → j < n → f i ≠ f j) {y : Nat} (hy : y < n) : ∃ i, i < n ∧ f i = y := by
  refine Classical.byContradiction fun hx => ?_
  have hne : ∀ i, i < n → f i ≠ y := fun i hi e => hx ⟨i, hi, e⟩
  have := fb_holes (n - 1) n (fun i => if f i < y then f i else f i - 1) (by
    intro i hi
    have b1 := h i hi
    have b2 := hne i hi
    by_cases q : f i < y
    · simp only [if_pos q]; omega
    · simp only [if_neg q]; omega) (by
    intro i j hij hj
    have b1 := hne i (by omega)
    have b2 := hne j hj
    have b3 := h2 i j hij hj
    by_cases q : f i < y
    · by_cases r : f j < y
      · simp only [if_pos q, if_pos r]; exact b3
      · simp only [if_pos q, if_neg r]; omega
    · by_cases r : f j < y
      · simp only [if_neg q, if_pos r]; omega
      · simp only [if_neg q, if_neg r]; omega)
  omega
/-! ===== how many places have a property ===== -/
def fb_ct (p : Nat → Bool) : Nat → Nat
  | 0 => 0
  | n + 1 => fb_ct p n + (if p n then 1 else 0)
theorem fb_ct_succ (p : Nat → Bool) (n : Nat) : fb_ct p (n + 1) = fb_ct p n + (if p n then 1 else 0) := rfl
theorem fb_ct_le (p : Nat → Bool) : ∀ n, fb_ct p n ≤ n
  | 0 => Nat.le_refl _
  | n + 1 => by
    have h := fb_ct_le p n
    rw [fb_ct_succ]
    split <;> omega
theorem fb_ct_step (p : Nat → Bool) (m : Nat) : ∀ n, fb_ct p m ≤ fb_ct p (m + n)
  | 0 => Nat.le_refl _
  | n + 1 => by
    have h := fb_ct_step p m n
    show fb_ct p m ≤ fb_ct p (m + n + 1)
    rw [fb_ct_succ]
    omega
theorem fb_ct_mono (p : Nat → Bool) {m n : Nat} (h : m ≤ n) : fb_ct p m ≤ fb_ct p n := by
  have := fb_ct_step p m (n - m)
  rwa [Nat.add_sub_cancel' h] at this
theorem fb_ct_cong {p q : Nat → Bool} : ∀ {n : Nat}, (∀ k, k < n → p k = q k) → fb_ct p n = fb_ct q n
  | 0, _ => rfl
  | n + 1, h => by
    rw [fb_ct_succ, fb_ct_succ, fb_ct_cong (fun k hk => h k (by omega)), h n (by omega)]
/-- one place changed -/
theorem fb_ct_out (p : Nat → Bool) (b : Bool) {i n : Nat} (h : n ≤ i) : fb_ct (fun k => if k = i then b else p k) n = fb_ct p n :=
  fb_ct_cong fun k hk => if_neg (by omega)
theorem fb_ct_upd (p : Nat → Bool) (b : Bool) {i : Nat} : ∀ {n : Nat}, i < n → fb_ct (fun k => if k = i then b else p k) n + (if p i then 1 else 0) = fb_ct p n + (if b then 1 else 0)
  | 0, h => absurd h (Nat.not_lt_zero i)
  | n + 1, h => by
    rw [fb_ct_succ, fb_ct_succ]
    rcases Nat.lt_or_ge i n with q | q
    · have := fb_ct_upd p b q
      have e : (if n = i then b else p n) = p n := if_neg (by omega)
      rw [e]
      omega
    · have e : i = n := by omega
      subst e
      rw [fb_ct_out p b (Nat.le_refl _)]
      simp only [if_true]
      omega
theorem fb_ct_sub {p q : Nat → Bool} : ∀ {n : Nat}, (∀ k, k < n → p k = true → q k = true) → fb_ct p n ≤ fb_ct q n
  | 0, _ => Nat.le_refl _
  | n + 1, h => by
    have h1 := fb_ct_sub (n := n) (p := p) (q := q) (fun k hk => h k (by omega))
    have h2 := h n (by omega)
    rw [fb_ct_succ, fb_ct_succ]
    cases hp : p n <;> cases hq : q n <;> simp_all <;> omega
theorem fb_ct_or {p q : Nat → Bool} : ∀ {n : Nat}, (∀ k, k < n → ¬ (p k = true ∧ q k = true)) → fb_ct (fun k => p k || q k) n = fb_ct p n + fb_ct q n
  | 0, _ => rfl
  | n + 1, h => by
    have h1 := fb_ct_or (n := n) (p := p) (q := q) (fun k hk => h k (by omega))
    have h2 := h n (by omega)
    rw [fb_ct_succ, fb_ct_succ, fb_ct_succ, h1]
    cases hp : p n <;> cases hq : q n <;> simp_all <;> omega
theorem fb_ct_not (p : Nat → Bool) : ∀ n, fb_ct p n + fb_ct (fun k => !p k) n = n
  | 0 => rfl
  | n + 1 => by
    have h := fb_ct_not p n
    rw [fb_ct_succ, fb_ct_succ]
    cases p n <;> simp <;> omega
theorem fb_ct_split (p : Nat → Bool) (m : Nat) : ∀ n, fb_ct p (m + n) = fb_ct p m + fb_ct (fun k => p (m + k)) n
  | 0 => rfl
  | n + 1 => by
    have h := fb_ct_split p m n
    show fb_ct p (m + n + 1) = _
    rw [fb_ct_succ, fb_ct_succ, h, Nat.add_assoc]
theorem fb_ct_zero {p : Nat → Bool} : ∀ {n : Nat}, fb_ct p n = 0 ↔ ∀ k, k < n → p k = false
  | 0 => ⟨fun _ k hk => absurd hk (Nat.not_lt_zero k), fun _ => rfl⟩
  | n + 1 => by
    have h := fb_ct_zero (p := p) (n := n)
    rw [fb_ct_succ]
    constructor
    · intro e k hk
      have e1 : fb_ct p n = 0 := by omega
      rcases Nat.lt_or_ge k n with q | q
      · exact h.mp e1 k q
      · have ek : k = n := by omega
        subst ek
        cases hp : p k
        · rfl
        · simp [hp] at e
    · intro a
      rw [h.mpr (fun k hk => a k (by omega)), a n (by omega)]
      rfl
theorem fb_ct_pos {p : Nat → Bool} {n : Nat} : 0 < fb_ct p n ↔ ∃ k, k < n ∧ p k = true := by
  constructor
  · intro h
    refine Classical.byContradiction fun hx => ?_
    have := fb_ct_zero.mpr (fun k hk => by
      cases hp : p k
      · rfl
      · exact absurd ⟨k, hk, hp⟩ hx : ∀ k, k < n → p k = false)
    omega
  · rintro ⟨k, hk, hp⟩
    rcases Nat.eq_zero_or_pos (fb_ct p n) with e | e
    · have := fb_ct_zero.mp e k hk
      rw [this] at hp
      cases hp
    · exact e
theorem fb_ct_all {p : Nat → Bool} {n : Nat} : fb_ct p n = n ↔ ∀ k, k < n → p k = true := by
  have h := fb_ct_not p n
  constructor
  · intro e k hk
    have z : fb_ct (fun k => !p k) n = 0 := by omega
    have := fb_ct_zero.mp z k hk
    cases hp : p k
    · simp [hp] at this
    · rfl
  · intro a
    have z : fb_ct (fun k => !p k) n = 0 := fb_ct_zero.mpr (fun k hk => by simp [a k hk])
    omega
/-- the k-th place with the property -/
theorem fb_ct_kth {p : Nat → Bool} {k : Nat} : ∀ {n : Nat}, k < fb_ct p n → ∃ i, i < n ∧ p i = true ∧ fb_ct p i = k
  | 0, h => absurd h (Nat.not_lt_zero k)
  | n + 1, h => by
    rcases Nat.lt_or_ge k (fb_ct p n) with q | q
    · obtain ⟨i, h1, h2⟩ := fb_ct_kth q
      exact ⟨i, by omega, h2⟩
    · rw [fb_ct_succ] at h
      cases hp : p n
      · simp [hp] at h; omega
      · simp [hp] at h
        exact ⟨n, by omega, hp, by omega⟩
theorem fb_ct_kth_one {p : Nat → Bool} {i j : Nat} (hi : p i = true) (hj : p j = true) (e : fb_ct p i = fb_ct p j) : i = j := by
  have key : ∀ a b : Nat, a < b → p a = true → fb_ct p a < fb_ct p b := by
    intro a b hab ha
    have h := fb_ct_mono p (show a + 1 ≤ b from hab)
    rw [fb_ct_succ, ha] at h
    simp at h
    omega
  rcases Nat.lt_trichotomy i j with q | q | q
  · have := key i j q hi; omega
  · exact q
  · have := key j i q hj; omega
/-! ===== sums over a range: one place changed, parts, bounds ===== -/
def fb_sm (f : Nat → Nat) : Nat → Nat
  | 0 => 0
  | n + 1 => fb_sm f n + f n
theorem fb_sm_succ (f : Nat → Nat) (n : Nat) : fb_sm f (n + 1) = fb_sm f n + f n := rfl
theorem fb_sm_cong {f g : Nat → Nat} : ∀ {n : Nat}, (∀ k, k < n → f k = g k) → fb_sm f n = fb_sm g n
  | 0, _ => rfl
  | n + 1, h => by rw [fb_sm_succ, fb_sm_succ, fb_sm_cong (fun k hk => h k (by omega)), h n (by omega)]
theorem fb_sm_out (f : Nat → Nat) (v : Nat) {i n : Nat} (h : n ≤ i) : fb_sm (fun k => if k = i then v else f k) n = fb_sm f n :=
  fb_sm_cong fun k hk => if_neg (by omega)
theorem fb_sm_upd (f : Nat → Nat) (v : Nat) {i : Nat} : ∀ {n : Nat}, i < n → fb_sm (fun k => if k = i then v else f k) n + f i = fb_sm f n + v
  | 0, h => absurd h (Nat.not_lt_zero i)
  | n + 1, h => by
    rw [fb_sm_succ, fb_sm_succ]
    rcases Nat.lt_or_ge i n with q | q
    · have := fb_sm_upd f v q
      have e : (if n = i then v else f n) = f n := if_neg (by omega)
      rw [e]
      omega
    · have e : i = n := by omega
      subst e
      rw [fb_sm_out f v (Nat.le_refl _)]
      simp only [if_true]
      omega
theorem fb_sm_add (f g : Nat → Nat) : ∀ n, fb_sm (fun k => f k + g k) n = fb_sm f n + fb_sm g n
  | 0 => rfl
  | n + 1 => by
    have h := fb_sm_add f g n
    rw [fb_sm_succ, fb_sm_succ, fb_sm_succ, h]
    omega
theorem fb_sm_le {f g : Nat → Nat} : ∀ {n : Nat}, (∀ k, k < n → f k ≤ g k) → fb_sm f n ≤ fb_sm g n
  | 0, _ => Nat.le_refl _
  | n + 1, h => by
    have h1 := fb_sm_le (n := n) (f := f) (g := g) (fun k hk => h k (by omega))
    have h2 := h n (by omega)
    rw [fb_sm_succ, fb_sm_succ]
    omega
theorem fb_sm_const (c : Nat) : ∀ n, fb_sm (fun _ => c) n = n * c
  | 0 => by rw [Nat.zero_mul]; rfl
  | n + 1 => by rw [fb_sm_succ, fb_sm_const c n, Nat.succ_mul]
theorem fb_sm_bound {f : Nat → Nat} {c n : Nat} (h : ∀ k, k < n → f k ≤ c) : fb_sm f n ≤ n * c := by
  rw [← fb_sm_const c n]
  exact fb_sm_le h
theorem fb_sm_mono (f : Nat → Nat) (m : Nat) : ∀ n, fb_sm f m ≤ fb_sm f (m + n)
  | 0 => Nat.le_refl _
  | n + 1 => by
    have h := fb_sm_mono f m n
    show fb_sm f m ≤ fb_sm f (m + n + 1)
    rw [fb_sm_succ]
    omega
theorem fb_sm_part (f : Nat → Nat) {i n : Nat} (h : i < n) : fb_sm f i + f i ≤ fb_sm f n := by
  have := fb_sm_mono f (i + 1) (n - (i + 1))
  rw [fb_sm_succ, show i + 1 + (n - (i + 1)) = n by omega] at this
  exact this
theorem fb_sm_split (f : Nat → Nat) (m : Nat) : ∀ n, fb_sm f (m + n) = fb_sm f m + fb_sm (fun k => f (m + k)) n
  | 0 => rfl
  | n + 1 => by
    have h := fb_sm_split f m n
    show fb_sm f (m + n + 1) = _
    rw [fb_sm_succ, fb_sm_succ, h, Nat.add_assoc]
theorem fb_sm_zero {f : Nat → Nat} {n : Nat} (h : fb_sm f n = 0) : ∀ k, k < n → f k = 0 := fun k hk => by
  have := fb_sm_part f hk
  omega
/-- the same over whole numbers -/
def fb_si (f : Nat → Int) : Nat → Int
  | 0 => 0
  | n + 1 => fb_si f n + f n
theorem fb_si_succ (f : Nat → Int) (n : Nat) : fb_si f (n + 1) = fb_si f n + f n := rfl
theorem fb_si_cong {f g : Nat → Int} : ∀ {n : Nat}, (∀ k, k < n → f k = g k) → fb_si f n = fb_si g n
  | 0, _ => rfl
  | n + 1, h => by rw [fb_si_succ, fb_si_succ, fb_si_cong (fun k hk => h k (by omega)), h n (by omega)]
theorem fb_si_out (f : Nat → Int) (v : Int) {i n : Nat} (h : n ≤ i) : fb_si (fun k => if k = i then v else f k) n = fb_si f n :=
  fb_si_cong fun k hk => if_neg (by omega)
theorem fb_si_upd (f : Nat → Int) (v : Int) {i : Nat} : ∀ {n : Nat}, i < n → fb_si (fun k => if k = i then v else f k) n = fb_si f n - f i + v
  | 0, h => absurd h (Nat.not_lt_zero i)
  | n + 1, h => by
    rw [fb_si_succ, fb_si_succ]
    rcases Nat.lt_or_ge i n with q | q
    · have := fb_si_upd f v q
      have e : (if n = i then v else f n) = f n := if_neg (by omega)
      rw [e]
      omega
    · have e : i = n := by omega
      subst e
      rw [fb_si_out f v (Nat.le_refl _)]
      simp only [if_true]
      omega
theorem fb_si_add (f g : Nat → Int) : ∀ n, fb_si (fun k => f k + g k) n = fb_si f n + fb_si g n
  | 0 => rfl
  | n + 1 => by
    have h := fb_si_add f g n
    rw [fb_si_succ, fb_si_succ, fb_si_succ, h]
    omega
theorem fb_si_sub (f g : Nat → Int) : ∀ n, fb_si (fun k => f k - g k) n = fb_si f n - fb_si g n
  | 0 => rfl
  | n + 1 => by
    have h := fb_si_sub f g n
    rw [fb_si_succ, fb_si_succ, fb_si_succ, h]
    omega
theorem fb_si_mul (c : Int) (f : Nat → Int) : ∀ n, fb_si (fun k => c * f k) n = c * fb_si f n
  | 0 => (Int.mul_zero c).symm
  | n + 1 => by
    have h := fb_si_mul c f n
    rw [fb_si_succ, fb_si_succ, h, Int.mul_add]
theorem fb_si_split (f : Nat → Int) (m : Nat) : ∀ n, fb_si f (m + n) = fb_si f m + fb_si (fun k => f (m + k)) n
  | 0 => (Int.add_zero _).symm
  | n + 1 => by
    have h := fb_si_split f m n
    show fb_si f (m + n + 1) = _
    rw [fb_si_succ, fb_si_succ, h, Int.add_assoc]
theorem fb_si_nat (f : Nat → Nat) : ∀ n, fb_si (fun k => (f k : Int)) n = (fb_sm f n : Int)
  | 0 => rfl
  | n + 1 => by
    have h := fb_si_nat f n
    rw [fb_si_succ, fb_sm_succ, h]
    omega
theorem fb_si_bound {f : Nat → Int} {c : Int} (hc : 0 ≤ c) : ∀ {n : Nat}, (∀ k, k < n → -c ≤ f k ∧ f k ≤ c) → -(n * c) ≤ fb_si f n ∧ fb_si f n ≤ n * c
  | 0, _ => by simp [fb_si]
  | n + 1, h => by
    have h1 := fb_si_bound (n := n) (f := f) hc (fun k hk => h k (by omega))
    have h2 := h n (by omega)
    have e : ((n + 1 : Nat) : Int) * c = n * c + c := by rw [Int.natCast_add, Int.add_mul]; simp
    rw [fb_si_succ, e]
    omega
/-! ===== bits of a long that isn't negative ===== -/
theorem fb_andL (a b : Nat) : lN a &&& lN b = lN (a &&& b) := by
  apply Int64.toBitVec_inj.1
  show BitVec.ofNat 64 a &&& BitVec.ofNat 64 b = BitVec.ofNat 64 (a &&& b)
  apply BitVec.eq_of_getLsbD_eq
  intro i hi
  simp [hi]
theorem fb_orL (a b : Nat) : lN a ||| lN b = lN (a ||| b) := by
  apply Int64.toBitVec_inj.1
  show BitVec.ofNat 64 a ||| BitVec.ofNat 64 b = BitVec.ofNat 64 (a ||| b)
  apply BitVec.eq_of_getLsbD_eq
  intro i hi
  simp [hi]
theorem fb_xorL (a b : Nat) : lN a ^^^ lN b = lN (a ^^^ b) := by
  apply Int64.toBitVec_inj.1
  show BitVec.ofNat 64 a ^^^ BitVec.ofNat 64 b = BitVec.ofNat 64 (a ^^^ b)
  apply BitVec.eq_of_getLsbD_eq
  intro i hi
  simp [hi]
theorem fb_xorI (a b : Nat) : nI a ^^^ nI b = nI (a ^^^ b) := by
  apply Int32.toBitVec_inj.1
  show BitVec.ofNat 32 a ^^^ BitVec.ofNat 32 b = BitVec.ofNat 32 (a ^^^ b)
  apply BitVec.eq_of_getLsbD_eq
  intro i hi
  simp [hi]
theorem fb_maskL (n k : Nat) : lN n &&& lN (2 ^ k - 1) = lN (n % 2 ^ k) := by rw [fb_andL, Nat.and_two_pow_sub_one_eq_mod]
theorem fb_or_sumL {a k : Nat} (b : Nat) (h : a < 2 ^ k) : lN (2 ^ k * b) ||| lN a = lN (2 ^ k * b + a) := by rw [fb_orL, Nat.two_pow_add_eq_or_of_lt h]
theorem fb_lN_inj {a b : Nat} (ha : a < 2 ^ 63) (hb : b < 2 ^ 63) : lN a = lN b ↔ a = b := by
  constructor
  · intro h
    have h1 : (BitVec.ofNat 64 a).toNat = (BitVec.ofNat 64 b).toNat := congrArg (fun x : Int64 => x.toBitVec.toNat) h
    rw [BitVec.toNat_ofNat, BitVec.toNat_ofNat, Nat.mod_eq_of_lt (by omega), Nat.mod_eq_of_lt (by omega)] at h1
    exact h1
  · rintro rfl; rfl
theorem fb_bit_nat (n j : Nat) : n &&& 2 ^ j = 0 ↔ n.testBit j = false := by
  constructor
  · intro h
    have h1 : (n &&& 2 ^ j).testBit j = false := by rw [h]; simp
    rw [Nat.testBit_and] at h1
    simpa using h1
  · intro h
    apply Nat.eq_of_testBit_eq
    intro i
    rw [Nat.testBit_and]
    by_cases hi : j = i
    · subst hi; simp [h]
    · first | (simp [Nat.testBit_two_pow, hi]; done) | (simp [Nat.testBit_two_pow_of_ne hi]; done)
/-- one bit of a long -/
theorem fb_bitL {n j : Nat} (hj : j < 63) : lN n &&& lN (2 ^ j) = 0 ↔ n.testBit j = false := by
  have h2 : (2 : Nat) ^ j < 2 ^ 63 := Nat.pow_lt_pow_right (by decide) hj
  have hle : n &&& 2 ^ j ≤ 2 ^ j := Nat.and_le_right
  rw [fb_andL, ← fb_bit_nat, show (0 : Int64) = lN 0 from rfl]
  exact fb_lN_inj (by omega) (by decide)
/-- a bit set, a bit taken off -/
theorem fb_bit_set (n j i : Nat) : (n ||| 2 ^ j).testBit i = (n.testBit i || decide (i = j)) := by
  rw [Nat.testBit_or]
  by_cases h : j = i
  · subst h; simp
  · have h2 : ¬ i = j := fun e => h e.symm
    first | (simp [Nat.testBit_two_pow, h, h2]; done) | (simp [Nat.testBit_two_pow_of_ne h, h2]; done)
theorem fb_bit_flip (n j i : Nat) : (n ^^^ 2 ^ j).testBit i = (n.testBit i ^^ decide (i = j)) := by
  rw [Nat.testBit_xor]
  by_cases h : j = i
  · subst h; simp
  · have h2 : ¬ i = j := fun e => h e.symm
    first | (simp [Nat.testBit_two_pow, h, h2]; done) | (simp [Nat.testBit_two_pow_of_ne h, h2]; done)
/-! ===== a stretch of an array written over by a function ===== -/
def fb_put {α : Type} (f g : Nat → α) (a n : Nat) : Nat → α := fun k => if a ≤ k ∧ k < a + n then g (k - a) else f k
theorem fb_put_0 {α : Type} (f g : Nat → α) (a : Nat) : fb_put f g a 0 = f := funext fun k => if_neg (by omega)
theorem fb_put_in {α : Type} {f g : Nat → α} {a n k : Nat} (h1 : a ≤ k) (h2 : k < a + n) : fb_put f g a n k = g (k - a) := if_pos ⟨h1, h2⟩
theorem fb_put_out {α : Type} {f g : Nat → α} {a n k : Nat} (h : k < a ∨ a + n ≤ k) : fb_put f g a n k = f k := if_neg (by omega)
theorem fb_put_succ (f g : Nat → Int32) (a n : Nat) : upd (fb_put f g a n) (a + n) (g n) = fb_put f g a (n + 1) := by
  funext k
  by_cases h : k = a + n
  · subst h
    simp [upd, fb_put]
  · by_cases h1 : a ≤ k ∧ k < a + n
    · have h2 : a ≤ k ∧ k < a + (n + 1) := by omega
      simp only [upd, fb_put, if_neg h, if_pos h1, if_pos h2]
    · have h2 : ¬ (a ≤ k ∧ k < a + (n + 1)) := by omega
      simp only [upd, fb_put, if_neg h, if_neg h1, if_neg h2]
/-- .. from the far end down -/
theorem fb_put_down (f g : Nat → Int32) {a n m : Nat} (h : m < n) : upd (fb_put f (fun k => g (k + (m + 1))) (a + (m + 1)) (n - (m + 1))) (a + m) (g m) = fb_put f (fun k => g (k + m)) (a + m) (n - m) := by
  funext k
  by_cases h0 : k = a + m
  · subst h0
    simp only [upd, if_true]
    rw [fb_put_in (by omega) (by omega)]
    exact congrArg g (by omega)
  · simp only [upd, if_neg h0]
    by_cases h1 : a + (m + 1) ≤ k ∧ k < a + (m + 1) + (n - (m + 1))
    · rw [fb_put_in h1.1 h1.2, fb_put_in (by omega) (by omega)]
      exact congrArg g (by omega)
    · rw [fb_put_out (by omega), fb_put_out (by omega)]
theorem fb_put_cong {α : Type} {f f2 g g2 : Nat → α} {a n : Nat} (hf : ∀ k, (k < a ∨ a + n ≤ k) → f k = f2 k) (hg : ∀ k, k < n → g k = g2 k) : fb_put f g a n = fb_put f2 g2 a n := by
  funext k
  by_cases h : a ≤ k ∧ k < a + n
  · rw [fb_put_in h.1 h.2, fb_put_in h.1 h.2, hg _ (by omega)]
  · rw [fb_put_out (by omega), fb_put_out (by omega), hf _ (by omega)]
/-! ===== the least, the first, the best so far; that there is one alone ===== -/
theorem fb_first {p : Nat → Prop} [DecidablePred p] : ∀ {n : Nat}, (∃ i, i < n ∧ p i) → ∃ i, i < n ∧ p i ∧ ∀ j, j < i → ¬ p j
  | 0, h => by obtain ⟨i, hi, -⟩ := h; exact absurd hi (Nat.not_lt_zero i)
  | n + 1, h => by
    by_cases q : ∃ i, i < n ∧ p i
    · obtain ⟨i, h1, h2⟩ := fb_first q
      exact ⟨i, by omega, h2⟩
    · obtain ⟨i, h1, h2⟩ := h
      have e : i = n := by
        rcases Nat.lt_or_ge i n with r | r
        · exact absurd ⟨i, r, h2⟩ q
        · omega
      subst e
      exact ⟨i, by omega, h2, fun j hj hp => q ⟨j, hj, hp⟩⟩
theorem fb_first_one {p : Nat → Prop} {i j : Nat} (hi : p i) (hi2 : ∀ k, k < i → ¬ p k) (hj : p j) (hj2 : ∀ k, k < j → ¬ p k) : i = j := by
  rcases Nat.lt_trichotomy i j with q | q | q
  · exact absurd hi (hj2 i q)
  · exact q
  · exact absurd hj (hi2 j q)
theorem fb_last {p : Nat → Prop} [DecidablePred p] : ∀ {n : Nat}, (∃ i, i < n ∧ p i) → ∃ i, i < n ∧ p i ∧ ∀ j, i < j → j < n → ¬ p j
  | 0, h => by obtain ⟨i, hi, -⟩ := h; exact absurd hi (Nat.not_lt_zero i)
  | n + 1, h => by
    by_cases q : p n
    · exact ⟨n, by omega, q, fun j h1 h2 => by omega⟩
    · obtain ⟨i, h1, h2⟩ := h
      have hi : i < n := by
        rcases Nat.lt_or_ge i n with r | r
        · exact r
        · have e : i = n := by omega
          subst e
          exact absurd h2 q
      obtain ⟨i2, a1, a2, a3⟩ := fb_last (n := n) ⟨i, hi, h2⟩
      refine ⟨i2, by omega, a2, fun j b1 b2 => ?_⟩
      rcases Nat.lt_or_ge j n with r | r
      · exact a3 j b1 r
      · have e : j = n := by omega
        subst e
        exact q
/-- the first greatest -/
theorem fb_best (f : Nat → Int) : ∀ {n : Nat}, 0 < n → ∃ i, i < n ∧ (∀ j, j < n → f j ≤ f i) ∧ ∀ j, j < i → f j < f i
  | 0, h => absurd h (Nat.lt_irrefl 0)
  | 1, _ => ⟨0, by omega, fun j hj => by have e : j = 0 := by omega
                                         subst e; exact Int.le_refl _, fun j hj => absurd hj (Nat.not_lt_zero j)⟩
  | n + 2, _ => by
    obtain ⟨i, h1, h2, h3⟩ := fb_best f (n := n + 1) (by omega)
    by_cases q : f i < f (n + 1)
    · refine ⟨n + 1, by omega, fun j hj => ?_, fun j hj => ?_⟩
      · rcases Nat.lt_or_ge j (n + 1) with r | r
        · have := h2 j r; omega
        · have e : j = n + 1 := by omega
          subst e; exact Int.le_refl _
      · have := h2 j hj; omega
    · refine ⟨i, by omega, fun j hj => ?_, h3⟩
      rcases Nat.lt_or_ge j (n + 1) with r | r
      · exact h2 j r
      · have e : j = n + 1 := by omega
        subst e; omega
theorem fb_best_one {f : Nat → Int} {n i j : Nat} (hi : i < n) (hi2 : ∀ k, k < n → f k ≤ f i) (hi3 : ∀ k, k < i → f k < f i) (hj : j < n) (hj2 : ∀ k, k < n → f k ≤ f j) (hj3 : ∀ k, k < j → f k < f j) : i = j := by
  rcases Nat.lt_trichotomy i j with q | q | q
  · have a := hj3 i q
    have b := hi2 j hj
    omega
  · exact q
  · have a := hi3 j q
    have b := hj2 i hi
    omega
/-- the first least -/
theorem fb_low (f : Nat → Int) {n : Nat} (h : 0 < n) : ∃ i, i < n ∧ (∀ j, j < n → f i ≤ f j) ∧ ∀ j, j < i → f i < f j := by
  obtain ⟨i, h1, h2, h3⟩ := fb_best (fun k => -f k) h
  exact ⟨i, h1, fun j hj => by have := h2 j hj; omega, fun j hj => by have := h3 j hj; omega⟩
/-! ===== signed ints as whole numbers, within bounds ===== -/
theorem fb_rng (x : Int32) : -2147483648 ≤ x.toInt ∧ x.toInt < 2147483648 := by
  have h1 := Int32.le_toInt x
  have h2 := Int32.toInt_lt x
  omega
theorem fb_bmod {z : Int} (h1 : -2147483648 ≤ z) (h2 : z < 2147483648) : z.bmod (2 ^ 32) = z := by
  rw [Int.bmod_eq_of_le (by omega) (by omega)]
theorem fb_addI {x y : Int32} (h1 : -2147483648 ≤ x.toInt + y.toInt) (h2 : x.toInt + y.toInt < 2147483648) : (x + y).toInt = x.toInt + y.toInt := by
  rw [Int32.toInt_add, fb_bmod h1 h2]
theorem fb_subI {x y : Int32} (h1 : -2147483648 ≤ x.toInt - y.toInt) (h2 : x.toInt - y.toInt < 2147483648) : (x - y).toInt = x.toInt - y.toInt := by
  rw [Int32.toInt_sub, fb_bmod h1 h2]
theorem fb_mulI {x y : Int32} (h1 : -2147483648 ≤ x.toInt * y.toInt) (h2 : x.toInt * y.toInt < 2147483648) : (x * y).toInt = x.toInt * y.toInt := by
  rw [Int32.toInt_mul, fb_bmod h1 h2]
theorem fb_negI {x : Int32} (h : x.toInt ≠ -2147483648) : (-x).toInt = -x.toInt := by
  have := fb_rng x
  rw [Int32.toInt_neg, fb_bmod (by omega) (by omega)]
theorem fb_ofI {z : Int} (h1 : -2147483648 ≤ z) (h2 : z < 2147483648) : (Int32.ofInt z).toInt = z := by
  rw [Int32.toInt_ofInt, fb_bmod h1 h2]
theorem fb_asI (x : Int32) : Int32.ofInt x.toInt = x := Int32.ofInt_toInt x
theorem fb_rngL (x : Int64) : -9223372036854775808 ≤ x.toInt ∧ x.toInt < 9223372036854775808 := by
  have h1 := Int64.le_toInt x
  have h2 := Int64.toInt_lt x
  omega
theorem fb_bmodL {z : Int} (h1 : -9223372036854775808 ≤ z) (h2 : z < 9223372036854775808) : z.bmod (2 ^ 64) = z := by
  rw [Int.bmod_eq_of_le (by omega) (by omega)]
theorem fb_addL {x y : Int64} (h1 : -9223372036854775808 ≤ x.toInt + y.toInt) (h2 : x.toInt + y.toInt < 9223372036854775808) : (x + y).toInt = x.toInt + y.toInt := by
  rw [Int64.toInt_add, fb_bmodL h1 h2]
theorem fb_subL {x y : Int64} (h1 : -9223372036854775808 ≤ x.toInt - y.toInt) (h2 : x.toInt - y.toInt < 9223372036854775808) : (x - y).toInt = x.toInt - y.toInt := by
  rw [Int64.toInt_sub, fb_bmodL h1 h2]
theorem fb_mulL {x y : Int64} (h1 : -9223372036854775808 ≤ x.toInt * y.toInt) (h2 : x.toInt * y.toInt < 9223372036854775808) : (x * y).toInt = x.toInt * y.toInt := by
  rw [Int64.toInt_mul, fb_bmodL h1 h2]
/-! ===== cuts of what is narrow already ===== -/
theorem fb_byte {x : Int32} (h1 : -128 ≤ x.toInt) (h2 : x.toInt < 128) : x.toInt8.toInt32 = x := by
  apply Int32.toInt_inj.1
  rw [Int8.toInt_toInt32, Int32.toInt_toInt8, Int.bmod_eq_of_le (by omega) (by omega)]
theorem fb_short {x : Int32} (h1 : -32768 ≤ x.toInt) (h2 : x.toInt < 32768) : x.toInt16.toInt32 = x := by
  apply Int32.toInt_inj.1
  rw [Int16.toInt_toInt32, Int32.toInt_toInt16, Int.bmod_eq_of_le (by omega) (by omega)]
theorem fb_byte_rng (x : Int32) : -128 ≤ x.toInt8.toInt32.toInt ∧ x.toInt8.toInt32.toInt < 128 := by
  rw [Int8.toInt_toInt32]
  have h1 := Int8.le_toInt x.toInt8
  have h2 := Int8.toInt_lt x.toInt8
  omega
theorem fb_short_rng (x : Int32) : -32768 ≤ x.toInt16.toInt32.toInt ∧ x.toInt16.toInt32.toInt < 32768 := by
  rw [Int16.toInt_toInt32]
  have h1 := Int16.le_toInt x.toInt16
  have h2 := Int16.toInt_lt x.toInt16
  omega
theorem fb_byte_twice (x : Int32) : x.toInt8.toInt32.toInt8.toInt32 = x.toInt8.toInt32 := fb_byte (fb_byte_rng x).1 (fb_byte_rng x).2
theorem fb_short_twice (x : Int32) : x.toInt16.toInt32.toInt16.toInt32 = x.toInt16.toInt32 := fb_short (fb_short_rng x).1 (fb_short_rng x).2
theorem fb_char {n : Nat} (h : n < 65536) : (nI n).toUInt32.toUInt16.toUInt32.toInt32 = nI n := by
  apply Int32.toBitVec_inj.1
  apply BitVec.eq_of_toNat_eq
  have e1 : (nI n).toBitVec.toNat = n := by
    show (BitVec.ofNat 32 n).toNat = n
    rw [BitVec.toNat_ofNat, Nat.mod_eq_of_lt (by omega)]
  have e2 : ((nI n).toUInt32.toUInt16.toUInt32).toNat = n := by
    rw [UInt16.toNat_toUInt32, UInt32.toNat_toUInt16]
    show (nI n).toBitVec.toNat % 2 ^ 16 = n
    rw [e1, Nat.mod_eq_of_lt (by omega)]
  rw [e1]
  exact e2
end
section
/-! THE PLAIN SIDE: cuts and links, flows, the tree. Points are numbers below n (n at most 8); g holds the capacity of u and v at 8 * u + v. -/
/-- what the cut with side X weighs -/
def ct_cut (n : Nat) (g : Nat → Nat) (X : Nat → Bool) : Nat := fb_sm (fun u => fb_sm (fun v => if X u && !X v then g (8 * u + v) else 0) n) n
/-- the same of a set of points as a number -/
def ct_wt (n : Nat) (g : Nat → Nat) (S : Nat) : Nat := ct_cut n g S.testBit
def ct_pc (n S : Nat) : Nat := fb_ct S.testBit n
def ct_up (g : Nat → Nat) (k x : Nat) : Nat → Nat := fun i => if i = k then x else g i
def ct_upz (f : Nat → Int) (k : Nat) (x : Int) : Nat → Int := fun i => if i = k then x else f i
def ct_z (z : Int) : Int32 := Int32.ofInt z
/-- capacities: symmetric, none from a point to itself, at most 50 -/
def ct_G (g : Nat → Nat) : Prop := (∀ u v, u < 8 → v < 8 → g (8 * u + v) = g (8 * v + u)) ∧ (∀ u, u < 8 → g (8 * u + u) = 0) ∧ ∀ i, g i ≤ 50
/-- L is the link of u and v: the lightest cut that parts them -/
def ct_L (n : Nat) (g : Nat → Nat) (u v L : Nat) : Prop := (∃ S, S < 2 ^ n ∧ S.testBit u = true ∧ S.testBit v = false ∧ ct_wt n g S = L) ∧ ∀ S, S < 2 ^ n → S.testBit u = true → S.testBit v = false → L ≤ ct_wt n g S
noncomputable def ct_lam (n : Nat) (g : Nat → Nat) (u v : Nat) : Nat := Classical.epsilon (fun L => ct_L n g u v L)
/-- the net flow out of u -/
def ct_out (n : Nat) (f : Nat → Int) (u : Nat) : Int := fb_si (fun v => f (8 * u + v)) n
/-- f is a flow from s to t of the worth val -/
def ct_F (n : Nat) (g : Nat → Nat) (f : Nat → Int) (s t : Nat) (val : Int) : Prop :=
  (∀ u v, u < n → v < n → f (8 * u + v) = -f (8 * v + u)) ∧ (∀ u v, u < n → v < n → f (8 * u + v) ≤ (g (8 * u + v) : Int)) ∧ (∀ u, u < n → u ≠ s → u ≠ t → ct_out n f u = 0) ∧ ct_out n f s = val
/-- what a search leaves: how a reached point was come to, and that what is reached is all that can be -/
def ct_S (n : Nat) (g : Nat → Nat) (f : Nat → Int) (s R : Nat) (cf ord : Nat → Nat) : Prop :=
  ∀ x, x < n → R.testBit x = true → x ≠ s → cf x < n ∧ R.testBit (cf x) = true ∧ ord (cf x) < ord x ∧ f (8 * cf x + x) < (g (8 * cf x + x) : Int)
def ct_sat (n : Nat) (g : Nat → Nat) (f : Nat → Int) (R : Nat) : Prop := ∀ u v, u < n → v < n → R.testBit u = true → R.testBit v = false → (g (8 * u + v) : Int) ≤ f (8 * u + v)
/-- the way back from t, k steps -/
def ct_it (p : Nat → Nat) (t : Nat) : Nat → Nat
  | 0 => t
  | k + 1 => p (ct_it p t k)
/-- the tree: what a point hangs on is an earlier one, to which its link is the strongest among the earlier ones -/
def ct_T (n : Nat) (g p : Nat → Nat) : Prop := ∀ u, 1 ≤ u → u < n → p u < u ∧ ∀ j, j < u → ct_lam n g u j ≤ ct_lam n g u (p u)
/-- the tree while it is built, points below s hang for good -/
def ct_I (n : Nat) (g p : Nat → Nat) (s : Nat) : Prop :=
  (∀ u, 1 ≤ u → u < s → u < n → p u < u ∧ ∀ j, j < u → ct_lam n g u j ≤ ct_lam n g u (p u)) ∧
  (∀ v, s ≤ v → v < n → p v < s ∧ ∀ j, j < s → ct_lam n g v j ≤ ct_lam n g v (p v)) ∧
  (∀ v w, s ≤ v → s ≤ w → v < n → w < n → p v ≠ p w → ct_lam n g v w ≤ ct_lam n g v (p v))
/-- the depth of a point in the tree, with enough steps -/
def ct_dp (p : Nat → Nat) : Nat → Nat → Nat
  | 0, _ => 0
  | k + 1, u => if u = 0 then 0 else ct_dp p k (p u) + 1
/-- the link, with a point itself too strong to matter -/
noncomputable def ct_LL (n : Nat) (g : Nat → Nat) (u v : Nat) : Nat := if u = v then 1000 else ct_lam n g u v
/-- a set given by its points, as a number -/
def ct_mk (X : Nat → Bool) : Nat → Nat
  | 0 => 0
  | k + 1 => ct_mk X k ||| (if X k then 2 ^ k else 0)
end
section
/-! ===== double sums ===== -/
theorem ct_sm2_cong {F G : Nat → Nat → Nat} {n m : Nat} (h : ∀ u, u < n → ∀ v, v < m → F u v = G u v) : fb_sm (fun u => fb_sm (fun v => F u v) m) n = fb_sm (fun u => fb_sm (fun v => G u v) m) n := fb_sm_cong (fun u hu => fb_sm_cong (fun v hv => h u hu v hv))
theorem ct_sm2_le {F G : Nat → Nat → Nat} {n m : Nat} (h : ∀ u, u < n → ∀ v, v < m → F u v ≤ G u v) : fb_sm (fun u => fb_sm (fun v => F u v) m) n ≤ fb_sm (fun u => fb_sm (fun v => G u v) m) n := fb_sm_le (fun u hu => fb_sm_le (fun v hv => h u hu v hv))
theorem ct_sm2_add (F G : Nat → Nat → Nat) (n m : Nat) : fb_sm (fun u => fb_sm (fun v => F u v + G u v) m) n = fb_sm (fun u => fb_sm (fun v => F u v) m) n + fb_sm (fun u => fb_sm (fun v => G u v) m) n := by
  rw [← fb_sm_add]
  exact fb_sm_cong (fun u _ => fb_sm_add (F u) (G u) m)
theorem ct_sm_swap (F : Nat → Nat → Nat) (m : Nat) : ∀ n, fb_sm (fun u => fb_sm (fun v => F u v) m) n = fb_sm (fun v => fb_sm (fun u => F u v) n) m
  | 0 => by
    show 0 = fb_sm (fun _ => 0) m
    rw [fb_sm_const]; simp
  | n + 1 => by
    show fb_sm (fun u => fb_sm (fun v => F u v) m) n + fb_sm (fun v => F n v) m = fb_sm (fun v => fb_sm (fun u => F u v) n + F n v) m
    rw [fb_sm_add, ct_sm_swap F m n]
/-! ===== a set as a number ===== -/
theorem ct_mk_bit (X : Nat → Bool) : ∀ (n i : Nat), (ct_mk X n).testBit i = (decide (i < n) && X i)
  | 0, i => by simp [ct_mk]
  | n + 1, i => by
    show (ct_mk X n ||| (if X n then 2 ^ n else 0)).testBit i = _
    rw [Nat.testBit_or, ct_mk_bit X n i]
    cases hX : X n
    · by_cases h : i = n
      · subst h; simp [hX]
      · have e : decide (i < n + 1) = decide (i < n) := by simp only [decide_eq_decide]; omega
        simp [e]
    · by_cases h : i = n
      · subst h; simp [hX, Nat.testBit_two_pow]
      · have e : decide (i < n + 1) = decide (i < n) := by simp only [decide_eq_decide]; omega
        have e2 : decide (n = i) = false := by simp only [decide_eq_false_iff_not]; omega
        simp [e, Nat.testBit_two_pow, e2]
theorem ct_mk_lt (X : Nat → Bool) : ∀ n, ct_mk X n < 2 ^ n
  | 0 => by simp [ct_mk]
  | n + 1 => by
    show ct_mk X n ||| (if X n then 2 ^ n else 0) < 2 ^ (n + 1)
    have h := ct_mk_lt X n
    have h2 : (2 : Nat) ^ n < 2 ^ (n + 1) := Nat.pow_lt_pow_right (by decide) (by omega)
    refine Nat.or_lt_two_pow (by omega) ?_
    split
    · exact h2
    · exact Nat.two_pow_pos _
theorem ct_cut_cong {n : Nat} {g : Nat → Nat} {X Y : Nat → Bool} (h : ∀ i, i < n → X i = Y i) : ct_cut n g X = ct_cut n g Y := by
  unfold ct_cut
  exact ct_sm2_cong (fun u hu v hv => by rw [h u hu, h v hv])
theorem ct_wt_mk (n : Nat) (g : Nat → Nat) (X : Nat → Bool) : ct_wt n g (ct_mk X n) = ct_cut n g X := by
  unfold ct_wt
  exact ct_cut_cong (fun i hi => by rw [ct_mk_bit]; simp [hi])
/-! ===== both ways, complement, and two cuts against their differences ===== -/
theorem ct_b1 (a b : Bool) (w : Nat) : (if (!a) != (!b) then w else 0) = (if a != b then w else 0) := by cases a <;> cases b <;> simp
theorem ct_b2 (a b c d : Bool) (w : Nat) : (if (a && !c) != (b && !d) then w else 0) + (if (c && !a) != (d && !b) then w else 0) ≤ (if a != b then w else 0) + (if c != d then w else 0) := by cases a <;> cases b <;> cases c <;> cases d <;> simp
def ct_d (n : Nat) (g : Nat → Nat) (X : Nat → Bool) : Nat := fb_sm (fun u => fb_sm (fun v => if X u != X v then g (8 * u + v) else 0) n) n
theorem ct_d_two {n : Nat} {g : Nat → Nat} (hn : n ≤ 8) (hg : ct_G g) (X : Nat → Bool) : ct_d n g X = 2 * ct_cut n g X := by
  have h1 : ct_d n g X = ct_cut n g X + fb_sm (fun u => fb_sm (fun v => if X v && !X u then g (8 * u + v) else 0) n) n := by
    unfold ct_d ct_cut
    rw [← ct_sm2_add]
    refine ct_sm2_cong (fun u _ v _ => ?_)
    cases X u <;> cases X v <;> simp
  have h2 : fb_sm (fun u => fb_sm (fun v => if X v && !X u then g (8 * u + v) else 0) n) n = ct_cut n g X := by
    rw [ct_sm_swap]
    unfold ct_cut
    refine ct_sm2_cong (fun u hu v hv => ?_)
    rw [hg.1 v u (by omega) (by omega)]
  omega
theorem ct_cut_not {n : Nat} {g : Nat → Nat} (hn : n ≤ 8) (hg : ct_G g) (X : Nat → Bool) : ct_cut n g (fun i => !X i) = ct_cut n g X := by
  have h1 := ct_d_two hn hg X
  have h2 := ct_d_two hn hg (fun i => !X i)
  have h3 : ct_d n g (fun i => !X i) = ct_d n g X := by
    unfold ct_d
    exact ct_sm2_cong (fun u _ v _ => ct_b1 (X u) (X v) _)
  omega
theorem ct_posi {n : Nat} {g : Nat → Nat} (hn : n ≤ 8) (hg : ct_G g) (X Y : Nat → Bool) : ct_cut n g (fun i => X i && !Y i) + ct_cut n g (fun i => Y i && !X i) ≤ ct_cut n g X + ct_cut n g Y := by
  have h1 := ct_d_two hn hg X
  have h2 := ct_d_two hn hg Y
  have h3 := ct_d_two hn hg (fun i => X i && !Y i)
  have h4 := ct_d_two hn hg (fun i => Y i && !X i)
  have h5 : ct_d n g (fun i => X i && !Y i) + ct_d n g (fun i => Y i && !X i) ≤ ct_d n g X + ct_d n g Y := by
    unfold ct_d
    rw [← ct_sm2_add, ← ct_sm2_add]
    exact ct_sm2_le (fun u _ v _ => ct_b2 (X u) (X v) (Y u) (Y v) _)
  omega
/-! ===== links ===== -/
theorem ct_L_one {n : Nat} {g : Nat → Nat} {u v L L' : Nat} (h : ct_L n g u v L) (h' : ct_L n g u v L') : L = L' := by
  obtain ⟨⟨S, a1, a2, a3, a4⟩, a5⟩ := h
  obtain ⟨⟨S', b1, b2, b3, b4⟩, b5⟩ := h'
  have := a5 S' b1 b2 b3
  have := b5 S a1 a2 a3
  omega
theorem ct_lam_eq {n : Nat} {g : Nat → Nat} {u v L : Nat} (h : ct_L n g u v L) : ct_lam n g u v = L := ct_L_one (Classical.epsilon_spec (p := fun L => ct_L n g u v L) ⟨L, h⟩) h
theorem ct_lam_spec {n : Nat} {g : Nat → Nat} {u v : Nat} (hu : u < n) (h : u ≠ v) : ct_L n g u v (ct_lam n g u v) := by
  have hex : ∃ k, ∃ S, S < 2 ^ n ∧ S.testBit u = true ∧ S.testBit v = false ∧ ct_wt n g S = k := by
    refine ⟨_, 2 ^ u, Nat.pow_lt_pow_right (by decide) hu, ?_, ?_, rfl⟩
    · simp [Nat.testBit_two_pow]
    · simp [Nat.testBit_two_pow, h]
  obtain ⟨k, hk, hm⟩ := pk_least _ hex
  have hL : ct_L n g u v k := by
    refine ⟨hk, fun S h1 h2 h3 => ?_⟩
    rcases Nat.lt_or_ge (ct_wt n g S) k with q | q
    · exact absurd ⟨S, h1, h2, h3, rfl⟩ (hm _ q)
    · exact q
  rw [ct_lam_eq hL]
  exact hL
theorem ct_lam_le {n : Nat} {g : Nat → Nat} {u v : Nat} {X : Nat → Bool} (hu : u < n) (hv : v < n) (h1 : X u = true) (h2 : X v = false) : ct_lam n g u v ≤ ct_cut n g X := by
  have hne : u ≠ v := fun e => by rw [e, h2] at h1; cases h1
  have h := (ct_lam_spec (g := g) hu hne).2 (ct_mk X n) (ct_mk_lt X n) (by rw [ct_mk_bit]; simp [hu, h1]) (by rw [ct_mk_bit]; simp [h2])
  rw [ct_wt_mk] at h
  exact h
theorem ct_lam_at {n : Nat} (g : Nat → Nat) {u v : Nat} (hu : u < n) (hne : u ≠ v) : ∃ X : Nat → Bool, X u = true ∧ X v = false ∧ ct_cut n g X = ct_lam n g u v := by
  obtain ⟨⟨S, -, h2, h3, h4⟩, -⟩ := ct_lam_spec (g := g) hu hne
  exact ⟨S.testBit, h2, h3, h4⟩
theorem ct_lam_symm {n : Nat} {g : Nat → Nat} (hn : n ≤ 8) (hg : ct_G g) {u v : Nat} (hu : u < n) (hv : v < n) : ct_lam n g u v = ct_lam n g v u := by
  by_cases hne : u = v
  · rw [hne]
  · obtain ⟨X, a1, a2, a3⟩ := ct_lam_at g hu hne
    obtain ⟨Y, b1, b2, b3⟩ := ct_lam_at g hv (Ne.symm hne)
    have h1 := ct_lam_le (g := g) (X := fun i => !X i) hv hu (by simp [a2]) (by simp [a1])
    have h2 := ct_lam_le (g := g) (X := fun i => !Y i) hu hv (by simp [b2]) (by simp [b1])
    rw [ct_cut_not hn hg] at h1 h2
    omega
theorem ct_lam_ultra {n : Nat} {g : Nat → Nat} {u v w : Nat} (hu : u < n) (hv : v < n) (hw : w < n) (hne : u ≠ w) : ct_lam n g u v ≤ ct_lam n g u w ∨ ct_lam n g v w ≤ ct_lam n g u w := by
  obtain ⟨X, a1, a2, a3⟩ := ct_lam_at g hu hne
  cases hX : X v with
  | true => exact Or.inr (by rw [← a3]; exact ct_lam_le hv hw hX a2)
  | false => exact Or.inl (by rw [← a3]; exact ct_lam_le hu hv a1 hX)
/-- no link is above 350 -/
theorem ct_lam_bound {n : Nat} {g : Nat → Nat} (hn : n ≤ 8) (hg : ct_G g) {u v : Nat} (hu : u < n) (hv : v < n) (hne : u ≠ v) : ct_lam n g u v ≤ 400 := by
  have h := ct_lam_le (g := g) (X := fun i => decide (i = u)) hu hv (by simp) (by simp [Ne.symm hne])
  refine Nat.le_trans h ?_
  unfold ct_cut
  have h2 : ∀ x, x < n → fb_sm (fun v => if decide (x = u) && !decide (v = u) then g (8 * x + v) else 0) n ≤ (if x = u then 400 else 0) := by
    intro x _
    by_cases hx : x = u
    · rw [if_pos hx]
      refine Nat.le_trans (fb_sm_bound (c := 50) (fun k _ => ?_)) (by omega)
      split
      · exact hg.2.2 _
      · omega
    · rw [if_neg hx]
      refine Nat.le_trans (fb_sm_bound (c := 0) (fun k _ => ?_)) (by omega)
      simp [hx]
  refine Nat.le_trans (fb_sm_le h2) ?_
  have h3 := fb_sm_upd (fun _ => 0) 400 hu
  rw [fb_sm_const] at h3
  simp only [Nat.mul_zero, Nat.zero_add, Nat.add_zero] at h3
  exact Nat.le_of_eq h3
theorem ct_wt_bound {n : Nat} {g : Nat → Nat} (hn : n ≤ 8) (hg : ct_G g) (X : Nat → Bool) : ct_cut n g X ≤ 3200 := by
  unfold ct_cut
  refine Nat.le_trans (fb_sm_bound (c := 400) (fun u _ => ?_)) (by omega)
  refine Nat.le_trans (fb_sm_bound (c := 50) (fun v _ => ?_)) (by omega)
  split
  · exact hg.2.2 _
  · omega
end
section
/-! ===== sums of whole numbers ===== -/
theorem ct_si_zero (n : Nat) : fb_si (fun _ => 0) n = 0 := by
  induction n with
  | zero => rfl
  | succ n ih => rw [fb_si_succ, ih]; rfl
theorem ct_si2_cong {F G : Nat → Nat → Int} {n m : Nat} (h : ∀ u, u < n → ∀ v, v < m → F u v = G u v) : fb_si (fun u => fb_si (fun v => F u v) m) n = fb_si (fun u => fb_si (fun v => G u v) m) n := fb_si_cong (fun u hu => fb_si_cong (fun v hv => h u hu v hv))
theorem ct_si2_add (F G : Nat → Nat → Int) (n m : Nat) : fb_si (fun u => fb_si (fun v => F u v + G u v) m) n = fb_si (fun u => fb_si (fun v => F u v) m) n + fb_si (fun u => fb_si (fun v => G u v) m) n := by
  rw [← fb_si_add]
  exact fb_si_cong (fun u _ => fb_si_add (F u) (G u) m)
theorem ct_si_swap (F : Nat → Nat → Int) (m : Nat) : ∀ n, fb_si (fun u => fb_si (fun v => F u v) m) n = fb_si (fun v => fb_si (fun u => F u v) n) m
  | 0 => (ct_si_zero m).symm
  | n + 1 => by
    show fb_si (fun u => fb_si (fun v => F u v) m) n + fb_si (fun v => F n v) m = fb_si (fun v => fb_si (fun u => F u v) n + F n v) m
    rw [fb_si_add, ct_si_swap F m n]
theorem ct_si_le {f g : Nat → Int} : ∀ {n : Nat}, (∀ k, k < n → f k ≤ g k) → fb_si f n ≤ fb_si g n
  | 0, _ => Int.le_refl _
  | n + 1, h => by
    rw [fb_si_succ, fb_si_succ]
    have h1 := ct_si_le (n := n) (fun k hk => h k (by omega))
    have h2 := h n (by omega)
    omega
theorem ct_si_lt {f g : Nat → Int} {i : Nat} : ∀ {n : Nat}, (∀ k, k < n → f k ≤ g k) → i < n → f i < g i → fb_si f n < fb_si g n
  | 0, _, hi, _ => by omega
  | n + 1, h, hi, hl => by
    rw [fb_si_succ, fb_si_succ]
    have h2 := h n (by omega)
    by_cases e : i = n
    · subst e
      have h1 := ct_si_le (n := i) (fun k hk => h k (by omega))
      omega
    · have h1 := ct_si_lt (n := n) (fun k hk => h k (by omega)) (by omega) hl
      omega
theorem ct_si_neg (f : Nat → Int) (n : Nat) : fb_si (fun k => -f k) n = -fb_si f n := by
  induction n with
  | zero => rfl
  | succ n ih => rw [fb_si_succ, fb_si_succ, ih]; omega
theorem ct_si_one {n i : Nat} (c : Int) (hi : i < n) : fb_si (fun k => if k = i then c else 0) n = c := by
  have h := fb_si_upd (fun _ => 0) c hi
  rw [ct_si_zero] at h
  rw [h]; omega
theorem ct_cut_int (n : Nat) (g : Nat → Nat) (X : Nat → Bool) : (ct_cut n g X : Int) = fb_si (fun u => fb_si (fun v => if X u && !X v then (g (8 * u + v) : Int) else 0) n) n := by
  unfold ct_cut
  rw [← fb_si_nat]
  refine fb_si_cong (fun u _ => ?_)
  rw [← fb_si_nat]
  refine fb_si_cong (fun v _ => ?_)
  split <;> rfl
/-! ===== a flow over a cut ===== -/
theorem ct_b3 (a b : Bool) (w : Int) : (if a then w else 0) = (if a && b then w else 0) + (if a && !b then w else 0) := by cases a <;> cases b <;> simp
theorem ct_b4 (a b : Bool) (w z : Int) (h : w = -z) : (if a && b then w else 0) = -(if b && a then z else 0) := by cases a <;> cases b <;> simp [h]
theorem ct_F_over {n : Nat} {g : Nat → Nat} {f : Nat → Int} {s t : Nat} {val : Int} (hF : ct_F n g f s t val) (hs : s < n) {X : Nat → Bool} (h1 : X s = true) (h2 : X t = false) : val = fb_si (fun u => fb_si (fun v => if X u && !X v then f (8 * u + v) else 0) n) n := by
  obtain ⟨ha, -, hc, hv⟩ := hF
  have e1 : fb_si (fun u => if X u then ct_out n f u else 0) n = val := by
    rw [← ct_si_one val hs]
    refine fb_si_cong (fun u hu => ?_)
    by_cases e : u = s
    · rw [e, h1, hv]; simp
    · rw [if_neg e]
      cases hX : X u with
      | false => rfl
      | true =>
        have ht : u ≠ t := fun q => by rw [q, h2] at hX; cases hX
        simp [hc u hu e ht]
  have e2 : fb_si (fun u => if X u then ct_out n f u else 0) n = fb_si (fun u => fb_si (fun v => if X u then f (8 * u + v) else 0) n) n := by
    refine fb_si_cong (fun u _ => ?_)
    cases X u
    · exact (ct_si_zero n).symm
    · rfl
  have e3 : fb_si (fun u => fb_si (fun v => if X u then f (8 * u + v) else 0) n) n = fb_si (fun u => fb_si (fun v => if X u && X v then f (8 * u + v) else 0) n) n + fb_si (fun u => fb_si (fun v => if X u && !X v then f (8 * u + v) else 0) n) n := by
    rw [← ct_si2_add]
    exact ct_si2_cong (fun u _ v _ => ct_b3 (X u) (X v) _)
  have e4 : fb_si (fun u => fb_si (fun v => if X u && X v then f (8 * u + v) else 0) n) n = -fb_si (fun u => fb_si (fun v => if X u && X v then f (8 * u + v) else 0) n) n := by
    rw [← ct_si_neg]
    rw [ct_si_swap]
    refine fb_si_cong (fun u hu => ?_)
    rw [← ct_si_neg]
    exact fb_si_cong (fun v hv => ct_b4 (X v) (X u) _ _ (ha v u hv hu))
  omega
theorem ct_b5 (a b : Bool) {w z : Int} (h : a = true → b = false → w ≤ z) : (if a && !b then w else 0) ≤ (if a && !b then z else 0) := by cases a <;> cases b <;> simp_all
theorem ct_F_le {n : Nat} {g : Nat → Nat} {f : Nat → Int} {s t : Nat} {val : Int} (hF : ct_F n g f s t val) (hs : s < n) {X : Nat → Bool} (h1 : X s = true) (h2 : X t = false) : val ≤ (ct_cut n g X : Int) := by
  rw [ct_F_over hF hs h1 h2, ct_cut_int]
  exact ct_si_le (fun u hu => ct_si_le (fun v hv => ct_b5 (X u) (X v) (fun _ _ => hF.2.1 u v hu hv)))
theorem ct_F_tight {n : Nat} {g : Nat → Nat} {f : Nat → Int} {s t : Nat} {val : Int} (hF : ct_F n g f s t val) (hs : s < n) {X : Nat → Bool} (h1 : X s = true) (h2 : X t = false) (he : (ct_cut n g X : Int) ≤ val) {u v : Nat} (hu : u < n) (hv : v < n) (hXu : X u = true) (hXv : X v = false) : ¬ f (8 * u + v) < (g (8 * u + v) : Int) := by
  intro hlt
  rw [ct_F_over hF hs h1 h2, ct_cut_int] at he
  refine absurd he (Int.not_le.mpr ?_)
  refine ct_si_lt (i := u) (fun a ha => ct_si_le (fun b hb => ct_b5 (X a) (X b) (fun _ _ => hF.2.1 a b ha hb))) hu ?_
  refine ct_si_lt (i := v) (fun b hb => ct_b5 (X u) (X b) (fun _ _ => hF.2.1 u b hu hb)) hv ?_
  simp [hXu, hXv, hlt]
/-! ===== the largest flow and the smallest side ===== -/
theorem ct_mf {n : Nat} {g : Nat → Nat} {f : Nat → Int} {s t R : Nat} {val : Int} (hF : ct_F n g f s t val) (hs : s < n) (hR : R < 2 ^ n) (hsR : R.testBit s = true) (htR : R.testBit t = false) (hsat : ct_sat n g f R) : val = (ct_wt n g R : Int) ∧ ct_lam n g s t = ct_wt n g R := by
  have e : val = (ct_wt n g R : Int) := by
    have e1 := ct_F_le hF hs hsR htR
    have e2 : (ct_wt n g R : Int) ≤ val := by
      unfold ct_wt
      rw [ct_F_over hF hs hsR htR, ct_cut_int]
      exact ct_si_le (fun u hu => ct_si_le (fun v hv => ct_b5 (R.testBit u) (R.testBit v) (fun a b => hsat u v hu hv a b)))
    unfold ct_wt at e2 ⊢
    omega
  refine ⟨e, ct_lam_eq ⟨⟨R, hR, hsR, htR, rfl⟩, fun S _ a b => ?_⟩⟩
  have h := ct_F_le hF hs (X := S.testBit) a b
  rw [e] at h
  unfold ct_wt at h ⊢
  omega
theorem ct_mf_min {n : Nat} {g : Nat → Nat} {f : Nat → Int} {s t R : Nat} {val : Int} {cf ord : Nat → Nat} (hF : ct_F n g f s t val) (hs : s < n) (hS : ct_S n g f s R cf ord) {X : Nat → Bool} (h1 : X s = true) (h2 : X t = false) (he : (ct_cut n g X : Int) ≤ val) : ∀ x, x < n → R.testBit x = true → X x = true := by
  have key : ∀ k x, ord x < k → x < n → R.testBit x = true → X x = true := by
    intro k
    induction k with
    | zero => intro x h; omega
    | succ k ih =>
      intro x hk hx hb
      by_cases e : x = s
      · rw [e]; exact h1
      · obtain ⟨a1, a2, a3, a4⟩ := hS x hx hb e
        have hp := ih (cf x) (by omega) a1 a2
        cases hX : X x with
        | true => rfl
        | false => exact absurd a4 (ct_F_tight hF hs h1 h2 he a1 hx hp hX)
  exact fun x hx hb => key _ x (Nat.lt_succ_self _) hx hb
/-! ===== one more way ===== -/
/-- while the way is pushed, back from t, come to v -/
def ct_PI (n : Nat) (g : Nat → Nat) (f f' : Nat → Int) (ord : Nat → Nat) (v t : Nat) (m : Int) : Prop :=
  (∀ a b, a < n → b < n → f' (8 * a + b) = -f' (8 * b + a)) ∧ (∀ a b, a < n → b < n → f' (8 * a + b) ≤ (g (8 * a + b) : Int)) ∧
  (∀ x, x < n → ct_out n f' x = ct_out n f x + (if x = v then m else 0) - (if x = t then m else 0)) ∧
  (∀ a b, a < n → b < n → ord a ≤ ord v → ord b ≤ ord v → f' (8 * a + b) = f (8 * a + b))
theorem ct_PI_0 {n : Nat} {g : Nat → Nat} {f : Nat → Int} {s t : Nat} {val : Int} (hF : ct_F n g f s t val) (ord : Nat → Nat) (m : Int) : ct_PI n g f f ord t t m :=
  ⟨hF.1, hF.2.1, fun x _ => by omega, fun _ _ _ _ _ _ => rfl⟩
theorem ct_out_upz {n : Nat} (hn : n ≤ 8) (f : Nat → Int) {u v : Nat} (hv : v < n) (c : Int) {x : Nat} : ct_out n (ct_upz f (8 * u + v) c) x = if x = u then ct_out n f x - f (8 * u + v) + c else ct_out n f x := by
  by_cases e : x = u
  · rw [if_pos e, e]
    unfold ct_out
    rw [← fb_si_upd (fun k => f (8 * u + k)) c hv]
    refine fb_si_cong (fun k _ => ?_)
    unfold ct_upz
    by_cases e2 : k = v
    · rw [if_pos (by omega), if_pos e2]
    · rw [if_neg (by omega), if_neg e2]
  · rw [if_neg e]
    unfold ct_out
    refine fb_si_cong (fun k hk => ?_)
    unfold ct_upz
    rw [if_neg (by omega)]
/-- one edge u -> v of the way -/
def ct_push (f : Nat → Int) (u v : Nat) (m : Int) : Nat → Int := ct_upz (ct_upz f (8 * u + v) (f (8 * u + v) + m)) (8 * v + u) (ct_upz f (8 * u + v) (f (8 * u + v) + m) (8 * v + u) - m)
theorem ct_PI_step {n : Nat} {g : Nat → Nat} {f f' : Nat → Int} {ord : Nat → Nat} {u v t : Nat} {m : Int} (hn : n ≤ 8) (hm : 0 ≤ m) (hu : u < n) (hv : v < n) (ho : ord u < ord v) (hr : m ≤ (g (8 * u + v) : Int) - f (8 * u + v)) (h : ct_PI n g f f' ord v t m) : ct_PI n g f (ct_push f' u v m) ord u t m := by
  obtain ⟨h1, h2, h3, h4⟩ := h
  have hne : u ≠ v := fun e => by rw [e] at ho; omega
  have hat : ∀ a b, a < n → b < n → ct_push f' u v m (8 * a + b) = if a = u ∧ b = v then f' (8 * a + b) + m else if a = v ∧ b = u then f' (8 * a + b) - m else f' (8 * a + b) := by
    intro a b ha hb
    unfold ct_push ct_upz
    by_cases e1 : a = u ∧ b = v
    · obtain ⟨rfl, rfl⟩ := e1
      rw [if_neg (by omega), if_pos rfl, if_pos ⟨rfl, rfl⟩]
    · rw [if_neg e1]
      by_cases e2 : a = v ∧ b = u
      · obtain ⟨rfl, rfl⟩ := e2
        rw [if_pos rfl, if_neg (by omega), if_pos ⟨rfl, rfl⟩]
      · rw [if_neg e2, if_neg (by omega), if_neg (by omega)]
  refine ⟨fun a b ha hb => ?_, fun a b ha hb => ?_, fun x hx => ?_, fun a b ha hb oa ob => ?_⟩
  · rw [hat a b ha hb, hat b a hb ha]
    have := h1 a b ha hb
    by_cases e1 : a = u ∧ b = v
    · rw [if_pos e1, if_neg (by omega), if_pos (by omega)]; omega
    · rw [if_neg e1]
      by_cases e2 : a = v ∧ b = u
      · rw [if_pos e2, if_pos (by omega)]; omega
      · rw [if_neg e2, if_neg (by omega), if_neg (by omega)]; omega
  · rw [hat a b ha hb]
    have := h2 a b ha hb
    by_cases e1 : a = u ∧ b = v
    · obtain ⟨rfl, rfl⟩ := e1
      rw [if_pos ⟨rfl, rfl⟩, h4 a b ha hb (by omega) (Nat.le_refl _)]
      omega
    · rw [if_neg e1]
      by_cases e2 : a = v ∧ b = u
      · rw [if_pos e2]; omega
      · rw [if_neg e2]; omega
  · have e0 : ct_upz f' (8 * u + v) (f' (8 * u + v) + m) (8 * v + u) = f' (8 * v + u) := by
      unfold ct_upz
      rw [if_neg (by omega)]
    unfold ct_push
    rw [ct_out_upz hn _ hu, ct_out_upz hn _ hv, h3 x hx, e0]
    by_cases ex : x = u
    · subst ex
      rw [if_neg hne, if_pos rfl, if_neg hne, if_pos rfl]
      omega
    · rw [if_neg ex, if_neg ex]
      by_cases ev : x = v
      · subst ev
        rw [if_pos rfl, if_pos rfl]
        omega
      · rw [if_neg ev, if_neg ev]
  · rw [hat a b ha hb, if_neg (fun q => by rw [q.2] at ob; omega), if_neg (fun q => by rw [q.1] at oa; omega)]
    exact h4 a b ha hb (by omega) (by omega)
theorem ct_PI_end {n : Nat} {g : Nat → Nat} {f f' : Nat → Int} {ord : Nat → Nat} {s t : Nat} {val m : Int} (hF : ct_F n g f s t val) (hs : s < n) (hst : s ≠ t) (h : ct_PI n g f f' ord s t m) : ct_F n g f' s t (val + m) := by
  obtain ⟨h1, h2, h3, -⟩ := h
  obtain ⟨-, -, g3, g4⟩ := hF
  refine ⟨h1, h2, fun u hu a b => ?_, ?_⟩
  · rw [h3 u hu, if_neg a, if_neg b, g3 u hu a b]; omega
  · rw [h3 s hs, if_pos rfl, if_neg hst, g4]; omega
theorem ct_F_0 (n : Nat) (g : Nat → Nat) (s t : Nat) {f : Nat → Int} (h : ∀ i, i < 64 → f i = 0) (hn : n ≤ 8) (hs : s < n) : ct_F n g f s t 0 := by
  have ho : ∀ u, u < n → ct_out n f u = 0 := by
    intro u hu
    unfold ct_out
    rw [← ct_si_zero n]
    exact fb_si_cong (fun v hv => h _ (by omega))
  refine ⟨fun u v hu hv => ?_, fun u v hu hv => ?_, fun u hu _ _ => ho u hu, ho s hs⟩
  · rw [h _ (by omega), h _ (by omega)]; rfl
  · rw [h _ (by omega)]; omega
/-- the bounds of a flow's numbers -/
theorem ct_F_rng {n : Nat} {g : Nat → Nat} {f : Nat → Int} {s t : Nat} {val : Int} (hF : ct_F n g f s t val) (hg : ct_G g) {u v : Nat} (hu : u < n) (hv : v < n) : -50 ≤ f (8 * u + v) ∧ f (8 * u + v) ≤ 50 := by
  have h1 := hF.2.1 u v hu hv
  have h2 := hF.2.1 v u hv hu
  have h3 := hF.1 u v hu hv
  have h4 := hg.2.2 (8 * u + v)
  have h5 := hg.2.2 (8 * v + u)
  omega
end
section
/-! ===== the tree is built: one point after another ===== -/
theorem ct_I_1 {n : Nat} {g p : Nat → Nat} (hp : ∀ u, u < n → p u = 0) : ct_I n g p 1 := by
  refine ⟨fun u h1 h2 => by omega, fun v h1 h2 => ⟨by rw [hp v h2]; omega, fun j hj => ?_⟩, fun v w _ _ hv hw h => absurd (by rw [hp v hv, hp w hw]) h⟩
  rw [hp v h2, show j = 0 by omega]
  exact Nat.le_refl _
/-- the later points on the side of s that hang on the same now hang on s -/
def ct_hang (X : Nat → Bool) (p : Nat → Nat) (s : Nat) : Nat → Nat := fun v => if s < v ∧ X v = true ∧ p v = p s then s else p v
theorem ct_I_step {n : Nat} {g p q : Nat → Nat} {s : Nat} {X : Nat → Bool} (hn : n ≤ 8) (hg : ct_G g) (h1s : 1 ≤ s) (hs : s < n) (hI : ct_I n g p s) (hX1 : X s = true) (hX2 : X (p s) = false) (hX3 : ct_cut n g X = ct_lam n g s (p s)) (hq : ∀ v, v < n → q v = ct_hang X p s v) : ct_I n g q (s + 1) := by
  obtain ⟨i1, i2, i3⟩ := hI
  obtain ⟨hts, hmax⟩ := i2 s (Nat.le_refl _) hs
  have ht : p s < n := by omega
  have sy : ∀ {a b : Nat}, a < n → b < n → ct_lam n g a b = ct_lam n g b a := fun ha hb => ct_lam_symm hn hg ha hb
  have qs : ∀ v, v ≤ s → q v = p v := by
    intro v hv
    rw [hq v (by omega)]
    unfold ct_hang
    rw [if_neg (by omega)]
  -- the link to what a point hangs on, for the points behind s
  have step : ∀ v, s + 1 ≤ v → v < n → q v < s + 1 ∧ ∀ j, j < s + 1 → ct_lam n g v j ≤ ct_lam n g v (q v) := by
    intro v h1 h2
    obtain ⟨a1, a2⟩ := i2 v (by omega) h2
    have key : ct_lam n g v (p v) ≤ ct_lam n g v (q v) ∧ ct_lam n g v s ≤ ct_lam n g v (q v) ∧ q v < s + 1 := by
      rw [hq v h2]
      unfold ct_hang
      by_cases c : s < v ∧ X v = true ∧ p v = p s
      · rw [if_pos c]
        refine ⟨?_, Nat.le_refl _, by omega⟩
        rw [c.2.2]
        have b1 : ct_lam n g v (p s) ≤ ct_lam n g s (p s) := by rw [← hX3]; exact ct_lam_le h2 ht c.2.1 hX2
        have b2 := ct_lam_ultra (g := g) (u := v) (v := p s) (w := s) h2 ht hs (by omega)
        have b3 := sy ht hs
        omega
      · rw [if_neg c]
        refine ⟨Nat.le_refl _, ?_, by omega⟩
        by_cases c2 : p v = p s
        · have hXv : X v = false := by
            cases hX : X v with
            | false => rfl
            | true => exact absurd ⟨by omega, hX, c2⟩ c
          rw [c2]
          have b1 : ct_lam n g s v ≤ ct_lam n g s (p s) := by rw [← hX3]; exact ct_lam_le hs h2 hX1 hXv
          have b2 := ct_lam_ultra (g := g) (u := v) (v := s) (w := p s) h2 hs ht (by omega)
          have b3 := sy hs h2
          omega
        · exact i3 v s (by omega) (Nat.le_refl _) h2 hs c2
    refine ⟨key.2.2, fun j hj => ?_⟩
    by_cases e : j = s
    · rw [e]; exact key.2.1
    · exact Nat.le_trans (a2 j (by omega)) key.1
  -- two points that the cut of s parts
  have part : ∀ v w, s < v → s < w → v < n → w < n → p v = p s → p w = p s → X v = true → X w = false → ct_lam n g v w ≤ ct_lam n g v s ∧ ct_lam n g w v ≤ ct_lam n g w (p s) := by
    intro v w hsv hsw hv hw hpv hpw hXv hXw
    have c1 : ct_lam n g v w ≤ ct_lam n g s (p s) := by rw [← hX3]; exact ct_lam_le hv hw hXv hXw
    have vw := sy hv hw
    -- any cut Y that holds v and w but neither s nor what it hangs on is no lighter than their link
    have diff : ∀ Y : Nat → Bool, Y v = true → Y w = true → Y s = false → Y (p s) = false → ct_lam n g v w ≤ ct_cut n g Y := by
      intro Y y1 y2 y3 y4
      have d0 := ct_posi hn hg X Y
      have d1 : ct_lam n g s (p s) ≤ ct_cut n g (fun i => X i && !Y i) := ct_lam_le hs ht (by simp [hX1, y3]) (by simp [hX2])
      have d2 : ct_lam n g w v ≤ ct_cut n g (fun i => Y i && !X i) := ct_lam_le hw hv (by simp [y2, hXw]) (by simp [hXv])
      omega
    constructor
    · obtain ⟨Y, y1, y2, y3⟩ := ct_lam_at g hv (show v ≠ s by omega)
      rw [← y3]
      cases yw : Y w with
      | false => exact ct_lam_le hv hw y1 yw
      | true =>
        cases yt : Y (p s) with
        | true =>
          have := ct_lam_le (g := g) (X := Y) ht hs yt y2
          have := sy hs ht
          omega
        | false => exact diff Y y1 yw y2 yt
    · obtain ⟨Y, y1, y2, y3⟩ := ct_lam_at g hw (show w ≠ p s by omega)
      rw [← y3, ← vw]
      cases yv : Y v with
      | false => rw [vw]; exact ct_lam_le hw hv y1 yv
      | true =>
        cases ys : Y s with
        | true =>
          have := ct_lam_le (g := g) (X := Y) hs ht ys y2
          omega
        | false => exact diff Y yv y1 ys y2
  refine ⟨fun u h1 h2 h3 => ?_, step, fun v w h1 h2 hv hw hne => ?_⟩
  · rw [qs u (by omega)]
    by_cases e : u = s
    · subst e
      exact ⟨hts, hmax⟩
    · exact i1 u h1 (by omega) h3
  · by_cases c : p v = p w
    · have hv2 := hq v hv
      have hw2 := hq w hw
      unfold ct_hang at hv2 hw2
      by_cases c2 : p v = p s
      · cases hXv : X v with
        | true =>
          rw [if_pos ⟨by omega, hXv, c2⟩] at hv2
          cases hXw : X w with
          | true =>
            rw [if_pos ⟨by omega, hXw, by rw [← c]; exact c2⟩] at hw2
            exact absurd (by rw [hv2, hw2]) hne
          | false =>
            rw [hv2]
            exact (part v w (by omega) (by omega) hv hw c2 (by rw [← c]; exact c2) hXv hXw).1
        | false =>
          rw [if_neg (fun z => by rw [hXv] at z; exact absurd z.2.1 (by decide))] at hv2
          cases hXw : X w with
          | true =>
            rw [hv2, c2]
            exact (part w v (by omega) (by omega) hw hv (by rw [← c]; exact c2) c2 hXw hXv).2
          | false =>
            rw [if_neg (fun z => by rw [hXw] at z; exact absurd z.2.1 (by decide))] at hw2
            exact absurd (by rw [hv2, hw2]; exact c) hne
      · rw [if_neg (fun z => c2 z.2.2)] at hv2
        rw [if_neg (fun z => c2 (c.trans z.2.2))] at hw2
        exact absurd (by rw [hv2, hw2]; exact c) hne
    · refine Nat.le_trans (i3 v w (by omega) (by omega) hv hw c) ?_
      exact (step v h1 hv).2 (p v) (by have := (i2 v (by omega) hv).1; omega)
theorem ct_I_T {n : Nat} {g p : Nat → Nat} (h : ct_I n g p n) : ct_T n g p := fun u h1 h2 => h.1 u h1 h2 h2
/-! ===== what the tree tells ===== -/
theorem ct_T_min {n : Nat} {g p : Nat → Nat} (hn : n ≤ 8) (hg : ct_G g) (hT : ct_T n g p) {u j : Nat} (h1 : j < u) (h2 : u < n) : ct_lam n g u j = min (ct_lam n g u (p u)) (ct_LL n g (p u) j) := by
  obtain ⟨a1, a2⟩ := hT u (by omega) h2
  have b1 := a2 j h1
  have hb := ct_lam_bound hn hg (u := u) (v := p u) h2 (by omega) (by omega)
  unfold ct_LL
  by_cases e : p u = j
  · rw [if_pos e, ← e]; omega
  · rw [if_neg e]
    have c1 := ct_lam_ultra (g := g) (u := u) (v := p u) (w := j) h2 (by omega) (by omega) (by omega)
    have c2 := ct_lam_ultra (g := g) (u := p u) (v := u) (w := j) (by omega) h2 (by omega) e
    have c3 := ct_lam_symm hn hg (u := p u) (v := u) (by omega) h2
    omega
theorem ct_LL_symm {n : Nat} {g : Nat → Nat} (hn : n ≤ 8) (hg : ct_G g) {u v : Nat} (hu : u < n) (hv : v < n) : ct_LL n g u v = ct_LL n g v u := by
  unfold ct_LL
  by_cases e : u = v
  · rw [if_pos e, if_pos e.symm]
  · rw [if_neg e, if_neg (Ne.symm e)]; exact ct_lam_symm hn hg hu hv
theorem ct_dp_more {n : Nat} {p : Nat → Nat} (hp : ∀ u, 1 ≤ u → u < n → p u < u) : ∀ k u, u ≤ k → u < n → ct_dp p k u = ct_dp p u u := by
  intro k
  induction k using Nat.strongRecOn with
  | ind k ih =>
    intro u h1 h2
    by_cases e : u = 0
    · subst e
      cases k with
      | zero => rfl
      | succ k => rfl
    · obtain ⟨k', rfl⟩ : ∃ k', k = k' + 1 := ⟨k - 1, by omega⟩
      obtain ⟨u', rfl⟩ : ∃ u', u = u' + 1 := ⟨u - 1, by omega⟩
      have hpu := hp (u' + 1) (by omega) h2
      show (if u' + 1 = 0 then 0 else ct_dp p k' (p (u' + 1)) + 1) = (if u' + 1 = 0 then 0 else ct_dp p u' (p (u' + 1)) + 1)
      rw [if_neg e, if_neg e]
      rw [ih k' (by omega) (p (u' + 1)) (by omega) (by omega)]
      by_cases e2 : u' < k' + 1
      · rw [ih u' (by omega) (p (u' + 1)) (by omega) (by omega)]
      · rw [show u' = k' by omega, ih k' (by omega) (p (k' + 1)) (by rw [show k' = u' by omega]; omega) (by rw [show k' = u' by omega]; omega)]
theorem ct_dp_0 (p : Nat → Nat) : ct_dp p 0 0 = 0 := rfl
theorem ct_dp_s {n : Nat} {p : Nat → Nat} (hp : ∀ u, 1 ≤ u → u < n → p u < u) {u : Nat} (h1 : 1 ≤ u) (h2 : u < n) : ct_dp p u u = ct_dp p (p u) (p u) + 1 := by
  obtain ⟨u', rfl⟩ : ∃ u', u = u' + 1 := ⟨u - 1, by omega⟩
  have hpu := hp (u' + 1) h1 h2
  show (if u' + 1 = 0 then 0 else ct_dp p u' (p (u' + 1)) + 1) = _
  rw [if_neg (by omega), ct_dp_more hp u' _ (by omega) (by omega)]
theorem ct_dp_pos {n : Nat} {p : Nat → Nat} (hp : ∀ u, 1 ≤ u → u < n → p u < u) {u : Nat} (h2 : u < n) (h : ct_dp p u u = 0) : u = 0 := by
  by_cases e : u = 0
  · exact e
  · rw [ct_dp_s hp (by omega) h2] at h; omega
theorem ct_dp_le {n : Nat} {p : Nat → Nat} (hp : ∀ u, 1 ≤ u → u < n → p u < u) : ∀ k u, u < k → u < n → ct_dp p u u ≤ u := by
  intro k
  induction k with
  | zero => intro u h; omega
  | succ k ih =>
    intro u h1 h2
    by_cases e : u = 0
    · subst e; exact Nat.le_refl _
    · have hpu := hp u (by omega) h2
      rw [ct_dp_s hp (by omega) h2]
      have := ih (p u) (by omega) (by omega)
      omega
/-- the deeper of two points goes up -/
theorem ct_T_up {n : Nat} {g p : Nat → Nat} (hn : n ≤ 8) (hg : ct_G g) (hT : ct_T n g p) : ∀ k x y, y < k → x < n → y < n → x ≠ y → ct_dp p y y ≤ ct_dp p x x → 1 ≤ x ∧ ct_lam n g x y = min (ct_lam n g x (p x)) (ct_LL n g (p x) y) := by
  have hp : ∀ u, 1 ≤ u → u < n → p u < u := fun u h1 h2 => (hT u h1 h2).1
  intro k
  induction k with
  | zero => intro x y h; omega
  | succ k ih =>
    intro x y hk hx hy hne hd
    have hx1 : 1 ≤ x := by
      rcases Nat.eq_zero_or_pos x with e | e
      · subst e
        have : ct_dp p 0 0 = 0 := rfl
        have := ct_dp_pos hp hy (by omega)
        omega
      · exact e
    refine ⟨hx1, ?_⟩
    rcases Nat.lt_or_ge y x with q | q
    · exact ct_T_min hn hg hT q hx
    · have hy1 : x < y := by omega
      have hpy := hp y (by omega) hy
      have hpx := hp x hx1 hx
      have d2 := ct_dp_s hp (show 1 ≤ y by omega) hy
      have hne2 : x ≠ p y := fun e => by rw [← e] at d2; omega
      have e1 := ct_T_min hn hg hT hy1 hy
      have e2 := (ih x (p y) (by omega) hx (by omega) hne2 (by omega)).2
      have e3 := ct_T_min hn hg hT (show p x < y by omega) hy
      have e4 := ct_LL_symm hn hg (u := p y) (v := p x) (by omega) (by omega)
      have e5 := ct_lam_symm hn hg hx hy
      have e6 : ct_LL n g (p y) x = ct_lam n g x (p y) := by
        rw [ct_LL_symm hn hg (by omega) hx]
        unfold ct_LL
        rw [if_neg hne2]
      have e7 : ct_LL n g (p x) y = ct_lam n g y (p x) := by
        rw [ct_LL_symm hn hg (by omega) hy]
        unfold ct_LL
        rw [if_neg (by omega)]
      omega
/-- a point's link to its predecessor is the strongest: groups -/
theorem ct_T_group {n : Nat} {g p : Nat → Nat} (hT : ct_T n g p) {u : Nat} (h1 : 1 ≤ u) (h2 : u < n) (K : Nat → Prop) (hK : ∀ a b, a ≤ b → K a → K b) : K (ct_lam n g u (p u)) ↔ ∃ j, j < u ∧ K (ct_lam n g u j) := by
  obtain ⟨a1, a2⟩ := hT u h1 h2
  exact ⟨fun h => ⟨p u, a1, h⟩, fun ⟨j, hj, h⟩ => hK _ _ (a2 j hj) h⟩
/-- the lightest cut of all -/
theorem ct_T_cut {n : Nat} {g p : Nat → Nat} (hT : ct_T n g p) {X : Nat → Bool} {a b : Nat} (ha : a < n) (hb : b < n) (hXa : X a = true) (hXb : X b = false) : ∃ u, 1 ≤ u ∧ u < n ∧ (ct_lam n g u (p u) ≤ ct_cut n g X ∨ ct_lam n g (p u) u ≤ ct_cut n g X) := by
  have key : ∀ k x, x < k → x < n → X x ≠ X 0 → ∃ u, 1 ≤ u ∧ u < n ∧ X u ≠ X (p u) := by
    intro k
    induction k with
    | zero => intro x h; omega
    | succ k ih =>
      intro x h1 h2 h3
      have hx : 1 ≤ x := by
        rcases Nat.eq_zero_or_pos x with e | e
        · rw [e] at h3; exact absurd rfl h3
        · exact e
      have hpx := (hT x hx h2).1
      by_cases e : X x = X (p x)
      · exact ih (p x) (by omega) (by omega) (by rw [← e]; exact h3)
      · exact ⟨x, hx, h2, e⟩
  have : ∃ x, x < n ∧ X x ≠ X 0 := by
    cases h0 : X 0 with
    | true => exact ⟨b, hb, by rw [hXb]; decide⟩
    | false => exact ⟨a, ha, by rw [hXa]; decide⟩
  obtain ⟨x, hx, hne⟩ := this
  obtain ⟨u, h1, h2, h3⟩ := key (x + 1) x (by omega) hx hne
  have hpu := (hT u h1 h2).1
  refine ⟨u, h1, h2, ?_⟩
  cases hu : X u with
  | true => exact Or.inl (ct_lam_le h2 (by omega) hu (by cases hq : X (p u) with | false => rfl | true => rw [hu, hq] at h3; exact absurd rfl h3))
  | false => exact Or.inr (ct_lam_le (by omega) h2 (by cases hq : X (p u) with | true => rfl | false => rw [hu, hq] at h3; exact absurd rfl h3) hu)
/-- a set that is closed along the strong edges holds all that is linked as strongly -/
theorem ct_T_closed {n : Nat} {g p : Nat → Nat} (hn : n ≤ 8) (hg : ct_G g) (hT : ct_T n g p) (K : Nat → Prop) (hK : ∀ a b, a ≤ b → K a → K b) {X : Nat → Bool} (hX : ∀ v, 1 ≤ v → v < n → K (ct_lam n g v (p v)) → X v = X (p v)) : ∀ k u v, u + v < k → u < n → v < n → (u = v ∨ K (ct_lam n g u v)) → X u = true → X v = true := by
  intro k
  induction k with
  | zero => intro u v h; omega
  | succ k ih =>
    intro u v hk hu hv h hXu
    by_cases e : u = v
    · rw [← e]; exact hXu
    · have hl : K (ct_lam n g u v) := h.resolve_left e
      rcases Nat.lt_or_ge v u with q | q
      · have hp := (hT u (by omega) hu).1
        have m := ct_T_min hn hg hT q hu
        have k1 : K (ct_lam n g u (p u)) := hK _ _ (by omega) hl
        refine ih (p u) v (by omega) (by omega) hv ?_ (by rw [← hX u (by omega) hu k1]; exact hXu)
        by_cases e2 : p u = v
        · exact Or.inl e2
        · refine Or.inr (hK _ _ ?_ hl)
          unfold ct_LL at m
          rw [if_neg e2] at m
          omega
      · have q2 : u < v := by omega
        have hp := (hT v (by omega) hv).1
        have m := ct_T_min hn hg hT q2 hv
        have sy := ct_lam_symm hn hg hu hv
        have k1 : K (ct_lam n g v (p v)) := hK _ _ (by omega) hl
        rw [hX v (by omega) hv k1]
        refine ih u (p v) (by omega) hu (by omega) ?_ hXu
        by_cases e2 : p v = u
        · exact Or.inl e2.symm
        · refine Or.inr (hK _ _ ?_ hl)
          unfold ct_LL at m
          rw [if_neg e2] at m
          have sy2 := ct_lam_symm hn hg hu (show p v < n by omega)
          omega
/-- and one that grows along the strong edges alone holds no other -/
theorem ct_T_sound {n : Nat} {g p : Nat → Nat} (hT : ct_T n g p) (hn : n ≤ 8) (hg : ct_G g) (K : Nat → Prop) (hK : ∀ a b, a ≤ b → K a → K b) {u0 v : Nat} (hu : u0 < n) (h1 : 1 ≤ v) (h2 : v < n) (hk : K (ct_lam n g v (p v))) : ((u0 = v ∨ K (ct_lam n g u0 v)) ↔ (u0 = p v ∨ K (ct_lam n g u0 (p v)))) := by
  have hp := (hT v h1 h2).1
  have sy := ct_lam_symm hn hg h2 (show p v < n by omega)
  constructor
  · intro h
    by_cases e : u0 = p v
    · exact Or.inl e
    · rcases h with rfl | h
      · exact Or.inr hk
      · refine Or.inr ?_
        rcases ct_lam_ultra (g := g) (u := u0) (v := v) (w := p v) hu h2 (by omega) e with q | q
        · exact hK _ _ q h
        · exact hK _ _ q hk
  · intro h
    by_cases e : u0 = v
    · exact Or.inl e
    · rcases h with rfl | h
      · exact Or.inr (by rw [← sy]; exact hk)
      · refine Or.inr ?_
        rcases ct_lam_ultra (g := g) (u := u0) (v := p v) (w := v) hu (by omega) h2 e with q | q
        · exact hK _ _ q h
        · exact hK _ _ q (by rw [← sy]; exact hk)
end
section
/-! ===== numbers ===== -/
theorem ct_updN (g : Nat → Nat) (k y : Nat) : upd (fun i => nI (g i)) k (nI y) = fun i => nI (ct_up g k y i) := by
  funext i
  unfold upd ct_up
  split <;> rfl
theorem ct_updB (g : Nat → Nat) (k : Nat) {y : Nat} (h : y < 128) : upd (fun i => nI (g i)) k (vp_nar .byte (nI y)) = fun i => nI (ct_up g k y i) := by
  rw [vp_nar_byte, fa_byte_small h, ct_updN]
theorem ct_updZ (f : Nat → Int) (k : Nat) (y : Int) : upd (fun i => ct_z (f i)) k (ct_z y) = fun i => ct_z (ct_upz f k y i) := by
  funext i
  unfold upd ct_upz
  split <;> rfl
theorem ct_z_nat (k : Nat) : ct_z (k : Int) = nI k := by
  unfold ct_z nI
  exact Int32.ofInt_eq_ofNat
theorem ct_z_add (a b : Int) : ct_z a + ct_z b = ct_z (a + b) := by
  unfold ct_z
  exact (Int32.ofInt_add a b).symm
theorem ct_z_sub (a b : Int) : ct_z a - ct_z b = ct_z (a - b) := by
  unfold ct_z
  exact (Int32.ofInt_sub a b).symm
theorem ct_z_toInt {a : Int} (h1 : -2147483648 ≤ a) (h2 : a < 2147483648) : (ct_z a).toInt = a := fb_ofI h1 h2
theorem ct_z_lt {a b : Int} (a1 : -2147483648 ≤ a) (a2 : a < 2147483648) (b1 : -2147483648 ≤ b) (b2 : b < 2147483648) : ct_z a < ct_z b ↔ a < b := by
  rw [fa_lt, ct_z_toInt a1 a2, ct_z_toInt b1 b2]
theorem ct_z_le {a b : Int} (a1 : -2147483648 ≤ a) (a2 : a < 2147483648) (b1 : -2147483648 ≤ b) (b2 : b < 2147483648) : ct_z a ≤ ct_z b ↔ a ≤ b := by
  rw [fa_le, ct_z_toInt a1 a2, ct_z_toInt b1 b2]
theorem ct_shl {u : Nat} (h : u < 31) : (nI 1) <<< (nI u &&& 31) = nI (2 ^ u) := by
  have h31 : ∀ u : Nat, u < 32 → ((nI u &&& 31).toBitVec.smod 32).toNat = u := by decide +kernel
  have h2 : (2 : Nat) ^ u < 2 ^ 31 := Nat.pow_lt_pow_right (by decide) h
  rw [pk_shlN (n := 1) (nI u &&& 31) u (h31 u (by omega)) (by omega), Nat.one_mul]
theorem ct_shr {S u : Nat} (hS : S < 2 ^ 31) (h : u < 32) : nI S >>> (nI u &&& 31) = nI (S / 2 ^ u) := by
  have h31 : ∀ u : Nat, u < 32 → ((nI u &&& 31).toBitVec.smod 32).toNat = u := by decide +kernel
  exact pk_shrN hS _ u (h31 u h)
theorem ct_and1 (S : Nat) : nI S &&& nI 1 = nI (S % 2) := by
  have := fa_mask S 1
  simpa using this
theorem ct_bit_t {S u : Nat} (h : S.testBit u = true) : S / 2 ^ u % 2 = 1 := by
  rw [Nat.testBit_eq_decide_div_mod_eq] at h
  simpa using h
theorem ct_bit_f {S u : Nat} (h : S.testBit u = false) : S / 2 ^ u % 2 = 0 := by
  rw [Nat.testBit_eq_decide_div_mod_eq] at h
  have h2 : ¬ S / 2 ^ u % 2 = 1 := by simpa using h
  omega
theorem ct_pow8 {n : Nat} (h : n ≤ 8) : 2 ^ n ≤ 256 := Nat.pow_le_pow_right (n := 2) (by decide) h
theorem ct_narrow_bool {r : Int32} (h : r = 0 ∨ r = 1) : narrow .boolean (.int r) = .int r := by
  rcases h with rfl | rfl <;> rfl
/-! ===== worlds: class 0 the tree, class 1 the reference ===== -/
abbrev vwCl : List vw_C := [(RX1, TX1, 9), (RX2, TX2, 2)]
abbrev wM (h a : Nat) (dA : ClassId) (n : Nat) (g : Nat → Nat) : va_W := [(h, .inr (1, [.int (nI n), .ref a])), (a, .inl (dA, 64, .inl (fun i => nI (g i))))]
abbrev wT (ad : Nat → Nat) (dd : Nat → ClassId) (n : Nat) (g : Nat → Nat) (f : Nat → Int) (cf qu : Nat → Nat) (R b : Nat) (ho hb : Nat → Nat) : va_W :=
  [(ad 0, .inr (0, [.int (nI n), .ref (ad 1), .ref (ad 2), .ref (ad 3), .ref (ad 4), .int (nI R), .int (nI b), .ref (ad 5), .ref (ad 6)])),
   (ad 1, .inl (dd 1, 64, .inl (fun i => nI (g i)))), (ad 2, .inl (dd 2, 64, .inl (fun i => ct_z (f i)))), (ad 3, .inl (dd 3, 8, .inl (fun i => nI (cf i)))), (ad 4, .inl (dd 4, 8, .inl (fun i => nI (qu i)))),
   (ad 5, .inl (dd 5, 8, .inl (fun i => nI (ho i)))), (ad 6, .inl (dd 6, 8, .inl (fun i => nI (hb i))))]
abbrev tyT (dd : Nat → ClassId) : List (ClassId × FieldType) := [(dd 1, .byte), (dd 2, .int), (dd 3, .byte), (dd 4, .byte), (dd 5, .byte), (dd 6, .int)]
abbrev tyM (dA : ClassId) : List (ClassId × FieldType) := [(dA, .int)]
/-- the room of a method with k calls below it -/
abbrev kt_rm (k : Nat) : Room := { frames := k, cells := 0, slots := 0, locals := 27 * k }
/-- a contract, answer an int (or a truth value): from the cells ws it comes to the cells w1 u, with 'post answer u' -/
def kt_Mi (l : Launch) (y : MethodName) (cc : ByteArray) (nL : Nat) (ty : FieldType) (k : Nat) (D : va_G) (tys : List (ClassId × FieldType)) (ws : va_W) (av : List Value) {S : Type} (post : Int32 → S → Prop) (w1 : S → va_W) : Prop :=
  ∀ sz : Nat, Met l y (ws_ y cc nL (some ty)) (kt_rm k) (va_Pc av (fun U => U.heap.size = sz ∧ va_P D vwCl ws U.heap ∧ va_K D vwCl tys U ∧ va_D (fun _ => True) ws)) (va_Qi post (fun u t => va_P D vwCl (w1 u) t.heap ∧ va_K D vwCl tys t ∧ va_D (va_A ws sz) (w1 u)) (va_A ws sz)) 0 0 (va_A ws sz)
def kt_Mv (l : Launch) (y : MethodName) (cc : ByteArray) (nL : Nat) (k : Nat) (D : va_G) (tys : List (ClassId × FieldType)) (ws : va_W) (av : List Value) {S : Type} (post : S → Prop) (w1 : S → va_W) : Prop :=
  ∀ sz : Nat, Met l y (ws_ y cc nL none) (kt_rm k) (va_Pc av (fun U => U.heap.size = sz ∧ va_P D vwCl ws U.heap ∧ va_K D vwCl tys U ∧ va_D (fun _ => True) ws)) (va_Qv post (fun u t => va_P D vwCl (w1 u) t.heap ∧ va_K D vwCl tys t ∧ va_D (va_A ws sz) (w1 u)) (va_A ws sz)) 0 0 (va_A ws sz)
theorem kt_inI {l : Launch} {y : MethodName} {cc : ByteArray} {nL : Nat} {ty : FieldType} {k : Nat} {D : va_G} {tys : List (ClassId × FieldType)} {ws : va_W} {av : List Value} {S : Type} {post : Int32 → S → Prop} {w1 : S → va_W} (hy : plainName y.cls = true) (hnL : (lg_sl av).length ≤ nL) (hn : ∀ r u, post r u → narrow ty (.int r) = .int r)
    (body : ∀ (p : Program) (e : Env) (s : State) (m : MethodId) (args : Array Value) (below : List Frame) (meth : Method) (c : Code) (A : Nat → Prop) (Q : State → Prop) (H : Heap) (ls : Array Slot),
      CallFix p m c cc nL s args lw_all y.cls → (∀ q, s.heap.size ≤ q → A q) → va_K D vwCl tys s → va_P D vwCl ws H → va_D A ws → va_S A s.heap H [] → lv_has ls nL (lv_args 0 av) →
      (∀ (r : Int32) (u : S) (H' : Heap) (locs : List Loc) (pc : Nat) (ls' : Array Slot), post r u → va_P D vwCl (w1 u) H' → va_D A (w1 u) → va_S A s.heap H' locs → decode cc pc = .ok (.ireturn, 1) → W p l e (kt_rm k) s m args below meth c H' locs 0 0 Q (F0 m pc ls' [.int r])) →
      W p l e (kt_rm k) s m args below meth c H [] 0 0 Q (F0 m 0 ls [])) : kt_Mi l y cc nL ty k D tys ws av post w1 := by
  intro sz
  refine Met.ofW (cc := cc) (maxL := nL) (ret := some ty) hy rfl ?_
  intro p e s m args below meth c s₁ B hml hv
  obtain ⟨rfl, hsz, hP, hK, hD0⟩ := hv
  subst hsz
  have hts := atoms_spec (ws := ws_ y cc nL (some ty)) B.pre
  have hts : ∀ w ∈ lw_all, w.before _ s = true := fun w h => hts w (List.mem_cons_of_mem _ h)
  have hD := hD0.self (sz := s.heap.size)
  rw [lg_entry_eq]
  refine body p e s m av.toArray below meth c (va_A ws s.heap.size) _ s.heap _ ⟨B.exec, B.bytes, hml, findClass_of_methodNamed B.named, hts⟩ (fun q h => Or.inr h) hK hP hD va_S.rf (lv_entry av hnL) ?_
  intro r u H' locs pc ls' hp hP' hD' hS' hd
  exact W.zret B.exec B.bytes B.returns (hn r u hp) (fun t ht hW => ⟨⟨r, u, rfl, hp, by rw [ht]; exact hP', va_K.moved hW.alike hK, hD'⟩, hS'.F ht⟩) hS'.2.2 hd B.notSynchronized
theorem kt_inV {l : Launch} {y : MethodName} {cc : ByteArray} {nL : Nat} {k : Nat} {D : va_G} {tys : List (ClassId × FieldType)} {ws : va_W} {av : List Value} {S : Type} {post : S → Prop} {w1 : S → va_W} (hy : plainName y.cls = true) (hnL : (lg_sl av).length ≤ nL)
    (body : ∀ (p : Program) (e : Env) (s : State) (m : MethodId) (args : Array Value) (below : List Frame) (meth : Method) (c : Code) (A : Nat → Prop) (Q : State → Prop) (H : Heap) (ls : Array Slot),
      CallFix p m c cc nL s args lw_all y.cls → (∀ q, s.heap.size ≤ q → A q) → va_K D vwCl tys s → va_P D vwCl ws H → va_D A ws → va_S A s.heap H [] → lv_has ls nL (lv_args 0 av) →
      (∀ (u : S) (H' : Heap) (locs : List Loc) (pc : Nat) (ls' : Array Slot), post u → va_P D vwCl (w1 u) H' → va_D A (w1 u) → va_S A s.heap H' locs → decode cc pc = .ok (.return_, 1) → W p l e (kt_rm k) s m args below meth c H' locs 0 0 Q (F0 m pc ls' [])) →
      W p l e (kt_rm k) s m args below meth c H [] 0 0 Q (F0 m 0 ls [])) : kt_Mv l y cc nL k D tys ws av post w1 := by
  intro sz
  refine Met.ofW (cc := cc) (maxL := nL) (ret := none) hy rfl ?_
  intro p e s m args below meth c s₁ B hml hv
  obtain ⟨rfl, hsz, hP, hK, hD0⟩ := hv
  subst hsz
  have hts := atoms_spec (ws := ws_ y cc nL none) B.pre
  have hts : ∀ w ∈ lw_all, w.before _ s = true := fun w h => hts w (List.mem_cons_of_mem _ h)
  have hD := hD0.self (sz := s.heap.size)
  rw [lg_entry_eq]
  refine body p e s m av.toArray below meth c (va_A ws s.heap.size) _ s.heap _ ⟨B.exec, B.bytes, hml, findClass_of_methodNamed B.named, hts⟩ (fun q h => Or.inr h) hK hP hD va_S.rf (lv_entry av hnL) ?_
  intro u H' locs pc ls' hp hP' hD' hS' hd
  exact W.vret B.exec B.bytes B.returns (fun t ht hW => ⟨⟨u, rfl, hp, by rw [ht]; exact hP', va_K.moved hW.alike hK, hD'⟩, hS'.F ht⟩) hS'.2.2 hd B.notSynchronized
section KT
variable {p : Program} {l : Launch} {e : Env} {R : Room} {s : State} {m : MethodId} {args : Array Value} {below : List Frame} {meth : Method} {c : Code} {H : Heap} {locs : List Loc} {cells slots : Nat} {Q : State → Prop}
variable {cc : ByteArray} {pc nL : Nat} {ls : Array Slot} {rest st : List Value} {D : va_G} {A : Nat → Prop} {a : Nat} {tys tysC : List (ClassId × FieldType)} {ws wc wr : va_W} {H0 : Heap} {own : String}
/-- a call through an object, answer an int: the callee's cells wc are some of ours (isC), the rest (isR) stays -/
theorem kt_callI {y : MethodName} {cd : ByteArray} {nC k n idx ci b : Nat} {ty : FieldType} {S : Type} {post : Int32 → S → Prop} {w1 : S → va_W} {As : List Value} {C : String} {q0 : vw_C} {fs : List Value} (B : CallFix p m c cc nL s args lw_all own) (hM : kt_Mi l y cd nC ty k D tysC wc (.ref b :: As) post w1)
    (cw : CallW R s args own C idx y cd nC (some ty) (ws_ y cd nC (some ty)) (kt_rm k) 0 0 n) (isC isR isT : List Nat) (hC : isC.map (fun i => ws[i]?) = wc.map some) (hC2 : isC.filterMap (fun i => ws[i]?) = wc) (hnC : va_nd isC = true) (hR : isR.map (fun i => ws[i]?) = wr.map some) (hnR : va_nd isR = true) (hdis : ∀ i ∈ isR, i ∉ isC)
    (hT : isT.filterMap (fun i => tys[i]?) = tysC) (hA : ∀ q, s.heap.size ≤ q → A q) (hK : va_K D vwCl tys s) (hP : va_P D vwCl ws H) (hD : va_D A ws) (hS : va_S A s.heap H locs) (hci : vwCl[ci]? = some q0) (hq : q0.1 = C) (he : wc[0]? = some (b, .inr (ci, fs))) (hn : As.length = n) (hsz : ls.size = nL) (hst : st = As.reverse ++ .ref b :: rest)
    (hrm : (rest.map fun v => v.category).sum ≤ 8) (hd : decode cc pc = .ok (.invokevirtual idx, 3)) (hf : cells ≤ R.cells ∧ slots ≤ R.slots)
    (kk : ∀ (r : Int32) (u : S) (H1 : Heap) (locs1 : List Loc), post r u → va_P D vwCl (wr ++ w1 u) H1 → va_D A (wr ++ w1 u) → va_S A s.heap H1 locs1 → W p l e R s m args below meth c H1 locs1 cells slots Q (F0 m (pc + 3) ls (.int r :: rest))) : W p l e R s m args below meth c H locs cells slots Q (F0 m pc ls st) := by
  have hPc := hP.sub isC hC2
  have hDc := hD.sub isC hnC hC
  have hKc := hK.sub isT hT
  have hFc := va_free hD hS hA isC hC
  subst hst
  subst hq
  refine va_calli (va_runV (As := As) (rest := rest) B (hM H.size) cw ⟨fun a U g mk q => by obtain ⟨q0, q1, qP, qK, qD⟩ := q; exact ⟨q0, q1, qP, va_K.moved (u := U) (U := U.calling g mk a) (Vm.Alike.refl U.vm) qK, qD⟩, va_recv hKc hPc hci he, fun U hU hW => ⟨rfl, by rw [hU], by rw [hU]; exact hPc, va_K.moved hW.alike hKc, hDc.weaken (fun _ _ _ _ => trivial)⟩⟩ rfl hn hsz rfl (lv_room hrm) hd hf) hS (fun q _ h => hFc q h) hFc (fun r u t H1 locs ht hvm hw hB hz1 hk1 hS => ?_)
  obtain ⟨hP1, hK1, hD1⟩ := hB
  rw [ht] at hP1
  obtain ⟨hP2, hD2⟩ := va_join hP hD isC isR hC hR hnR hdis hk1 hFc hP1 hD1
  exact kk r u H1 locs hw hP2 hD2 hS
theorem kt_callV {y : MethodName} {cd : ByteArray} {nC k n idx ci b : Nat} {S : Type} {post : S → Prop} {w1 : S → va_W} {As : List Value} {C : String} {q0 : vw_C} {fs : List Value} (B : CallFix p m c cc nL s args lw_all own) (hM : kt_Mv l y cd nC k D tysC wc (.ref b :: As) post w1)
    (cw : CallW R s args own C idx y cd nC none (ws_ y cd nC none) (kt_rm k) 0 0 n) (isC isR isT : List Nat) (hC : isC.map (fun i => ws[i]?) = wc.map some) (hC2 : isC.filterMap (fun i => ws[i]?) = wc) (hnC : va_nd isC = true) (hR : isR.map (fun i => ws[i]?) = wr.map some) (hnR : va_nd isR = true) (hdis : ∀ i ∈ isR, i ∉ isC)
    (hT : isT.filterMap (fun i => tys[i]?) = tysC) (hA : ∀ q, s.heap.size ≤ q → A q) (hK : va_K D vwCl tys s) (hP : va_P D vwCl ws H) (hD : va_D A ws) (hS : va_S A s.heap H locs) (hci : vwCl[ci]? = some q0) (hq : q0.1 = C) (he : wc[0]? = some (b, .inr (ci, fs))) (hn : As.length = n) (hsz : ls.size = nL) (hst : st = As.reverse ++ .ref b :: rest)
    (hrm : (rest.map fun v => v.category).sum ≤ 8) (hd : decode cc pc = .ok (.invokevirtual idx, 3)) (hf : cells ≤ R.cells ∧ slots ≤ R.slots)
    (kk : ∀ (u : S) (H1 : Heap) (locs1 : List Loc), post u → va_P D vwCl (wr ++ w1 u) H1 → va_D A (wr ++ w1 u) → va_S A s.heap H1 locs1 → W p l e R s m args below meth c H1 locs1 cells slots Q (F0 m (pc + 3) ls rest)) : W p l e R s m args below meth c H locs cells slots Q (F0 m pc ls st) := by
  have hPc := hP.sub isC hC2
  have hDc := hD.sub isC hnC hC
  have hKc := hK.sub isT hT
  have hFc := va_free hD hS hA isC hC
  subst hst
  subst hq
  refine va_callv (va_runV (As := As) (rest := rest) B (hM H.size) cw ⟨fun a U g mk q => by obtain ⟨q0, q1, qP, qK, qD⟩ := q; exact ⟨q0, q1, qP, va_K.moved (u := U) (U := U.calling g mk a) (Vm.Alike.refl U.vm) qK, qD⟩, va_recv hKc hPc hci he, fun U hU hW => ⟨rfl, by rw [hU], by rw [hU]; exact hPc, va_K.moved hW.alike hKc, hDc.weaken (fun _ _ _ _ => trivial)⟩⟩ rfl hn hsz rfl (lv_room hrm) hd hf) hS (fun q _ h => hFc q h) hFc (fun u t H1 locs ht hvm hw hB hz1 hk1 hS => ?_)
  obtain ⟨hP1, hK1, hD1⟩ := hB
  rw [ht] at hP1
  obtain ⟨hP2, hD2⟩ := va_join hP hD isC isR hC hR hnR hdis hk1 hFc hP1 hD1
  exact kk u H1 locs hw hP2 hD2 hS
/-- the top of the stack by another name -/
theorem kt_e {x y : Int32} (h : x = y) (k : W p l e R s m args below meth c H locs cells slots Q (F0 m pc ls (.int y :: rest))) : W p l e R s m args below meth c H locs cells slots Q (F0 m pc ls (.int x :: rest)) := by rw [h]; exact k
theorem kn_iadd (hexec : p.tables.exec = Jvm.exec) (hb : c.code = cc) {x y : Nat} (hdg : decode cc pc = .ok (.iadd, 1))
    (k : W p l e R s m args below meth c H locs cells slots Q (F0 m (pc + 1) ls (.int (nI (x + y)) :: rest))) : W p l e R s m args below meth c H locs cells slots Q (F0 m pc ls (.int (nI y) :: .int (nI x) :: rest)) := lv_iadd hexec hb hdg (kt_e (nI_add x y) k)
theorem kn_imul (hexec : p.tables.exec = Jvm.exec) (hb : c.code = cc) {x y : Nat} (hdg : decode cc pc = .ok (.imul, 1))
    (k : W p l e R s m args below meth c H locs cells slots Q (F0 m (pc + 1) ls (.int (nI (x * y)) :: rest))) : W p l e R s m args below meth c H locs cells slots Q (F0 m pc ls (.int (nI y) :: .int (nI x) :: rest)) := lv_imul hexec hb hdg (kt_e (pk_mul x y) k)
theorem kn_isub (hexec : p.tables.exec = Jvm.exec) (hb : c.code = cc) {x y : Nat} (h : y ≤ x) (hdg : decode cc pc = .ok (.isub, 1))
    (k : W p l e R s m args below meth c H locs cells slots Q (F0 m (pc + 1) ls (.int (nI (x - y)) :: rest))) : W p l e R s m args below meth c H locs cells slots Q (F0 m pc ls (.int (nI y) :: .int (nI x) :: rest)) := lv_isub hexec hb hdg (kt_e (pk_sub h) k)
theorem kn_ior (hexec : p.tables.exec = Jvm.exec) (hb : c.code = cc) {x y : Nat} (hdg : decode cc pc = .ok (.ior, 1))
    (k : W p l e R s m args below meth c H locs cells slots Q (F0 m (pc + 1) ls (.int (nI (x ||| y)) :: rest))) : W p l e R s m args below meth c H locs cells slots Q (F0 m pc ls (.int (nI y) :: .int (nI x) :: rest)) := lv_ior hexec hb hdg (kt_e (fa_or x y) k)
theorem kn_iand (hexec : p.tables.exec = Jvm.exec) (hb : c.code = cc) {x y : Nat} (hdg : decode cc pc = .ok (.iand, 1))
    (k : W p l e R s m args below meth c H locs cells slots Q (F0 m (pc + 1) ls (.int (nI (x &&& y)) :: rest))) : W p l e R s m args below meth c H locs cells slots Q (F0 m pc ls (.int (nI y) :: .int (nI x) :: rest)) := lv_iand hexec hb hdg (kt_e (fa_and x y) k)
theorem kn_iand1 (hexec : p.tables.exec = Jvm.exec) (hb : c.code = cc) {x : Nat} (hdg : decode cc pc = .ok (.iand, 1))
    (k : W p l e R s m args below meth c H locs cells slots Q (F0 m (pc + 1) ls (.int (nI (x % 2)) :: rest))) : W p l e R s m args below meth c H locs cells slots Q (F0 m pc ls (.int (nI 1) :: .int (nI x) :: rest)) := lv_iand hexec hb hdg (kt_e (ct_and1 x) k)
theorem kn_shl1 (hexec : p.tables.exec = Jvm.exec) (hb : c.code = cc) {y : Nat} (h : y < 31) (hdg : decode cc pc = .ok (.ishl, 1))
    (k : W p l e R s m args below meth c H locs cells slots Q (F0 m (pc + 1) ls (.int (nI (2 ^ y)) :: rest))) : W p l e R s m args below meth c H locs cells slots Q (F0 m pc ls (.int (nI y) :: .int (nI 1) :: rest)) := lv_ishl hexec hb hdg (kt_e (ct_shl h) k)
theorem kn_shr (hexec : p.tables.exec = Jvm.exec) (hb : c.code = cc) {x y : Nat} (hx : x < 2 ^ 31) (h : y < 32) (hdg : decode cc pc = .ok (.ishr, 1))
    (k : W p l e R s m args below meth c H locs cells slots Q (F0 m (pc + 1) ls (.int (nI (x / 2 ^ y)) :: rest))) : W p l e R s m args below meth c H locs cells slots Q (F0 m pc ls (.int (nI y) :: .int (nI x) :: rest)) := lv_ishr hexec hb hdg (kt_e (ct_shr hx h) k)
theorem kn_i2b (hexec : p.tables.exec = Jvm.exec) (hb : c.code = cc) {x : Nat} (hx : x < 128) (hdg : decode cc pc = .ok (.i2b, 1))
    (k : W p l e R s m args below meth c H locs cells slots Q (F0 m (pc + 1) ls (.int (nI x) :: rest))) : W p l e R s m args below meth c H locs cells slots Q (F0 m pc ls (.int (nI x) :: rest)) := lv_i2b hexec hb hdg (fa_byte_small hx) k
/-- loads and stores at a place that is a number -/
theorem kt_il (hexec : p.tables.exec = Jvm.exec) (hb : c.code = cc) (hK : va_K D vwCl tys s) (hP : va_P D vwCl ws H) (q0 t0 : Nat) {cA : ClassId} {n : Nat} {f : Nat → Int32} {i : Nat} {v : Int32} (ha : ws[q0]? = some (a, .inl (cA, n, .inl f))) (ht : tys[t0]? = some (cA, .int)) (hi : i < n) (hn : n < 2 ^ 31) (hv : f i = v) (hdg : decode cc pc = .ok (.iaload, 1))
    (kk : W p l e R s m args below meth c H locs cells slots Q (F0 m (pc + 1) ls (.int v :: rest))) : W p l e R s m args below meth c H locs cells slots Q (F0 m pc ls (.int (nI i) :: .ref a :: rest)) :=
  va_iald hexec hb hK hP q0 t0 ha ht (vp_in_nI hi hn) hdg (by rw [nI_clamp (Nat.lt_trans hi hn), hv]; exact kk)
theorem kt_bl (hexec : p.tables.exec = Jvm.exec) (hb : c.code = cc) (hK : va_K D vwCl tys s) (hP : va_P D vwCl ws H) (q0 t0 : Nat) {cA : ClassId} {n : Nat} {f : Nat → Int32} {i : Nat} {v : Int32} (ha : ws[q0]? = some (a, .inl (cA, n, .inl f))) (ht : tys[t0]? = some (cA, .byte)) (hi : i < n) (hn : n < 2 ^ 31) (hv : f i = v) (hdg : decode cc pc = .ok (.baload, 1))
    (kk : W p l e R s m args below meth c H locs cells slots Q (F0 m (pc + 1) ls (.int v :: rest))) : W p l e R s m args below meth c H locs cells slots Q (F0 m pc ls (.int (nI i) :: .ref a :: rest)) :=
  va_bald hexec hb hK hP q0 t0 ha ht (vp_in_nI hi hn) hdg (by rw [nI_clamp (Nat.lt_trans hi hn), hv]; exact kk)
theorem kt_is (hexec : p.tables.exec = Jvm.exec) (hb : c.code = cc) (hK : va_K D vwCl tys s) (hP : va_P D vwCl ws H) (hD : va_D A ws) (hS : va_S A H0 H locs) (q0 t0 : Nat) {cA : ClassId} {n : Nat} {f f' : Nat → Int32} {i : Nat} {x : Int32} (ha : ws[q0]? = some (a, .inl (cA, n, .inl f))) (ht : tys[t0]? = some (cA, .int)) (hi : i < n) (hn : n < 2 ^ 31) (hv : upd f i x = f') (hdg : decode cc pc = .ok (.iastore, 1))
    (kk : ∀ (H1 : Heap) (locs1 : List Loc), va_P D vwCl (ws.set q0 (a, .inl (cA, n, .inl f'))) H1 → va_D A (ws.set q0 (a, .inl (cA, n, .inl f'))) → va_S A H0 H1 locs1 → W p l e R s m args below meth c H1 locs1 cells slots Q (F0 m (pc + 1) ls rest)) : W p l e R s m args below meth c H locs cells slots Q (F0 m pc ls (.int x :: .int (nI i) :: .ref a :: rest)) :=
  va_iast hexec hb hK hP hD hS q0 t0 ha ht (vp_in_nI hi hn) hdg (by rw [nI_clamp (Nat.lt_trans hi hn), hv]; exact kk)
theorem kt_bs (hexec : p.tables.exec = Jvm.exec) (hb : c.code = cc) (hK : va_K D vwCl tys s) (hP : va_P D vwCl ws H) (hD : va_D A ws) (hS : va_S A H0 H locs) (q0 t0 : Nat) {cA : ClassId} {n : Nat} {f f' : Nat → Int32} {i : Nat} {x : Int32} (ha : ws[q0]? = some (a, .inl (cA, n, .inl f))) (ht : tys[t0]? = some (cA, .byte)) (hi : i < n) (hn : n < 2 ^ 31) (hv : upd f i (vp_nar .byte x) = f') (hdg : decode cc pc = .ok (.bastore, 1))
    (kk : ∀ (H1 : Heap) (locs1 : List Loc), va_P D vwCl (ws.set q0 (a, .inl (cA, n, .inl f'))) H1 → va_D A (ws.set q0 (a, .inl (cA, n, .inl f'))) → va_S A H0 H1 locs1 → W p l e R s m args below meth c H1 locs1 cells slots Q (F0 m (pc + 1) ls rest)) : W p l e R s m args below meth c H locs cells slots Q (F0 m pc ls (.int x :: .int (nI i) :: .ref a :: rest)) :=
  va_bast hexec hb hK hP hD hS q0 t0 ha ht (vp_in_nI hi hn) hdg (by rw [nI_clamp (Nat.lt_trans hi hn), hv]; exact kk)
theorem kn_eq (hexec : p.tables.exec = Jvm.exec) (hb : c.code = cc) {x y : Nat} {off : Int} {tgt : Nat} (hdg : decode cc pc = .ok (.if_icmp .eq off, 3)) (ht : (pc : Int) + off = (tgt : Int)) (hx : x < 2 ^ 31) (hy : y < 2 ^ 31)
    (kt : x = y → W p l e R s m args below meth c H locs cells slots Q (F0 m tgt ls rest)) (kf : ¬ x = y → W p l e R s m args below meth c H locs cells slots Q (F0 m (pc + 3) ls rest)) : W p l e R s m args below meth c H locs cells slots Q (F0 m pc ls (.int (nI y) :: .int (nI x) :: rest)) :=
  lv_icmp_eq hexec hb hdg ht (fun h => kt (by exact (nI_eq hx hy).mp h)) (fun h => kf (by exact fun q => h (by rw [q])))
theorem kn_ne (hexec : p.tables.exec = Jvm.exec) (hb : c.code = cc) {x y : Nat} {off : Int} {tgt : Nat} (hdg : decode cc pc = .ok (.if_icmp .ne off, 3)) (ht : (pc : Int) + off = (tgt : Int)) (hx : x < 2 ^ 31) (hy : y < 2 ^ 31)
    (kt : ¬ x = y → W p l e R s m args below meth c H locs cells slots Q (F0 m tgt ls rest)) (kf : x = y → W p l e R s m args below meth c H locs cells slots Q (F0 m (pc + 3) ls rest)) : W p l e R s m args below meth c H locs cells slots Q (F0 m pc ls (.int (nI y) :: .int (nI x) :: rest)) :=
  lv_icmp_ne hexec hb hdg ht (fun h => kt (by exact fun q => h (by rw [q]))) (fun h => kf (by exact (nI_eq hx hy).mp h))
theorem kn_lt (hexec : p.tables.exec = Jvm.exec) (hb : c.code = cc) {x y : Nat} {off : Int} {tgt : Nat} (hdg : decode cc pc = .ok (.if_icmp .lt off, 3)) (ht : (pc : Int) + off = (tgt : Int)) (hx : x < 2 ^ 31) (hy : y < 2 ^ 31)
    (kt : x < y → W p l e R s m args below meth c H locs cells slots Q (F0 m tgt ls rest)) (kf : y ≤ x → W p l e R s m args below meth c H locs cells slots Q (F0 m (pc + 3) ls rest)) : W p l e R s m args below meth c H locs cells slots Q (F0 m pc ls (.int (nI y) :: .int (nI x) :: rest)) :=
  lv_icmp_lt hexec hb hdg ht (fun h => kt (by exact (nI_ltI hx hy).mp h)) (fun h => kf (by exact Nat.not_lt.mp (fun q => h ((nI_ltI hx hy).mpr q))))
theorem kn_ge (hexec : p.tables.exec = Jvm.exec) (hb : c.code = cc) {x y : Nat} {off : Int} {tgt : Nat} (hdg : decode cc pc = .ok (.if_icmp .ge off, 3)) (ht : (pc : Int) + off = (tgt : Int)) (hx : x < 2 ^ 31) (hy : y < 2 ^ 31)
    (kt : y ≤ x → W p l e R s m args below meth c H locs cells slots Q (F0 m tgt ls rest)) (kf : x < y → W p l e R s m args below meth c H locs cells slots Q (F0 m (pc + 3) ls rest)) : W p l e R s m args below meth c H locs cells slots Q (F0 m pc ls (.int (nI y) :: .int (nI x) :: rest)) :=
  lv_icmp_ge hexec hb hdg ht (fun h => kt (by exact (nI_leI hy hx).mp h)) (fun h => kf (by exact Nat.not_le.mp (fun q => h ((nI_leI hy hx).mpr q))))
theorem kn_gt (hexec : p.tables.exec = Jvm.exec) (hb : c.code = cc) {x y : Nat} {off : Int} {tgt : Nat} (hdg : decode cc pc = .ok (.if_icmp .gt off, 3)) (ht : (pc : Int) + off = (tgt : Int)) (hx : x < 2 ^ 31) (hy : y < 2 ^ 31)
    (kt : y < x → W p l e R s m args below meth c H locs cells slots Q (F0 m tgt ls rest)) (kf : x ≤ y → W p l e R s m args below meth c H locs cells slots Q (F0 m (pc + 3) ls rest)) : W p l e R s m args below meth c H locs cells slots Q (F0 m pc ls (.int (nI y) :: .int (nI x) :: rest)) :=
  lv_icmp_gt hexec hb hdg ht (fun h => kt (by exact (nI_ltI hy hx).mp h)) (fun h => kf (by exact Nat.not_lt.mp (fun q => h ((nI_ltI hy hx).mpr q))))
theorem kn_le (hexec : p.tables.exec = Jvm.exec) (hb : c.code = cc) {x y : Nat} {off : Int} {tgt : Nat} (hdg : decode cc pc = .ok (.if_icmp .le off, 3)) (ht : (pc : Int) + off = (tgt : Int)) (hx : x < 2 ^ 31) (hy : y < 2 ^ 31)
    (kt : x ≤ y → W p l e R s m args below meth c H locs cells slots Q (F0 m tgt ls rest)) (kf : y < x → W p l e R s m args below meth c H locs cells slots Q (F0 m (pc + 3) ls rest)) : W p l e R s m args below meth c H locs cells slots Q (F0 m pc ls (.int (nI y) :: .int (nI x) :: rest)) :=
  lv_icmp_le hexec hb hdg ht (fun h => kt (by exact (nI_leI hx hy).mp h)) (fun h => kf (by exact Nat.not_le.mp (fun q => h ((nI_leI hx hy).mpr q))))
theorem kn_if_eq (hexec : p.tables.exec = Jvm.exec) (hb : c.code = cc) {x : Nat} {off : Int} {tgt : Nat} (hdg : decode cc pc = .ok (.ifCond .eq off, 3)) (ht : (pc : Int) + off = (tgt : Int)) (hx : x < 2 ^ 31)
    (kt : x = 0 → W p l e R s m args below meth c H locs cells slots Q (F0 m tgt ls rest)) (kf : ¬ x = 0 → W p l e R s m args below meth c H locs cells slots Q (F0 m (pc + 3) ls rest)) : W p l e R s m args below meth c H locs cells slots Q (F0 m pc ls (.int (nI x) :: rest)) :=
  lv_if_eq hexec hb hdg ht (fun h => kt (by exact (nI_eq (b := 0) hx (by decide)).mp h)) (fun h => kf (by exact fun q => h (by rw [q]; rfl)))
theorem kn_if_ne (hexec : p.tables.exec = Jvm.exec) (hb : c.code = cc) {x : Nat} {off : Int} {tgt : Nat} (hdg : decode cc pc = .ok (.ifCond .ne off, 3)) (ht : (pc : Int) + off = (tgt : Int)) (hx : x < 2 ^ 31)
    (kt : ¬ x = 0 → W p l e R s m args below meth c H locs cells slots Q (F0 m tgt ls rest)) (kf : x = 0 → W p l e R s m args below meth c H locs cells slots Q (F0 m (pc + 3) ls rest)) : W p l e R s m args below meth c H locs cells slots Q (F0 m pc ls (.int (nI x) :: rest)) :=
  lv_if_ne hexec hb hdg ht (fun h => kt (by exact fun q => h (by rw [q]; rfl))) (fun h => kf (by exact (nI_eq (b := 0) hx (by decide)).mp h))
theorem kz_lt (hexec : p.tables.exec = Jvm.exec) (hb : c.code = cc) {x y : Int} {off : Int} {tgt : Nat} (hdg : decode cc pc = .ok (.if_icmp .lt off, 3)) (ht : (pc : Int) + off = (tgt : Int)) (hx : -2147483648 ≤ x ∧ x < 2147483648) (hy : -2147483648 ≤ y ∧ y < 2147483648)
    (kt : x < y → W p l e R s m args below meth c H locs cells slots Q (F0 m tgt ls rest)) (kf : y ≤ x → W p l e R s m args below meth c H locs cells slots Q (F0 m (pc + 3) ls rest)) : W p l e R s m args below meth c H locs cells slots Q (F0 m pc ls (.int (ct_z y) :: .int (ct_z x) :: rest)) :=
  lv_icmp_lt hexec hb hdg ht (fun h => kt (by exact (ct_z_lt hx.1 hx.2 hy.1 hy.2).mp h)) (fun h => kf (by exact Int.not_lt.mp (fun q => h ((ct_z_lt hx.1 hx.2 hy.1 hy.2).mpr q))))
theorem kz_ge (hexec : p.tables.exec = Jvm.exec) (hb : c.code = cc) {x y : Int} {off : Int} {tgt : Nat} (hdg : decode cc pc = .ok (.if_icmp .ge off, 3)) (ht : (pc : Int) + off = (tgt : Int)) (hx : -2147483648 ≤ x ∧ x < 2147483648) (hy : -2147483648 ≤ y ∧ y < 2147483648)
    (kt : y ≤ x → W p l e R s m args below meth c H locs cells slots Q (F0 m tgt ls rest)) (kf : x < y → W p l e R s m args below meth c H locs cells slots Q (F0 m (pc + 3) ls rest)) : W p l e R s m args below meth c H locs cells slots Q (F0 m pc ls (.int (ct_z y) :: .int (ct_z x) :: rest)) :=
  lv_icmp_ge hexec hb hdg ht (fun h => kt (by exact (ct_z_le hy.1 hy.2 hx.1 hx.2).mp h)) (fun h => kf (by exact Int.not_le.mp (fun q => h ((ct_z_le hy.1 hy.2 hx.1 hx.2).mpr q))))
theorem kt_gT (B : CallFix p m c cc nL s args lw_all RX1) (hK : va_K D vwCl tys s) (hP : va_P D vwCl ws H) {idx : Nat} {fs : List Value} {v : Value} (he : ws[0]? = some (a, .inr (0, fs))) (k : Nat) (hk : k < 9) (hl : Cond.fieldLink RX1 idx (TX1 k).1 (TX1 k).2.1 (TX1 k).2.2.1 ∈ lw_all) (hv : fs[k]? = some v) (hd : decode cc pc = .ok (.getfield idx, 3))
    (kk : W p l e R s m args below meth c H locs cells slots Q (F0 m (pc + 3) ls (v :: rest))) : W p l e R s m args below meth c H locs cells slots Q (F0 m pc ls (.ref a :: rest)) :=
  va_get (D := D) (ci := 0) (C := RX1) (T := TX1) (N := 9) B.1 B.2.1 B.2.2.2.2 in_X1 B.2.2.2.1 hK hP 0 he rfl k hk (B.2.2.2.2 _ hl) (fun _ h9 => h9) hv hd kk
theorem kt_gM (B : CallFix p m c cc nL s args lw_all RX2) (hK : va_K D vwCl tys s) (hP : va_P D vwCl ws H) {idx : Nat} {fs : List Value} {v : Value} (he : ws[0]? = some (a, .inr (1, fs))) (k : Nat) (hk : k < 2) (hl : Cond.fieldLink RX2 idx (TX2 k).1 (TX2 k).2.1 (TX2 k).2.2.1 ∈ lw_all) (hv : fs[k]? = some v) (hd : decode cc pc = .ok (.getfield idx, 3))
    (kk : W p l e R s m args below meth c H locs cells slots Q (F0 m (pc + 3) ls (v :: rest))) : W p l e R s m args below meth c H locs cells slots Q (F0 m pc ls (.ref a :: rest)) :=
  va_get (D := D) (ci := 1) (C := RX2) (T := TX2) (N := 2) B.1 B.2.1 B.2.2.2.2 in_X2 B.2.2.2.1 hK hP 0 he rfl k hk (B.2.2.2.2 _ hl) (fun _ h9 => h9) hv hd kk
theorem kt_pT (B : CallFix p m c cc nL s args lw_all RX1) (hK : va_K D vwCl tys s) (hP : va_P D vwCl ws H) (hD : va_D A ws) (hS : va_S A H0 H locs) {idx : Nat} {fs : List Value} {v : Value} {ty : FieldType} (he : ws[0]? = some (a, .inr (0, fs))) (k : Nat) (hk : k < 9) (hl : Cond.fieldLink RX1 idx (TX1 k).1 (TX1 k).2.1 (TX1 k).2.2.1 ∈ lw_all) (hfin : (TX1 k).2.2.2 = false) (hd2 : parseFieldDescriptor (TX1 k).2.2.1 = some ty) (hn : narrow ty v = v) (hfit : fits ty v = true) (hlen : k < fs.length) (hd : decode cc pc = .ok (.putfield idx, 3))
    (kk : ∀ (H1 : Heap) (locs1 : List Loc), va_P D vwCl (ws.set 0 (a, .inr (0, fs.set k v))) H1 → va_D A (ws.set 0 (a, .inr (0, fs.set k v))) → va_S A H0 H1 locs1 → W p l e R s m args below meth c H1 locs1 cells slots Q (F0 m (pc + 3) ls rest)) : W p l e R s m args below meth c H locs cells slots Q (F0 m pc ls (v :: .ref a :: rest)) :=
  va_put (D := D) (ci := 0) (C := RX1) (T := TX1) (N := 9) B.1 B.2.1 B.2.2.2.2 in_X1 tyX1 tyX1_ok nmX1 B.2.2.2.1 hK hP hD hS 0 he rfl k hk (B.2.2.2.2 _ hl) (fun _ h9 => h9) hfin hd2 hn hfit hlen hd kk
end KT
/-! ===== loops ===== -/
theorem kt_up {P : Nat → Prop} {n : Nat} (hend : P n) (hstep : ∀ u, u < n → P (u + 1) → P u) : ∀ u, u ≤ n → P u := by
  have key : ∀ d u, u + d = n → P u := by
    intro d
    induction d with
    | zero => intro u h; rw [show u = n by omega]; exact hend
    | succ d ih => intro u h; exact hstep u (by omega) (ih (u + 1) (by omega))
  exact fun u hu => key (n - u) u (by omega)
end
section
/-! ===== the answers that both classes share, of the arguments as they come ===== -/
def ct_bn (b : Bool) : Nat := if b then 1 else 0
theorem ct_bn_t : ct_bn true = 1 := rfl
theorem ct_bn_f : ct_bn false = 0 := rfl
theorem ct_bn_lt (b : Bool) : ct_bn b < 2 ^ 31 := by cases b <;> decide
theorem ct_bn_0 {b : Bool} (h : ct_bn b = 0) : b = false := by cases b; rfl; exact absurd h (by decide)
theorem ct_bn_1 {b : Bool} (h : ¬ ct_bn b = 0) : b = true := by cases b; exact absurd rfl h; rfl
theorem ct_bn_narrow {r : Int32} {b : Bool} (h : r = nI (ct_bn b)) : narrow .boolean (.int r) = .int r := by rw [h]; cases b <;> rfl
/-- a point -/
def ct_ip (n : Nat) (u : Int32) : Bool := decide (¬ u < 0) && decide (¬ nI n ≤ u)
theorem ct_ip_lt {n : Nat} {u : Int32} (h : u < 0) : ct_ip n u = false := by simp [ct_ip, h]
theorem ct_ip_ge {n : Nat} {u : Int32} (h : nI n ≤ u) : ct_ip n u = false := by simp [ct_ip, h]
theorem ct_ip_in {n : Nat} {u : Int32} (h : ¬ u < 0) (h2 : ¬ nI n ≤ u) : ct_ip n u = true := by simp [ct_ip, h, h2]
theorem ct_ip_of {n : Nat} {u : Int32} (hn : n ≤ 8) (h : ct_ip n u = true) : ∃ j, j < n ∧ u = nI j := by
  simp only [ct_ip, Bool.and_eq_true, decide_eq_true_eq] at h
  obtain ⟨j, hj, rfl⟩ := nI_of h.1
  refine ⟨j, ?_, rfl⟩
  rcases Nat.lt_or_ge j n with q | q
  · exact q
  · exact absurd (nI_le q hj) h.2
theorem ct_ip_nI {n j : Nat} (hn : n ≤ 8) (h : j < n) : ct_ip n (nI j) = true := ct_ip_in (nI_pos (by omega)) (nI_ge h (by omega))
/-- a couple of points -/
def ct_ic (n : Nat) (u v : Int32) : Bool := ct_ip n u && ct_ip n v && decide (¬ u = v)
theorem ct_ic_1 {n : Nat} {u v : Int32} (h : ct_ip n u = false) : ct_ic n u v = false := by simp [ct_ic, h]
theorem ct_ic_2 {n : Nat} {u v : Int32} (h : ct_ip n v = false) : ct_ic n u v = false := by simp [ct_ic, h]
theorem ct_ic_3 {n : Nat} {u v : Int32} (h : u = v) : ct_ic n u v = false := by simp [ct_ic, h]
theorem ct_ic_in {n : Nat} {u v : Int32} (h1 : ct_ip n u = true) (h2 : ct_ip n v = true) (h3 : ¬ u = v) : ct_ic n u v = true := by simp [ct_ic, h1, h2, h3]
theorem ct_ic_of {n : Nat} {u v : Int32} (hn : n ≤ 8) (h : ct_ic n u v = true) : ∃ i j, i < n ∧ j < n ∧ i ≠ j ∧ u = nI i ∧ v = nI j := by
  simp only [ct_ic, Bool.and_eq_true, decide_eq_true_eq] at h
  obtain ⟨⟨h1, h2⟩, h3⟩ := h
  obtain ⟨i, hi, rfl⟩ := ct_ip_of hn h1
  obtain ⟨j, hj, rfl⟩ := ct_ip_of hn h2
  exact ⟨i, j, hi, hj, fun e => h3 (by rw [e]), rfl, rfl⟩
theorem ct_ic_nI {n i j : Nat} (hn : n ≤ 8) (hi : i < n) (hj : j < n) (h : i ≠ j) : ct_ic n (nI i) (nI j) = true := ct_ic_in (ct_ip_nI hn hi) (ct_ip_nI hn hj) (fun e => h ((nI_eq (by omega) (by omega)).mp e))
/-- connect is taken -/
def ct_ok (n : Nat) (u v w : Int32) : Bool := ct_ic n u v && decide (¬ w < 0) && decide (w ≤ nI 50)
theorem ct_ok_1 {n : Nat} {u v w : Int32} (h : ct_ic n u v = false) : ct_ok n u v w = false := by simp [ct_ok, h]
theorem ct_ok_2 {n : Nat} {u v w : Int32} (h : w < 0) : ct_ok n u v w = false := by simp [ct_ok, h]
theorem ct_ok_3 {n : Nat} {u v w : Int32} (h : ¬ w ≤ nI 50) : ct_ok n u v w = false := by simp [ct_ok, h]
theorem ct_ok_in {n : Nat} {u v w : Int32} (h1 : ct_ic n u v = true) (h2 : ¬ w < 0) (h3 : w ≤ nI 50) : ct_ok n u v w = true := by simp [ct_ok, h1, h2, h3]
theorem ct_50 {w : Int32} (h2 : ¬ w < 0) (h3 : w ≤ nI 50) : ∃ k, k ≤ 50 ∧ w = nI k := nI_of2 (n := 50) (by decide) h2 h3
/-- both ways -/
def ct_con (g : Nat → Nat) (i j k : Nat) : Nat → Nat := ct_up (ct_up g (8 * i + j) k) (8 * j + i) k
/-- the capacities behind connect -/
def ct_cn (n : Nat) (g : Nat → Nat) (u v w : Int32) : Nat → Nat := if ct_ok n u v w then ct_con g u.toNatClampNeg v.toNatClampNeg w.toNatClampNeg else g
theorem ct_cn_no {n : Nat} {g : Nat → Nat} {u v w : Int32} (h : ct_ok n u v w = false) : g = ct_cn n g u v w := by simp [ct_cn, h]
theorem ct_cn_yes {n : Nat} {g : Nat → Nat} {i j k : Nat} (hi : i < 2 ^ 31) (hj : j < 2 ^ 31) (hk : k < 2 ^ 31) (h : ct_ok n (nI i) (nI j) (nI k) = true) : ct_con g i j k = ct_cn n g (nI i) (nI j) (nI k) := by
  unfold ct_cn
  rw [if_pos h, nI_clamp hi, nI_clamp hj, nI_clamp hk]
theorem ct_con_G {g : Nat → Nat} {i j k : Nat} (hg : ct_G g) (hi : i < 8) (hj : j < 8) (hne : i ≠ j) (hk : k ≤ 50) : ct_G (ct_con g i j k) := by
  obtain ⟨g1, g2, g3⟩ := hg
  refine ⟨fun u v hu hv => ?_, fun u hu => ?_, fun x => ?_⟩
  · unfold ct_con ct_up
    have e := g1 u v hu hv
    by_cases c1 : 8 * u + v = 8 * j + i
    · rw [if_pos c1, if_neg (by omega), if_pos (by omega)]
    · rw [if_neg c1]
      by_cases c2 : 8 * u + v = 8 * i + j
      · rw [if_pos c2, if_pos (by omega)]
      · rw [if_neg c2, if_neg (by omega), if_neg (by omega), e]
  · unfold ct_con ct_up
    rw [if_neg (by omega), if_neg (by omega)]
    exact g2 u hu
  · unfold ct_con ct_up
    split
    · exact hk
    · split
      · exact hk
      · exact g3 x
theorem ct_cn_G {n : Nat} {g : Nat → Nat} (hn : n ≤ 8) (hg : ct_G g) (u v w : Int32) : ct_G (ct_cn n g u v w) := by
  cases h : ct_ok n u v w with
  | false => rw [← ct_cn_no h]; exact hg
  | true =>
    have h' := h
    simp only [ct_ok, Bool.and_eq_true, decide_eq_true_eq] at h
    obtain ⟨i, j, hi, hj, hne, rfl, rfl⟩ := ct_ic_of hn h.1.1
    obtain ⟨k, hk, rfl⟩ := ct_50 h.1.2 h.2
    rw [← ct_cn_yes (by omega) (by omega) (by omega) h']
    exact ct_con_G hg (by omega) (by omega) hne hk
/-- capacity -/
def ct_cp (n : Nat) (g : Nat → Nat) (u v : Int32) : Int32 := if ct_ic n u v then nI (g (8 * u.toNatClampNeg + v.toNatClampNeg)) else -1
theorem ct_cp_no {n : Nat} {g : Nat → Nat} {u v : Int32} (h : ct_ic n u v = false) : (-1) = ct_cp n g u v := by simp [ct_cp, h]
theorem ct_cp_yes {n : Nat} {g : Nat → Nat} {i j : Nat} (hi : i < 2 ^ 31) (hj : j < 2 ^ 31) (h : ct_ic n (nI i) (nI j) = true) : nI (g (8 * i + j)) = ct_cp n g (nI i) (nI j) := by
  unfold ct_cp
  rw [if_pos h, nI_clamp hi, nI_clamp hj]
/-- the sums of a cut, row by row -/
def ct_cell (g : Nat → Nat) (S u v : Nat) : Nat := if S.testBit u && !S.testBit v then g (8 * u + v) else 0
def ct_row (n : Nat) (g : Nat → Nat) (S u : Nat) : Nat := fb_sm (fun v => ct_cell g S u v) n
theorem ct_wt_row (n : Nat) (g : Nat → Nat) (S : Nat) : ct_wt n g S = fb_sm (fun u => ct_row n g S u) n := rfl
theorem ct_cell_1 {g : Nat → Nat} {S u v : Nat} (h : S.testBit u = false) : ct_cell g S u v = 0 := by simp [ct_cell, h]
theorem ct_cell_2 {g : Nat → Nat} {S u v : Nat} (h : S.testBit v = true) : ct_cell g S u v = 0 := by simp [ct_cell, h]
theorem ct_cell_3 {g : Nat → Nat} {S u v : Nat} (h : S.testBit u = true) (h2 : S.testBit v = false) : ct_cell g S u v = g (8 * u + v) := by simp [ct_cell, h, h2]
end
section
/-! ===== the reference, its small methods ===== -/
set_option maxHeartbeats 4000000 in
set_option maxRecDepth 100000 in
theorem mM_isPoint (l : Launch) (D : va_G) (ob ar : Nat) (dA : ClassId) (n : Nat) (g : Nat → Nat) (u : Int32) : kt_Mi l yX2_isPoint cX2_isPoint 2 .boolean 0 D (tyM dA) (wM ob ar dA n g) [.ref (ob), .int (u)] (fun r (_ : Unit) => r = nI (ct_bn (ct_ip n u))) (fun _ => wM ob ar dA n g) := by
  refine kt_inI (by decide) (Nat.le_of_ble_eq_true rfl) (fun r _ h => ct_bn_narrow h) ?_
  intro p e s m args below meth c A Q H ls B hA hK hP hD hS hl hret
  have B : CallFix p m c cX2_isPoint 2 s args lw_all RX2 := B
  have hx := B.1
  have hb := B.2.1
  have hl : lv_has ls 2 [(0, .ref (ob)), (1, .int (u))] := hl
  refine lv_iload_n hx hb dX2_isPoint_0 rfl (lv_at hl 1 rfl) ?_
  refine lv_if_lt (tgt := 16) hx hb dX2_isPoint_1 (by decide)  (fun hc => ?_) (fun hc => ?_)
  · refine lv_iconst (v := nI (0)) hx hb dX2_isPoint_16 (by decide) ?_
    exact hret _ () _ _ _ _ (by rw [ct_ip_lt hc]; rfl) hP hD hS dX2_isPoint_17
  · refine lv_iload_n hx hb dX2_isPoint_4 rfl (lv_at hl 1 rfl) ?_
    refine lv_aload_n hx hb dX2_isPoint_5 rfl (lv_at hl 0 rfl) ?_
    refine kt_gM B hK hP rfl 0 (by decide) q148 rfl dX2_isPoint_6 ?_
    refine lv_icmp_ge (tgt := 16) hx hb dX2_isPoint_9 (by decide)  (fun hd => ?_) (fun hd => ?_)
    · refine lv_iconst (v := nI (0)) hx hb dX2_isPoint_16 (by decide) ?_
      exact hret _ () _ _ _ _ (by rw [ct_ip_ge hd]; rfl) hP hD hS dX2_isPoint_17
    · refine lv_iconst (v := nI (1)) hx hb dX2_isPoint_12 (by decide) ?_
      refine lv_goto (tgt := 17) hx hb dX2_isPoint_13 (by decide) ?_
      exact hret _ () _ _ _ _ (by rw [ct_ip_in hc hd]; rfl) hP hD hS dX2_isPoint_17
set_option maxHeartbeats 4000000 in
set_option maxRecDepth 100000 in
theorem mM_isCouple (l : Launch) (D : va_G) (ob ar : Nat) (dA : ClassId) (n : Nat) (g : Nat → Nat) (u v : Int32) : kt_Mi l yX2_isCouple cX2_isCouple 3 .boolean 1 D (tyM dA) (wM ob ar dA n g) [.ref (ob), .int (u), .int (v)] (fun r (_ : Unit) => r = nI (ct_bn (ct_ic n u v))) (fun _ => wM ob ar dA n g) := by
  refine kt_inI (by decide) (Nat.le_of_ble_eq_true rfl) (fun r _ h => ct_bn_narrow h) ?_
  intro p e s m args below meth c A Q H ls B hA hK hP hD hS hl hret
  have B : CallFix p m c cX2_isCouple 3 s args lw_all RX2 := B
  have hx := B.1
  have hb := B.2.1
  have hl : lv_has ls 3 [(0, .ref (ob)), (1, .int (u)), (2, .int (v))] := hl
  refine lv_aload_n hx hb dX2_isCouple_0 rfl (lv_at hl 0 rfl) ?_
  refine lv_iload_n hx hb dX2_isCouple_1 rfl (lv_at hl 1 rfl) ?_
  refine kt_callI (wr := []) (rest := []) B (mM_isPoint l D ob ar dA n g u) (cwV 1 B.2.2.2.2 (lw_V q163 q165 qs10 q19 q166) rfl rfl rfl (by decide +kernel) ⟨Nat.le_of_ble_eq_true rfl, Nat.le_of_ble_eq_true rfl⟩) [0, 1] [] [0] rfl rfl rfl rfl rfl (fun _ h _ => absurd h List.not_mem_nil) rfl hA hK hP hD hS (ci := 1) rfl rfl rfl rfl hl.1 rfl (Nat.le_of_ble_eq_true rfl) dX2_isCouple_2 ⟨Nat.le_refl _, Nat.le_refl _⟩ (fun rx ux H locs hw hP hD hS => ?_)
  have hP : va_P D vwCl (wM ob ar dA n g) H := hP
  have hD : va_D A (wM ob ar dA n g) := hD
  have hw : rx = nI (ct_bn (ct_ip n u)) := hw
  subst hw
  refine kn_if_eq (tgt := 25) hx hb dX2_isCouple_5 (by decide) (ct_bn_lt _) (fun hc => ?_) (fun hc => ?_)
  · refine lv_iconst (v := nI (0)) hx hb dX2_isCouple_25 (by decide) ?_
    exact hret _ () _ _ _ _ (by rw [ct_ic_1 (ct_bn_0 hc)]; rfl) hP hD hS dX2_isCouple_26
  · refine lv_aload_n hx hb dX2_isCouple_8 rfl (lv_at hl 0 rfl) ?_
    refine lv_iload_n hx hb dX2_isCouple_9 rfl (lv_at hl 2 rfl) ?_
    refine kt_callI (wr := []) (rest := []) B (mM_isPoint l D ob ar dA n g v) (cwV 1 B.2.2.2.2 (lw_V q163 q165 qs10 q19 q166) rfl rfl rfl (by decide +kernel) ⟨Nat.le_of_ble_eq_true rfl, Nat.le_of_ble_eq_true rfl⟩) [0, 1] [] [0] rfl rfl rfl rfl rfl (fun _ h _ => absurd h List.not_mem_nil) rfl hA hK hP hD hS (ci := 1) rfl rfl rfl rfl hl.1 rfl (Nat.le_of_ble_eq_true rfl) dX2_isCouple_10 ⟨Nat.le_refl _, Nat.le_refl _⟩ (fun rx ux H locs hw hP hD hS => ?_)
    have hP : va_P D vwCl (wM ob ar dA n g) H := hP
    have hD : va_D A (wM ob ar dA n g) := hD
    have hw : rx = nI (ct_bn (ct_ip n v)) := hw
    subst hw
    refine kn_if_eq (tgt := 25) hx hb dX2_isCouple_13 (by decide) (ct_bn_lt _) (fun hd => ?_) (fun hd => ?_)
    · refine lv_iconst (v := nI (0)) hx hb dX2_isCouple_25 (by decide) ?_
      exact hret _ () _ _ _ _ (by rw [ct_ic_2 (ct_bn_0 hd)]; rfl) hP hD hS dX2_isCouple_26
    · refine lv_iload_n hx hb dX2_isCouple_16 rfl (lv_at hl 1 rfl) ?_
      refine lv_iload_n hx hb dX2_isCouple_17 rfl (lv_at hl 2 rfl) ?_
      refine lv_icmp_eq (tgt := 25) hx hb dX2_isCouple_18 (by decide)  (fun he => ?_) (fun he => ?_)
      · refine lv_iconst (v := nI (0)) hx hb dX2_isCouple_25 (by decide) ?_
        exact hret _ () _ _ _ _ (by rw [ct_ic_3 he]; rfl) hP hD hS dX2_isCouple_26
      · refine lv_iconst (v := nI (1)) hx hb dX2_isCouple_21 (by decide) ?_
        refine lv_goto (tgt := 26) hx hb dX2_isCouple_22 (by decide) ?_
        exact hret _ () _ _ _ _ (by rw [ct_ic_in (ct_bn_1 hc) (ct_bn_1 hd) he]; rfl) hP hD hS dX2_isCouple_26
set_option maxHeartbeats 4000000 in
set_option maxRecDepth 100000 in
theorem mM_connect (l : Launch) (D : va_G) (ob ar : Nat) (dA : ClassId) (n : Nat) (g : Nat → Nat) (zn : n ≤ 8) (u v w : Int32) : kt_Mi l yX2_connect cX2_connect 4 .boolean 2 D (tyM dA) (wM ob ar dA n g) [.ref (ob), .int (u), .int (v), .int (w)] (fun r (_ : Unit) => r = nI (ct_bn (ct_ok n u v w))) (fun _ => wM ob ar dA n (ct_cn n g u v w)) := by
  refine kt_inI (by decide) (Nat.le_of_ble_eq_true rfl) (fun r _ h => ct_bn_narrow h) ?_
  intro p e s m args below meth c A Q H ls B hA hK hP hD hS hl hret
  have B : CallFix p m c cX2_connect 4 s args lw_all RX2 := B
  have hx := B.1
  have hb := B.2.1
  have hl : lv_has ls 4 [(0, .ref (ob)), (1, .int (u)), (2, .int (v)), (3, .int (w))] := hl
  refine lv_aload_n hx hb dX2_connect_0 rfl (lv_at hl 0 rfl) ?_
  refine lv_iload_n hx hb dX2_connect_1 rfl (lv_at hl 1 rfl) ?_
  refine lv_iload_n hx hb dX2_connect_2 rfl (lv_at hl 2 rfl) ?_
  refine kt_callI (wr := []) (rest := []) B (mM_isCouple l D ob ar dA n g u v) (cwV 2 B.2.2.2.2 (lw_V q159 q161 qs9 q19 q162) rfl rfl rfl (by decide +kernel) ⟨Nat.le_of_ble_eq_true rfl, Nat.le_of_ble_eq_true rfl⟩) [0, 1] [] [0] rfl rfl rfl rfl rfl (fun _ h _ => absurd h List.not_mem_nil) rfl hA hK hP hD hS (ci := 1) rfl rfl rfl rfl hl.1 rfl (Nat.le_of_ble_eq_true rfl) dX2_connect_3 ⟨Nat.le_refl _, Nat.le_refl _⟩ (fun rx ux H locs hw hP hD hS => ?_)
  have hP : va_P D vwCl (wM ob ar dA n g) H := hP
  have hD : va_D A (wM ob ar dA n g) := hD
  have hw : rx = nI (ct_bn (ct_ic n u v)) := hw
  subst hw
  refine kn_if_eq (tgt := 19) hx hb dX2_connect_6 (by decide) (ct_bn_lt _) (fun hc => ?_) (fun hc => ?_)
  · refine lv_iconst (v := nI (0)) hx hb dX2_connect_19 (by decide) ?_
    have hwe : g = ct_cn n g u v w := ct_cn_no (ct_ok_1 (ct_bn_0 hc))
    have hP : va_P D vwCl (wM ob ar dA n (ct_cn n g u v w)) H := by rw [← hwe]; exact hP
    have hD : va_D A (wM ob ar dA n (ct_cn n g u v w)) := by rw [← hwe]; exact hD
    clear hwe
    exact hret _ () _ _ _ _ (by rw [ct_ok_1 (ct_bn_0 hc)]; rfl) hP hD hS dX2_connect_20
  · refine lv_iload_n hx hb dX2_connect_9 rfl (lv_at hl 3 rfl) ?_
    refine lv_if_lt (tgt := 19) hx hb dX2_connect_10 (by decide)  (fun hd => ?_) (fun hd => ?_)
    · refine lv_iconst (v := nI (0)) hx hb dX2_connect_19 (by decide) ?_
      have hwe : g = ct_cn n g u v w := ct_cn_no (ct_ok_2 hd)
      have hP : va_P D vwCl (wM ob ar dA n (ct_cn n g u v w)) H := by rw [← hwe]; exact hP
      have hD : va_D A (wM ob ar dA n (ct_cn n g u v w)) := by rw [← hwe]; exact hD
      clear hwe
      exact hret _ () _ _ _ _ (by rw [ct_ok_2 hd]; rfl) hP hD hS dX2_connect_20
    · refine lv_iload_n hx hb dX2_connect_13 rfl (lv_at hl 3 rfl) ?_
      refine lv_bipush (v := nI (50)) hx hb dX2_connect_14 (by decide) ?_
      refine lv_icmp_le (tgt := 21) hx hb dX2_connect_16 (by decide)  (fun he => ?_) (fun he => ?_)
      · have hok := ct_ok_in (ct_bn_1 hc) hd he
        obtain ⟨i, j, zi, zj, zij, rfl, rfl⟩ := ct_ic_of zn (ct_bn_1 hc)
        obtain ⟨k, zk, rfl⟩ := ct_50 hd he
        refine lv_aload_n hx hb dX2_connect_21 rfl (lv_at hl 0 rfl) ?_
        refine kt_gM B hK hP rfl 1 (by decide) q149 rfl dX2_connect_22 ?_
        refine lv_bipush (v := nI (8)) hx hb dX2_connect_25 (by decide) ?_
        refine lv_iload_n hx hb dX2_connect_27 rfl (lv_at hl 1 rfl) ?_
        refine kn_imul hx hb dX2_connect_28 ?_
        refine lv_iload_n hx hb dX2_connect_29 rfl (lv_at hl 2 rfl) ?_
        refine kn_iadd hx hb dX2_connect_30 ?_
        refine lv_iload_n hx hb dX2_connect_31 rfl (lv_at hl 3 rfl) ?_
        refine kt_is (f' := fun iq => nI ((ct_up g ((8 * i) + j) k) iq)) hx hb hK hP hD hS 1 0 rfl rfl (by omega) (by decide) (ct_updN _ _ _) dX2_connect_32 (fun H locs hP hD hS => ?_)
        have hP : va_P D vwCl (wM ob ar dA n (ct_up g ((8 * i) + j) k)) H := hP
        have hD : va_D A (wM ob ar dA n (ct_up g ((8 * i) + j) k)) := hD
        refine lv_aload_n hx hb dX2_connect_33 rfl (lv_at hl 0 rfl) ?_
        refine kt_gM B hK hP rfl 1 (by decide) q149 rfl dX2_connect_34 ?_
        refine lv_bipush (v := nI (8)) hx hb dX2_connect_37 (by decide) ?_
        refine lv_iload_n hx hb dX2_connect_39 rfl (lv_at hl 2 rfl) ?_
        refine kn_imul hx hb dX2_connect_40 ?_
        refine lv_iload_n hx hb dX2_connect_41 rfl (lv_at hl 1 rfl) ?_
        refine kn_iadd hx hb dX2_connect_42 ?_
        refine lv_iload_n hx hb dX2_connect_43 rfl (lv_at hl 3 rfl) ?_
        refine kt_is (f' := fun iq => nI ((ct_up (ct_up g ((8 * i) + j) k) ((8 * j) + i) k) iq)) hx hb hK hP hD hS 1 0 rfl rfl (by omega) (by decide) (ct_updN _ _ _) dX2_connect_44 (fun H locs hP hD hS => ?_)
        have hP : va_P D vwCl (wM ob ar dA n (ct_up (ct_up g ((8 * i) + j) k) ((8 * j) + i) k)) H := hP
        have hD : va_D A (wM ob ar dA n (ct_up (ct_up g ((8 * i) + j) k) ((8 * j) + i) k)) := hD
        refine lv_iconst (v := nI (1)) hx hb dX2_connect_45 (by decide) ?_
        have hwe : ct_up (ct_up g ((8 * i) + j) k) ((8 * j) + i) k = ct_cn n g (nI i) (nI j) (nI k) := ct_cn_yes (by omega) (by omega) (by omega) hok
        have hP : va_P D vwCl (wM ob ar dA n (ct_cn n g (nI i) (nI j) (nI k))) H := by rw [← hwe]; exact hP
        have hD : va_D A (wM ob ar dA n (ct_cn n g (nI i) (nI j) (nI k))) := by rw [← hwe]; exact hD
        clear hwe
        exact hret _ () _ _ _ _ (by rw [hok]; rfl) hP hD hS dX2_connect_46
      · refine lv_iconst (v := nI (0)) hx hb dX2_connect_19 (by decide) ?_
        have hwe : g = ct_cn n g u v w := ct_cn_no (ct_ok_3 he)
        have hP : va_P D vwCl (wM ob ar dA n (ct_cn n g u v w)) H := by rw [← hwe]; exact hP
        have hD : va_D A (wM ob ar dA n (ct_cn n g u v w)) := by rw [← hwe]; exact hD
        clear hwe
        exact hret _ () _ _ _ _ (by rw [ct_ok_3 he]; rfl) hP hD hS dX2_connect_20
set_option maxHeartbeats 4000000 in
set_option maxRecDepth 100000 in
theorem mM_capacity (l : Launch) (D : va_G) (ob ar : Nat) (dA : ClassId) (n : Nat) (g : Nat → Nat) (zn : n ≤ 8) (u v : Int32) : kt_Mi l yX2_capacity cX2_capacity 3 .int 2 D (tyM dA) (wM ob ar dA n g) [.ref (ob), .int (u), .int (v)] (fun r (_ : Unit) => r = ct_cp n g u v) (fun _ => wM ob ar dA n g) := by
  refine kt_inI (by decide) (Nat.le_of_ble_eq_true rfl) (fun r _ h => rfl) ?_
  intro p e s m args below meth c A Q H ls B hA hK hP hD hS hl hret
  have B : CallFix p m c cX2_capacity 3 s args lw_all RX2 := B
  have hx := B.1
  have hb := B.2.1
  have hl : lv_has ls 3 [(0, .ref (ob)), (1, .int (u)), (2, .int (v))] := hl
  refine lv_aload_n hx hb dX2_capacity_0 rfl (lv_at hl 0 rfl) ?_
  refine lv_iload_n hx hb dX2_capacity_1 rfl (lv_at hl 1 rfl) ?_
  refine lv_iload_n hx hb dX2_capacity_2 rfl (lv_at hl 2 rfl) ?_
  refine kt_callI (wr := []) (rest := []) B (mM_isCouple l D ob ar dA n g u v) (cwV 2 B.2.2.2.2 (lw_V q159 q161 qs9 q19 q162) rfl rfl rfl (by decide +kernel) ⟨Nat.le_of_ble_eq_true rfl, Nat.le_of_ble_eq_true rfl⟩) [0, 1] [] [0] rfl rfl rfl rfl rfl (fun _ h _ => absurd h List.not_mem_nil) rfl hA hK hP hD hS (ci := 1) rfl rfl rfl rfl hl.1 rfl (Nat.le_of_ble_eq_true rfl) dX2_capacity_3 ⟨Nat.le_refl _, Nat.le_refl _⟩ (fun rx ux H locs hw hP hD hS => ?_)
  have hP : va_P D vwCl (wM ob ar dA n g) H := hP
  have hD : va_D A (wM ob ar dA n g) := hD
  have hw : rx = nI (ct_bn (ct_ic n u v)) := hw
  subst hw
  refine kn_if_eq (tgt := 23) hx hb dX2_capacity_6 (by decide) (ct_bn_lt _) (fun hc => ?_) (fun hc => ?_)
  · refine lv_iconst (v := (-1)) hx hb dX2_capacity_23 (by decide) ?_
    exact hret _ () _ _ _ _ (ct_cp_no (ct_bn_0 hc)) hP hD hS dX2_capacity_24
  · have hok := ct_bn_1 hc
    obtain ⟨i, j, zi, zj, zij, rfl, rfl⟩ := ct_ic_of zn hok
    refine lv_aload_n hx hb dX2_capacity_9 rfl (lv_at hl 0 rfl) ?_
    refine kt_gM B hK hP rfl 1 (by decide) q149 rfl dX2_capacity_10 ?_
    refine lv_bipush (v := nI (8)) hx hb dX2_capacity_13 (by decide) ?_
    refine lv_iload_n hx hb dX2_capacity_15 rfl (lv_at hl 1 rfl) ?_
    refine kn_imul hx hb dX2_capacity_16 ?_
    refine lv_iload_n hx hb dX2_capacity_17 rfl (lv_at hl 2 rfl) ?_
    refine kn_iadd hx hb dX2_capacity_18 ?_
    refine kt_il (v := nI (g ((8 * i) + j))) hx hb hK hP 1 0 rfl rfl (by omega) (by decide) rfl dX2_capacity_19 ?_
    refine lv_goto (tgt := 24) hx hb dX2_capacity_20 (by decide) ?_
    exact hret _ () _ _ _ _ (ct_cp_yes (by omega) (by omega) hok) hP hD hS dX2_capacity_24
set_option maxHeartbeats 4000000 in
set_option maxRecDepth 100000 in
theorem mM_in (l : Launch) (D : va_G) (ob ar : Nat) (dA : ClassId) (n : Nat) (g : Nat → Nat) (S u : Nat) (zS : S < 2 ^ 31) (zu : u < 32) : kt_Mi l yX2_in cX2_in 3 .boolean 0 D (tyM dA) (wM ob ar dA n g) [.ref (ob), .int (nI (S)), .int (nI (u))] (fun r (_ : Unit) => r = nI (ct_bn (S.testBit u))) (fun _ => wM ob ar dA n g) := by
  refine kt_inI (by decide) (Nat.le_of_ble_eq_true rfl) (fun r _ h => ct_bn_narrow h) ?_
  intro p e s m args below meth c A Q H ls B hA hK hP hD hS hl hret
  have B : CallFix p m c cX2_in 3 s args lw_all RX2 := B
  have hx := B.1
  have hb := B.2.1
  have hl : lv_has ls 3 [(0, .ref (ob)), (1, .int (nI (S))), (2, .int (nI (u)))] := hl
  refine lv_iload_n hx hb dX2_in_0 rfl (lv_at hl 1 rfl) ?_
  refine lv_iload_n hx hb dX2_in_1 rfl (lv_at hl 2 rfl) ?_
  refine kn_shr hx hb (by omega) (by omega) dX2_in_2 ?_
  refine lv_iconst (v := nI (1)) hx hb dX2_in_3 (by decide) ?_
  refine kn_iand1 hx hb dX2_in_4 ?_
  refine lv_iconst (v := nI (1)) hx hb dX2_in_5 (by decide) ?_
  cases hc : S.testBit u
  · have hc2 := ct_bit_f hc
    refine kn_ne (tgt := 13) hx hb dX2_in_6 (by decide) (by omega) (by omega) (fun hq => ?_) (fun hq => absurd hq (by omega))
    refine lv_iconst (v := nI (0)) hx hb dX2_in_13 (by decide) ?_
    exact hret _ () _ _ _ _ (by rw [hc]; rfl) hP hD hS dX2_in_14
  · have hc2 := ct_bit_t hc
    refine kn_ne (tgt := 13) hx hb dX2_in_6 (by decide) (by omega) (by omega) (fun hq => absurd hq (by omega)) (fun hq => ?_)
    refine lv_iconst (v := nI (1)) hx hb dX2_in_9 (by decide) ?_
    refine lv_goto (tgt := 14) hx hb dX2_in_10 (by decide) ?_
    exact hret _ () _ _ _ _ (by rw [hc]; rfl) hP hD hS dX2_in_14
set_option maxHeartbeats 4000000 in
set_option maxRecDepth 100000 in
theorem mM_all (l : Launch) (D : va_G) (ob ar : Nat) (dA : ClassId) (n : Nat) (g : Nat → Nat) (zn : n ≤ 8) : kt_Mi l yX2_all cX2_all 1 .int 0 D (tyM dA) (wM ob ar dA n g) [.ref (ob)] (fun r (_ : Unit) => r = nI (2 ^ n - 1)) (fun _ => wM ob ar dA n g) := by
  refine kt_inI (by decide) (Nat.le_of_ble_eq_true rfl) (fun r _ h => rfl) ?_
  intro p e s m args below meth c A Q H ls B hA hK hP hD hS hl hret
  have B : CallFix p m c cX2_all 1 s args lw_all RX2 := B
  have hx := B.1
  have hb := B.2.1
  have hl : lv_has ls 1 [(0, .ref (ob))] := hl
  have zp := Nat.two_pow_pos n
  refine lv_iconst (v := nI (1)) hx hb dX2_all_0 (by decide) ?_
  refine lv_aload_n hx hb dX2_all_1 rfl (lv_at hl 0 rfl) ?_
  refine kt_gM B hK hP rfl 0 (by decide) q148 rfl dX2_all_2 ?_
  refine kn_shl1 hx hb (by omega) dX2_all_5 ?_
  refine lv_iconst (v := nI (1)) hx hb dX2_all_6 (by decide) ?_
  refine kn_isub hx hb (by omega) dX2_all_7 ?_
  exact hret _ () _ _ _ _ (rfl) hP hD hS dX2_all_8
set_option maxHeartbeats 4000000 in
set_option maxRecDepth 100000 in
theorem mM_weightOf (l : Launch) (D : va_G) (ob ar : Nat) (dA : ClassId) (n : Nat) (g : Nat → Nat) (zn : n ≤ 8) (S : Nat) (zS : S < 2 ^ 31) : kt_Mi l yX2_weightOf cX2_weightOf 5 .int 1 D (tyM dA) (wM ob ar dA n g) [.ref (ob), .int (nI (S))] (fun r (_ : Unit) => r = nI (ct_wt n g S)) (fun _ => wM ob ar dA n g) := by
  refine kt_inI (by decide) (Nat.le_of_ble_eq_true rfl) (fun r _ h => rfl) ?_
  intro p e s m args below meth c A Q H ls B hA hK hP hD hS hl hret
  have B : CallFix p m c cX2_weightOf 5 s args lw_all RX2 := B
  have hx := B.1
  have hb := B.2.1
  have hl : lv_has ls 5 [(0, .ref (ob)), (1, .int (nI (S)))] := hl
  have outer : ∀ u, u ≤ n → ∀ acc, acc = fb_sm (fun u => ct_row n g S u) u → ∀ (H : Heap) (locs : List Loc) (ls : Array Slot), va_P D vwCl (wM ob ar dA n g) H → va_D A (wM ob ar dA n g) → va_S A s.heap H locs → lv_has ls 5 [(0, .ref (ob)), (1, .int (nI (S))), (2, .int (nI (acc))), (3, .int (nI (u)))] → W p l e (kt_rm 1) s m args below meth c H locs 0 0 Q (F0 m 4 ls []) := by
    refine kt_up ?_ ?_
    · intro acc za H locs ls hP hD hS hl
      refine lv_iload_n hx hb dX2_weightOf_4 rfl (lv_at hl 3 rfl) ?_
      refine lv_aload_n hx hb dX2_weightOf_5 rfl (lv_at hl 0 rfl) ?_
      refine kt_gM B hK hP rfl 0 (by decide) q148 rfl dX2_weightOf_6 ?_
      refine kn_ge (tgt := 70) hx hb dX2_weightOf_9 (by decide) (by omega) (by omega) (fun hq => ?_) (fun hq => absurd hq (by omega))
      refine lv_iload_n hx hb dX2_weightOf_70 rfl (lv_at hl 2 rfl) ?_
      exact hret _ () _ _ _ _ (by rw [za, ct_wt_row]) hP hD hS dX2_weightOf_71
    · intro u zu ih acc za H locs ls hP hD hS hl
      refine lv_iload_n hx hb dX2_weightOf_4 rfl (lv_at hl 3 rfl) ?_
      refine lv_aload_n hx hb dX2_weightOf_5 rfl (lv_at hl 0 rfl) ?_
      refine kt_gM B hK hP rfl 0 (by decide) q148 rfl dX2_weightOf_6 ?_
      refine kn_ge (tgt := 70) hx hb dX2_weightOf_9 (by decide) (by omega) (by omega) (fun hq => absurd hq (by omega)) (fun hq => ?_)
      refine lv_iconst (v := nI (0)) hx hb dX2_weightOf_12 (by decide) ?_
      refine lv_istore (lv' := [(4, .int (nI (0))), (0, .ref (ob)), (1, .int (nI (S))), (2, .int (nI (acc))), (3, .int (nI (u)))]) hx hb dX2_weightOf_13 hl (by decide) rfl (fun ls hl => ?_)
      have inner : ∀ v, v ≤ n → ∀ acc2, acc2 = acc + fb_sm (fun v => ct_cell g S u v) v → ∀ (H : Heap) (locs : List Loc) (ls : Array Slot), va_P D vwCl (wM ob ar dA n g) H → va_D A (wM ob ar dA n g) → va_S A s.heap H locs → lv_has ls 5 [(0, .ref (ob)), (1, .int (nI (S))), (2, .int (nI (acc2))), (3, .int (nI (u))), (4, .int (nI (v)))] → W p l e (kt_rm 1) s m args below meth c H locs 0 0 Q (F0 m 15 ls []) := by
        refine kt_up ?_ ?_
        · intro acc2 za2 H locs ls hP hD hS hl
          refine lv_iload hx hb dX2_weightOf_15 (lv_at hl 4 rfl) ?_
          refine lv_aload_n hx hb dX2_weightOf_17 rfl (lv_at hl 0 rfl) ?_
          refine kt_gM B hK hP rfl 0 (by decide) q148 rfl dX2_weightOf_18 ?_
          refine kn_ge (tgt := 64) hx hb dX2_weightOf_21 (by decide) (by omega) (by omega) (fun hq => ?_) (fun hq => absurd hq (by omega))
          refine lv_iinc (v := nI (u + 1)) (lv' := [(3, .int (nI (u + 1))), (0, .ref (ob)), (1, .int (nI (S))), (2, .int (nI (acc2))), (4, .int (nI ((n))))]) hx hb dX2_weightOf_64 hl (k := 3) rfl (nI_add u 1) (by decide) rfl (fun ls hl => ?_)
          refine lv_goto (tgt := 4) hx hb dX2_weightOf_67 (by decide) ?_
          exact ih _ (by rw [za2, za]; rfl) _ _ _ hP hD hS (lv_sub hl [1, 2, 3, 0] rfl)
        · intro v zv ih2 acc2 za2 H locs ls hP hD hS hl
          refine lv_iload hx hb dX2_weightOf_15 (lv_at hl 4 rfl) ?_
          refine lv_aload_n hx hb dX2_weightOf_17 rfl (lv_at hl 0 rfl) ?_
          refine kt_gM B hK hP rfl 0 (by decide) q148 rfl dX2_weightOf_18 ?_
          refine kn_ge (tgt := 64) hx hb dX2_weightOf_21 (by decide) (by omega) (by omega) (fun hq => absurd hq (by omega)) (fun hq => ?_)
          refine lv_aload_n hx hb dX2_weightOf_24 rfl (lv_at hl 0 rfl) ?_
          refine lv_iload_n hx hb dX2_weightOf_25 rfl (lv_at hl 1 rfl) ?_
          refine lv_iload_n hx hb dX2_weightOf_26 rfl (lv_at hl 3 rfl) ?_
          refine kt_callI (wr := []) (rest := []) B (mM_in l D ob ar dA n g S u zS (by omega)) (cwV 2 B.2.2.2.2 (lw_V q183 q185 qs13 q19 q186) rfl rfl rfl (by decide +kernel) ⟨Nat.le_of_ble_eq_true rfl, Nat.le_of_ble_eq_true rfl⟩) [0, 1] [] [0] rfl rfl rfl rfl rfl (fun _ h _ => absurd h List.not_mem_nil) rfl hA hK hP hD hS (ci := 1) rfl rfl rfl rfl hl.1 rfl (Nat.le_of_ble_eq_true rfl) dX2_weightOf_27 ⟨Nat.le_refl _, Nat.le_refl _⟩ (fun rx ux H locs hw hP hD hS => ?_)
          have hP : va_P D vwCl (wM ob ar dA n g) H := hP
          have hD : va_D A (wM ob ar dA n g) := hD
          have hw : rx = nI (ct_bn (S.testBit u)) := hw
          subst hw
          refine kn_if_eq (tgt := 58) hx hb dX2_weightOf_30 (by decide) (ct_bn_lt _) (fun hc => ?_) (fun hc => ?_)
          · refine lv_iinc (v := nI (v + 1)) (lv' := [(4, .int (nI (v + 1))), (0, .ref (ob)), (1, .int (nI (S))), (2, .int (nI (acc2))), (3, .int (nI (u)))]) hx hb dX2_weightOf_58 hl (k := 4) rfl (nI_add v 1) (by decide) rfl (fun ls hl => ?_)
            refine lv_goto (tgt := 15) hx hb dX2_weightOf_61 (by decide) ?_
            exact ih2 _ (by rw [za2, fb_sm_succ, ct_cell_1 (ct_bn_0 hc)]; rfl) _ _ _ hP hD hS (lv_sub hl [1, 2, 3, 4, 0] rfl)
          · refine lv_aload_n hx hb dX2_weightOf_33 rfl (lv_at hl 0 rfl) ?_
            refine lv_iload_n hx hb dX2_weightOf_34 rfl (lv_at hl 1 rfl) ?_
            refine lv_iload hx hb dX2_weightOf_35 (lv_at hl 4 rfl) ?_
            refine kt_callI (wr := []) (rest := []) B (mM_in l D ob ar dA n g S v zS (by omega)) (cwV 2 B.2.2.2.2 (lw_V q183 q185 qs13 q19 q186) rfl rfl rfl (by decide +kernel) ⟨Nat.le_of_ble_eq_true rfl, Nat.le_of_ble_eq_true rfl⟩) [0, 1] [] [0] rfl rfl rfl rfl rfl (fun _ h _ => absurd h List.not_mem_nil) rfl hA hK hP hD hS (ci := 1) rfl rfl rfl rfl hl.1 rfl (Nat.le_of_ble_eq_true rfl) dX2_weightOf_37 ⟨Nat.le_refl _, Nat.le_refl _⟩ (fun rx ux H locs hw hP hD hS => ?_)
            have hP : va_P D vwCl (wM ob ar dA n g) H := hP
            have hD : va_D A (wM ob ar dA n g) := hD
            have hw : rx = nI (ct_bn (S.testBit v)) := hw
            subst hw
            refine kn_if_ne (tgt := 58) hx hb dX2_weightOf_40 (by decide) (ct_bn_lt _) (fun hd => ?_) (fun hd => ?_)
            · refine lv_iinc (v := nI (v + 1)) (lv' := [(4, .int (nI (v + 1))), (0, .ref (ob)), (1, .int (nI (S))), (2, .int (nI (acc2))), (3, .int (nI (u)))]) hx hb dX2_weightOf_58 hl (k := 4) rfl (nI_add v 1) (by decide) rfl (fun ls hl => ?_)
              refine lv_goto (tgt := 15) hx hb dX2_weightOf_61 (by decide) ?_
              exact ih2 _ (by rw [za2, fb_sm_succ, ct_cell_2 (ct_bn_1 hd)]; rfl) _ _ _ hP hD hS (lv_sub hl [1, 2, 3, 4, 0] rfl)
            · refine lv_iload_n hx hb dX2_weightOf_43 rfl (lv_at hl 2 rfl) ?_
              refine lv_aload_n hx hb dX2_weightOf_44 rfl (lv_at hl 0 rfl) ?_
              refine kt_gM B hK hP rfl 1 (by decide) q149 rfl dX2_weightOf_45 ?_
              refine lv_bipush (v := nI (8)) hx hb dX2_weightOf_48 (by decide) ?_
              refine lv_iload_n hx hb dX2_weightOf_50 rfl (lv_at hl 3 rfl) ?_
              refine kn_imul hx hb dX2_weightOf_51 ?_
              refine lv_iload hx hb dX2_weightOf_52 (lv_at hl 4 rfl) ?_
              refine kn_iadd hx hb dX2_weightOf_54 ?_
              refine kt_il (v := nI (g ((8 * u) + v))) hx hb hK hP 1 0 rfl rfl (by omega) (by decide) rfl dX2_weightOf_55 ?_
              refine kn_iadd hx hb dX2_weightOf_56 ?_
              refine lv_istore_n (lv' := [(2, .int (nI (acc2 + (g ((8 * u) + v))))), (0, .ref (ob)), (1, .int (nI (S))), (3, .int (nI (u))), (4, .int (nI (v)))]) hx hb dX2_weightOf_57 rfl hl (by decide) rfl (fun ls hl => ?_)
              refine lv_iinc (v := nI (v + 1)) (lv' := [(4, .int (nI (v + 1))), (2, .int (nI (acc2 + (g ((8 * u) + v))))), (0, .ref (ob)), (1, .int (nI (S))), (3, .int (nI (u)))]) hx hb dX2_weightOf_58 hl (k := 4) rfl (nI_add v 1) (by decide) rfl (fun ls hl => ?_)
              refine lv_goto (tgt := 15) hx hb dX2_weightOf_61 (by decide) ?_
              exact ih2 _ (by rw [za2, fb_sm_succ, ct_cell_3 (ct_bn_1 hc) (ct_bn_0 hd), Nat.add_assoc]) _ _ _ hP hD hS (lv_sub hl [2, 3, 1, 4, 0] rfl)
      exact inner 0 (Nat.zero_le _) acc rfl _ _ _ hP hD hS (lv_sub hl [1, 2, 3, 4, 0] rfl)
  refine lv_iconst (v := nI (0)) hx hb dX2_weightOf_0 (by decide) ?_
  refine lv_istore_n (lv' := [(2, .int (nI (0))), (0, .ref (ob)), (1, .int (nI (S)))]) hx hb dX2_weightOf_1 rfl hl (by decide) rfl (fun ls hl => ?_)
  refine lv_iconst (v := nI (0)) hx hb dX2_weightOf_2 (by decide) ?_
  refine lv_istore_n (lv' := [(3, .int (nI (0))), (2, .int (nI (0))), (0, .ref (ob)), (1, .int (nI (S)))]) hx hb dX2_weightOf_3 rfl hl (by decide) rfl (fun ls hl => ?_)
  exact outer 0 (Nat.zero_le _) 0 rfl _ _ _ hP hD hS (lv_sub hl [2, 3, 1, 0] rfl)
end
section
/-! ===== the loops of the reference ===== -/
theorem ct_wt_le {n : Nat} {g : Nat → Nat} (hn : n ≤ 8) (hg : ct_G g) (S : Nat) : ct_wt n g S ≤ 3200 := ct_wt_bound hn hg S.testBit
theorem ct_full {n S v : Nat} (hS : S < 2 ^ n) (hv : v < n) (h : S.testBit v = false) : S < 2 ^ n - 1 := by
  rcases Nat.lt_or_ge S (2 ^ n - 1) with q | q
  · exact q
  · have e : S = 2 ^ n - 1 := by omega
    rw [e, Nat.testBit_two_pow_sub_one] at h
    simp [hv] at h
/-- the least so far, -1 at first: the numbers below k that P takes, w what each weighs -/
def ct_lo (P : Nat → Prop) (w : Nat → Nat) (k : Nat) (le : Int32) : Prop :=
  (le = -1 ∧ ∀ S, S < k → ¬ P S) ∨ ∃ L, le = nI L ∧ L < 2 ^ 31 ∧ (∃ S, S < k ∧ P S ∧ w S = L) ∧ ∀ S, S < k → P S → L ≤ w S
theorem ct_lo_skip {P : Nat → Prop} {w : Nat → Nat} {k : Nat} {le : Int32} (h : ¬ P k) (hl : ct_lo P w k le) : ct_lo P w (k + 1) le := by
  have ex : ∀ S, S < k + 1 → P S → S < k := fun S hS hP => by
    rcases Nat.lt_or_ge S k with q | q
    · exact q
    · rw [show S = k by omega] at hP; exact absurd hP h
  rcases hl with ⟨a, b⟩ | ⟨L, a, b, ⟨S, c1, c2, c3⟩, d⟩
  · exact Or.inl ⟨a, fun S hS hP => b S (ex S hS hP) hP⟩
  · exact Or.inr ⟨L, a, b, ⟨S, by omega, c2, c3⟩, fun S hS hP => d S (ex S hS hP) hP⟩
theorem ct_lo_first {P : Nat → Prop} {w : Nat → Nat} {k : Nat} (hP : P k) (hw : w k < 2 ^ 31) (h : ∀ S, S < k → ¬ P S) : ct_lo P w (k + 1) (nI (w k)) := by
  refine Or.inr ⟨_, rfl, hw, ⟨k, by omega, hP, rfl⟩, fun S hS hPS => ?_⟩
  rcases Nat.lt_or_ge S k with q | q
  · exact absurd hPS (h S q)
  · rw [show S = k by omega]; exact Nat.le_refl _
theorem ct_lo_less {P : Nat → Prop} {w : Nat → Nat} {k L : Nat} (hP : P k) (hw : w k < 2 ^ 31) (hl : w k < L) (h : ∀ S, S < k → P S → L ≤ w S) : ct_lo P w (k + 1) (nI (w k)) := by
  refine Or.inr ⟨_, rfl, hw, ⟨k, by omega, hP, rfl⟩, fun S hS hPS => ?_⟩
  rcases Nat.lt_or_ge S k with q | q
  · exact Nat.le_trans (Nat.le_of_lt hl) (h S q hPS)
  · rw [show S = k by omega]; exact Nat.le_refl _
theorem ct_lo_keep {P : Nat → Prop} {w : Nat → Nat} {k L : Nat} (hw : L < 2 ^ 31) (hl : L ≤ w k) (h0 : ∃ S, S < k ∧ P S ∧ w S = L) (h : ∀ S, S < k → P S → L ≤ w S) : ct_lo P w (k + 1) (nI L) := by
  obtain ⟨S, c1, c2, c3⟩ := h0
  refine Or.inr ⟨L, rfl, hw, ⟨S, by omega, c2, c3⟩, fun S hS hPS => ?_⟩
  rcases Nat.lt_or_ge S k with q | q
  · exact h S q hPS
  · rw [show S = k by omega]; exact hl
def ct_parts (u v S : Nat) : Prop := S.testBit u = true ∧ S.testBit v = false
theorem ct_lo_0 (u v : Nat) (w : Nat → Nat) : ct_lo (ct_parts u v) w 1 (-1) := Or.inl ⟨rfl, fun S hS h => by rw [show S = 0 by omega] at h; exact absurd h.1 (by simp)⟩
theorem ct_lo_lam {n : Nat} {g : Nat → Nat} {u v : Nat} {le : Int32} (hu : u < n) (hv : v < n) (hne : u ≠ v) (h : ct_lo (ct_parts u v) (ct_wt n g) (2 ^ n - 1) le) : le = nI (ct_lam n g u v) := by
  obtain ⟨⟨S, a1, a2, a3, a4⟩, a5⟩ := ct_lam_spec (g := g) hu hne
  have hS := ct_full a1 hv a3
  rcases h with ⟨-, b⟩ | ⟨L, rfl, -, ⟨T, c1, c2, c3⟩, d⟩
  · exact absurd ⟨a2, a3⟩ (b S hS)
  · have h1 := d S hS ⟨a2, a3⟩
    have h2 := a5 T (by omega) c2.1 c2.2
    rw [show L = ct_lam n g u v by omega]
/-- the lightest cut of all -/
def ct_min (n : Nat) (g : Nat → Nat) (L : Nat) : Prop := (∃ S, 1 ≤ S ∧ S < 2 ^ n - 1 ∧ ct_wt n g S = L) ∧ ∀ S, 1 ≤ S → S < 2 ^ n - 1 → L ≤ ct_wt n g S
theorem ct_lo_1 (w : Nat → Nat) : ct_lo (fun S => 1 ≤ S) w 1 (-1) := Or.inl ⟨rfl, fun S hS h => by omega⟩
theorem ct_lo_min {n : Nat} {g : Nat → Nat} {le : Int32} (hn : 2 ≤ n) (h : ct_lo (fun S => 1 ≤ S) (ct_wt n g) (2 ^ n - 1) le) : ∃ L, le = nI L ∧ ct_min n g L := by
  have h2 : 2 ^ 2 ≤ 2 ^ n := Nat.pow_le_pow_right (by decide) hn
  rcases h with ⟨-, b⟩ | ⟨L, rfl, -, ⟨T, c1, c2, c3⟩, d⟩
  · exact absurd (Nat.le_refl 1) (b 1 (by omega))
  · exact ⟨L, rfl, ⟨T, c2, c1, c3⟩, fun S h1 h2 => d S h2 h1⟩
/-- the smallest of the lightest cuts -/
def ct_fit (n : Nat) (g : Nat → Nat) (u v S : Nat) : Prop := S.testBit u = true ∧ S.testBit v = false ∧ ct_wt n g S = ct_lam n g u v
def ct_side (n : Nat) (g : Nat → Nat) (u v B : Nat) : Prop := B < 2 ^ n ∧ ct_fit n g u v B ∧ ∀ S, S < 2 ^ n → ct_fit n g u v S → ct_pc n B ≤ ct_pc n S
def ct_be (n : Nat) (g : Nat → Nat) (u v k B : Nat) : Prop := (B = 0 ∧ ∀ S, S < k → ¬ ct_fit n g u v S) ∨ (0 < B ∧ B < k ∧ ct_fit n g u v B ∧ ∀ S, S < k → ct_fit n g u v S → ct_pc n B ≤ ct_pc n S)
theorem ct_be_0 (n : Nat) (g : Nat → Nat) (u v : Nat) : ct_be n g u v 1 0 := Or.inl ⟨rfl, fun S hS h => by rw [show S = 0 by omega] at h; exact absurd h.1 (by simp)⟩
theorem ct_be_skip {n : Nat} {g : Nat → Nat} {u v k B : Nat} (h : ¬ ct_fit n g u v k) (hb : ct_be n g u v k B) : ct_be n g u v (k + 1) B := by
  have ex : ∀ S, S < k + 1 → ct_fit n g u v S → S < k := fun S hS hP => by
    rcases Nat.lt_or_ge S k with q | q
    · exact q
    · rw [show S = k by omega] at hP; exact absurd hP h
  rcases hb with ⟨a, b⟩ | ⟨a, b, c, d⟩
  · exact Or.inl ⟨a, fun S hS hP => b S (ex S hS hP) hP⟩
  · exact Or.inr ⟨a, by omega, c, fun S hS hP => d S (ex S hS hP) hP⟩
theorem ct_be_new {n : Nat} {g : Nat → Nat} {u v k : Nat} (h0 : 0 < k) (hf : ct_fit n g u v k) (h : ∀ S, S < k → ct_fit n g u v S → ct_pc n k ≤ ct_pc n S) : ct_be n g u v (k + 1) k := by
  refine Or.inr ⟨h0, by omega, hf, fun S hS hP => ?_⟩
  rcases Nat.lt_or_ge S k with q | q
  · exact h S q hP
  · rw [show S = k by omega]; exact Nat.le_refl _
theorem ct_be_keep {n : Nat} {g : Nat → Nat} {u v k B : Nat} (h0 : 0 < B) (h1 : B < k) (hf : ct_fit n g u v B) (hl : ct_pc n B ≤ ct_pc n k) (h : ∀ S, S < k → ct_fit n g u v S → ct_pc n B ≤ ct_pc n S) : ct_be n g u v (k + 1) B := by
  refine Or.inr ⟨h0, by omega, hf, fun S hS hP => ?_⟩
  rcases Nat.lt_or_ge S k with q | q
  · exact h S q hP
  · rw [show S = k by omega]; exact hl
theorem ct_be_end {n : Nat} {g : Nat → Nat} {u v B : Nat} (hu : u < n) (hv : v < n) (hne : u ≠ v) (h : ct_be n g u v (2 ^ n - 1) B) : ct_side n g u v B := by
  obtain ⟨⟨S, a1, a2, a3, a4⟩, -⟩ := ct_lam_spec (g := g) hu hne
  rcases h with ⟨-, b⟩ | ⟨a, b, c, d⟩
  · exact absurd ⟨a2, a3, a4⟩ (b S (ct_full a1 hv a3))
  · exact ⟨by omega, c, fun S hS hf => d S (ct_full hS hv hf.2.1) hf⟩
theorem ct_pc_le (n S : Nat) : ct_pc n S ≤ n := fb_ct_le _ n
theorem ct_pc_s (n S : Nat) : fb_ct S.testBit (n + 1) = fb_ct S.testBit n + ct_bn (S.testBit n) := rfl
/-- a group -/
noncomputable def ct_gr (n : Nat) (g : Nat → Nat) (u : Nat) (k : Int32) : Nat := ct_mk (fun v => decide (v = u) || decide (k ≤ nI (ct_lam n g u v))) n
def ct_gs (n : Nat) (g : Nat → Nat) (u : Nat) (k : Int32) (v S : Nat) : Prop := S < 2 ^ n ∧ ∀ i, S.testBit i = true ↔ (i = u ∨ (i < v ∧ k ≤ nI (ct_lam n g u i)))
theorem ct_gs_0 (n : Nat) (g : Nat → Nat) {u : Nat} (hu : u < n) (k : Int32) : ct_gs n g u k 0 (2 ^ u) := by
  refine ⟨Nat.pow_lt_pow_right (by decide) hu, fun i => ?_⟩
  rw [Nat.testBit_two_pow, decide_eq_true_eq]
  constructor
  · intro h; exact Or.inl h.symm
  · intro h; rcases h with h | h
    · exact h.symm
    · omega
theorem ct_gs_same {n : Nat} {g : Nat → Nat} {u : Nat} {k : Int32} {v S : Nat} (h : ct_gs n g u k v S) (hv : v = u ∨ ¬ k ≤ nI (ct_lam n g u v)) : ct_gs n g u k (v + 1) S := by
  refine ⟨h.1, fun i => ?_⟩
  rw [h.2 i]
  constructor
  · intro q; rcases q with q | q
    · exact Or.inl q
    · exact Or.inr ⟨by omega, q.2⟩
  · intro q; rcases q with q | ⟨q1, q2⟩
    · exact Or.inl q
    · by_cases e : i = v
      · subst e
        rcases hv with z | z
        · exact Or.inl z
        · exact absurd q2 z
      · exact Or.inr ⟨by omega, q2⟩
theorem ct_gs_add {n : Nat} {g : Nat → Nat} {u : Nat} {k : Int32} {v S : Nat} (hv : v < n) (h : ct_gs n g u k v S) (hk : k ≤ nI (ct_lam n g u v)) : ct_gs n g u k (v + 1) (S ||| 2 ^ v) := by
  refine ⟨Nat.or_lt_two_pow h.1 (Nat.pow_lt_pow_right (by decide) hv), fun i => ?_⟩
  rw [Nat.testBit_or, Bool.or_eq_true, h.2 i, Nat.testBit_two_pow, decide_eq_true_eq]
  constructor
  · intro q; rcases q with (q | q) | q
    · exact Or.inl q
    · exact Or.inr ⟨by omega, q.2⟩
    · subst q; exact Or.inr ⟨by omega, hk⟩
  · intro q; rcases q with q | ⟨q1, q2⟩
    · exact Or.inl (Or.inl q)
    · by_cases e : i = v
      · exact Or.inr e.symm
      · exact Or.inl (Or.inr ⟨by omega, q2⟩)
theorem ct_gs_end {n : Nat} {g : Nat → Nat} {u : Nat} {k : Int32} {S : Nat} (h : ct_gs n g u k n S) (hu : u < n) : S = ct_gr n g u k := by
  refine Nat.eq_of_testBit_eq (fun i => ?_)
  unfold ct_gr
  rw [ct_mk_bit, Bool.eq_iff_iff, h.2 i]
  simp only [Bool.and_eq_true, Bool.or_eq_true, decide_eq_true_eq]
  constructor
  · intro q; rcases q with q | q
    · exact ⟨by omega, Or.inl q⟩
    · exact ⟨q.1, Or.inr q.2⟩
  · intro q; rcases q.2 with z | z
    · exact Or.inl z
    · exact Or.inr ⟨q.1, z⟩
theorem ct_gr_lt (n : Nat) (g : Nat → Nat) (u : Nat) (k : Int32) : ct_gr n g u k < 2 ^ n := ct_mk_lt _ n
noncomputable def ct_gq (n : Nat) (g : Nat → Nat) (u k : Int32) : Int32 := if ct_ip n u then nI (ct_gr n g u.toNatClampNeg k) else -1
theorem ct_gq_no {n : Nat} {g : Nat → Nat} {u k : Int32} (h : ct_ip n u = false) : (-1) = ct_gq n g u k := by simp [ct_gq, h]
theorem ct_gq_yes {n : Nat} {g : Nat → Nat} {i : Nat} {k : Int32} (hi : i < 2 ^ 31) (h : ct_ip n (nI i) = true) : nI (ct_gr n g i k) = ct_gq n g (nI i) k := by
  unfold ct_gq
  rw [if_pos h, nI_clamp hi]
/-- link -/
noncomputable def ct_lk (n : Nat) (g : Nat → Nat) (u v : Int32) : Int32 := if ct_ic n u v then nI (ct_lam n g u.toNatClampNeg v.toNatClampNeg) else -1
theorem ct_lk_no {n : Nat} {g : Nat → Nat} {u v : Int32} (h : ct_ic n u v = false) : (-1) = ct_lk n g u v := by simp [ct_lk, h]
theorem ct_lk_yes {n : Nat} {g : Nat → Nat} {i j : Nat} (hi : i < 2 ^ 31) (hj : j < 2 ^ 31) (h : ct_ic n (nI i) (nI j) = true) : nI (ct_lam n g i j) = ct_lk n g (nI i) (nI j) := by
  unfold ct_lk
  rw [if_pos h, nI_clamp hi, nI_clamp hj]
/-- weight -/
def ct_we (n : Nat) (g : Nat → Nat) (x : Int32) : Int32 := if ¬ x ≤ 0 ∧ ¬ nI (2 ^ n - 1) ≤ x then nI (ct_wt n g x.toNatClampNeg) else -1
theorem ct_we_1 {n : Nat} {g : Nat → Nat} {x : Int32} (h : x ≤ 0) : (-1) = ct_we n g x := by simp [ct_we, h]
theorem ct_we_2 {n : Nat} {g : Nat → Nat} {x : Int32} (h : nI (2 ^ n - 1) ≤ x) : (-1) = ct_we n g x := by simp [ct_we, h]
theorem ct_we_3 {n : Nat} {g : Nat → Nat} {S : Nat} (hS : S < 2 ^ 31) (h : ¬ nI S ≤ 0) (h2 : ¬ nI (2 ^ n - 1) ≤ nI S) : nI (ct_wt n g S) = ct_we n g (nI S) := by
  unfold ct_we
  rw [if_pos ⟨h, h2⟩, nI_clamp hS]
theorem ct_we_of {n : Nat} {x : Int32} (h : ¬ x ≤ 0) (h2 : ¬ nI (2 ^ n - 1) ≤ x) (hn : n ≤ 8) : ∃ S, S < 2 ^ 31 ∧ x = nI S ∧ S < 2 ^ n - 1 ∧ 0 < S := by
  have hp := ct_pow8 hn
  obtain ⟨S, hS, rfl⟩ := nI_of (x := x) (fun q => h (by rw [fa_lt] at q; rw [fa_le]; omega))
  refine ⟨S, hS, rfl, ?_, ?_⟩
  · rcases Nat.lt_or_ge S (2 ^ n - 1) with q | q
    · exact q
    · exact absurd (nI_le q hS) h2
  · rcases Nat.eq_zero_or_pos S with q | q
    · rw [q] at h; exact absurd (by decide) h
    · exact q
/-- cap: what is above t comes down to t; the pairs (a, b), b < a, in the order of the reference, up to (u, v) -/
def ct_pm (u v i : Nat) : Bool := decide (i < 64 ∧ i / 8 ≠ i % 8 ∧ (max (i / 8) (i % 8) < u ∨ (max (i / 8) (i % 8) = u ∧ min (i / 8) (i % 8) < v)))
def ct_cm (g : Nat → Nat) (t u v : Nat) : Nat → Nat := fun i => if ct_pm u v i then min (g i) t else g i
theorem ct_cm_0 (g : Nat → Nat) (t : Nat) : g = ct_cm g t 0 0 := by
  funext i
  unfold ct_cm
  rw [if_neg]
  simp only [ct_pm, decide_eq_true_eq]
  omega
theorem ct_cm_row (g : Nat → Nat) (t u : Nat) : ct_cm g t u u = ct_cm g t (u + 1) 0 := by
  funext i
  unfold ct_cm
  have e : ct_pm u u i = ct_pm (u + 1) 0 i := by
    unfold ct_pm
    rw [decide_eq_decide]
    omega
  rw [e]
theorem ct_cm_at {g : Nat → Nat} {t u v : Nat} (hv : v < u) (hu : u < 8) : ct_cm g t u v (8 * u + v) = g (8 * u + v) := by
  unfold ct_cm
  rw [if_neg]
  simp only [ct_pm, decide_eq_true_eq]
  omega
theorem ct_cm_keep {g : Nat → Nat} (hg : ct_G g) {t u v : Nat} (hv : v < u) (hu : u < 8) (h : g (8 * u + v) ≤ t) : ct_cm g t u v = ct_cm g t u (v + 1) := by
  funext i
  unfold ct_cm
  have sy := hg.1 u v hu (by omega)
  by_cases c : ct_pm u v i = true
  · have c2 : ct_pm u (v + 1) i = true := by
      simp only [ct_pm, decide_eq_true_eq] at c ⊢
      omega
    rw [if_pos c, if_pos c2]
  · rw [if_neg c]
    by_cases c2 : ct_pm u (v + 1) i = true
    · rw [if_pos c2]
      simp only [ct_pm, decide_eq_true_eq] at c c2
      have e : i = 8 * u + v ∨ i = 8 * v + u := by omega
      rcases e with e | e <;> subst e <;> omega
    · rw [if_neg c2]
theorem ct_cm_put {g : Nat → Nat} (hg : ct_G g) {t u v : Nat} (hv : v < u) (hu : u < 8) (h : t < g (8 * u + v)) : ct_up (ct_up (ct_cm g t u v) (8 * u + v) t) (8 * v + u) t = ct_cm g t u (v + 1) := by
  funext i
  have sy := hg.1 u v hu (by omega)
  unfold ct_up ct_cm
  by_cases c1 : i = 8 * v + u
  · rw [if_pos c1, if_pos]
    · subst c1; omega
    · simp only [ct_pm, decide_eq_true_eq]
      omega
  · rw [if_neg c1]
    by_cases c2 : i = 8 * u + v
    · rw [if_pos c2, if_pos]
      · subst c2; omega
      · simp only [ct_pm, decide_eq_true_eq]
        omega
    · rw [if_neg c2]
      have e : ct_pm u v i = ct_pm u (v + 1) i := by
        unfold ct_pm
        rw [decide_eq_decide]
        omega
      rw [e]
theorem ct_cm_G {g : Nat → Nat} (hg : ct_G g) (t n : Nat) : ct_G (ct_cm g t n 0) := by
  obtain ⟨g1, g2, g3⟩ := hg
  refine ⟨fun u v hu hv => ?_, fun u hu => ?_, fun x => ?_⟩
  · unfold ct_cm
    have e : ct_pm n 0 (8 * u + v) = ct_pm n 0 (8 * v + u) := by
      unfold ct_pm
      rw [decide_eq_decide, show (8 * u + v) / 8 = u by omega, show (8 * u + v) % 8 = v by omega, show (8 * v + u) / 8 = v by omega, show (8 * v + u) % 8 = u by omega]
      omega
    rw [e, g1 u v hu hv]
  · unfold ct_cm
    have := g2 u hu
    split <;> omega
  · unfold ct_cm
    have := g3 x
    split <;> omega
def ct_cc (g : Nat → Nat) (t u v : Nat) : Nat := ct_bn (decide (t < g (8 * u + v)))
end
section
/-! ===== the reference, what it answers ===== -/
set_option maxHeartbeats 4000000 in
set_option maxRecDepth 100000 in
theorem mM_linkOf (l : Launch) (D : va_G) (ob ar : Nat) (dA : ClassId) (n : Nat) (g : Nat → Nat) (zn : n ≤ 8) (zg : ct_G g) (u v : Nat) (zu : u < n) (zv : v < n) (zuv : u ≠ v) : kt_Mi l yX2_linkOf cX2_linkOf 6 .int 2 D (tyM dA) (wM ob ar dA n g) [.ref (ob), .int (nI (u)), .int (nI (v))] (fun r (_ : Unit) => r = nI (ct_lam n g u v)) (fun _ => wM ob ar dA n g) := by
  refine kt_inI (by decide) (Nat.le_of_ble_eq_true rfl) (fun r _ h => rfl) ?_
  intro p e s m args below meth c A Q H ls B hA hK hP hD hS hl hret
  have B : CallFix p m c cX2_linkOf 6 s args lw_all RX2 := B
  have hx := B.1
  have hb := B.2.1
  have hl : lv_has ls 6 [(0, .ref (ob)), (1, .int (nI (u))), (2, .int (nI (v)))] := hl
  have zp := ct_pow8 zn
  have loop : ∀ k, k ≤ 2 ^ n - 1 → ∀ le, ct_lo (ct_parts u v) (ct_wt n g) k le → ∀ (H : Heap) (locs : List Loc) (ls : Array Slot), va_P D vwCl (wM ob ar dA n g) H → va_D A (wM ob ar dA n g) → va_S A s.heap H locs → lv_has ls 6 [(0, .ref (ob)), (1, .int (nI (u))), (2, .int (nI (v))), (3, .int (le)), (4, .int (nI (k)))] → W p l e (kt_rm 2) s m args below meth c H locs 0 0 Q (F0 m 5 ls []) := by
    refine kt_up ?_ ?_
    · intro le zl H locs ls hP hD hS hl
      refine lv_iload hx hb dX2_linkOf_5 (lv_at hl 4 rfl) ?_
      refine lv_aload_n hx hb dX2_linkOf_7 rfl (lv_at hl 0 rfl) ?_
      refine kt_callI (wr := []) (rest := [.int (nI ((2 ^ n - 1)))]) B (mM_all l D ob ar dA n g zn) (cwV 0 B.2.2.2.2 (lw_V q179 q181 qs12 q19 q182) rfl rfl rfl (by decide +kernel) ⟨Nat.le_of_ble_eq_true rfl, Nat.le_of_ble_eq_true rfl⟩) [0, 1] [] [0] rfl rfl rfl rfl rfl (fun _ h _ => absurd h List.not_mem_nil) rfl hA hK hP hD hS (ci := 1) rfl rfl rfl rfl hl.1 rfl (Nat.le_of_ble_eq_true rfl) dX2_linkOf_8 ⟨Nat.le_refl _, Nat.le_refl _⟩ (fun rx ux H locs hw hP hD hS => ?_)
      have hP : va_P D vwCl (wM ob ar dA n g) H := hP
      have hD : va_D A (wM ob ar dA n g) := hD
      have hw : rx = nI (2 ^ n - 1) := hw
      subst hw
      refine kn_ge (tgt := 61) hx hb dX2_linkOf_11 (by decide) (by omega) (by omega) (fun hq => ?_) (fun hq => absurd hq (by omega))
      refine lv_iload_n hx hb dX2_linkOf_61 rfl (lv_at hl 3 rfl) ?_
      exact hret _ () _ _ _ _ (ct_lo_lam zu zv zuv zl) hP hD hS dX2_linkOf_62
    · intro k zk ih le zl H locs ls hP hD hS hl
      have zw := ct_wt_le zn zg k
      refine lv_iload hx hb dX2_linkOf_5 (lv_at hl 4 rfl) ?_
      refine lv_aload_n hx hb dX2_linkOf_7 rfl (lv_at hl 0 rfl) ?_
      refine kt_callI (wr := []) (rest := [.int (nI (k))]) B (mM_all l D ob ar dA n g zn) (cwV 0 B.2.2.2.2 (lw_V q179 q181 qs12 q19 q182) rfl rfl rfl (by decide +kernel) ⟨Nat.le_of_ble_eq_true rfl, Nat.le_of_ble_eq_true rfl⟩) [0, 1] [] [0] rfl rfl rfl rfl rfl (fun _ h _ => absurd h List.not_mem_nil) rfl hA hK hP hD hS (ci := 1) rfl rfl rfl rfl hl.1 rfl (Nat.le_of_ble_eq_true rfl) dX2_linkOf_8 ⟨Nat.le_refl _, Nat.le_refl _⟩ (fun rx ux H locs hw hP hD hS => ?_)
      have hP : va_P D vwCl (wM ob ar dA n g) H := hP
      have hD : va_D A (wM ob ar dA n g) := hD
      have hw : rx = nI (2 ^ n - 1) := hw
      subst hw
      refine kn_ge (tgt := 61) hx hb dX2_linkOf_11 (by decide) (by omega) (by omega) (fun hq => absurd hq (by omega)) (fun hq => ?_)
      refine lv_aload_n hx hb dX2_linkOf_14 rfl (lv_at hl 0 rfl) ?_
      refine lv_iload hx hb dX2_linkOf_15 (lv_at hl 4 rfl) ?_
      refine lv_iload_n hx hb dX2_linkOf_17 rfl (lv_at hl 1 rfl) ?_
      refine kt_callI (wr := []) (rest := []) B (mM_in l D ob ar dA n g k u (by omega) (by omega)) (cwV 2 B.2.2.2.2 (lw_V q183 q185 qs13 q19 q186) rfl rfl rfl (by decide +kernel) ⟨Nat.le_of_ble_eq_true rfl, Nat.le_of_ble_eq_true rfl⟩) [0, 1] [] [0] rfl rfl rfl rfl rfl (fun _ h _ => absurd h List.not_mem_nil) rfl hA hK hP hD hS (ci := 1) rfl rfl rfl rfl hl.1 rfl (Nat.le_of_ble_eq_true rfl) dX2_linkOf_18 ⟨Nat.le_refl _, Nat.le_refl _⟩ (fun rx ux H locs hw hP hD hS => ?_)
      have hP : va_P D vwCl (wM ob ar dA n g) H := hP
      have hD : va_D A (wM ob ar dA n g) := hD
      have hw : rx = nI (ct_bn (k.testBit u)) := hw
      subst hw
      refine kn_if_eq (tgt := 55) hx hb dX2_linkOf_21 (by decide) (ct_bn_lt _) (fun hc => ?_) (fun hc => ?_)
      · refine lv_iinc (v := nI (k + 1)) (lv' := [(4, .int (nI (k + 1))), (0, .ref (ob)), (1, .int (nI (u))), (2, .int (nI (v))), (3, .int (le))]) hx hb dX2_linkOf_55 hl (k := 4) rfl (nI_add k 1) (by decide) rfl (fun ls hl => ?_)
        refine lv_goto (tgt := 5) hx hb dX2_linkOf_58 (by decide) ?_
        exact ih _ (ct_lo_skip (fun z => absurd (z.1.symm.trans (ct_bn_0 hc)) (by decide)) zl) _ _ _ hP hD hS (lv_sub hl [1, 2, 3, 4, 0] rfl)
      · refine lv_aload_n hx hb dX2_linkOf_24 rfl (lv_at hl 0 rfl) ?_
        refine lv_iload hx hb dX2_linkOf_25 (lv_at hl 4 rfl) ?_
        refine lv_iload_n hx hb dX2_linkOf_27 rfl (lv_at hl 2 rfl) ?_
        refine kt_callI (wr := []) (rest := []) B (mM_in l D ob ar dA n g k v (by omega) (by omega)) (cwV 2 B.2.2.2.2 (lw_V q183 q185 qs13 q19 q186) rfl rfl rfl (by decide +kernel) ⟨Nat.le_of_ble_eq_true rfl, Nat.le_of_ble_eq_true rfl⟩) [0, 1] [] [0] rfl rfl rfl rfl rfl (fun _ h _ => absurd h List.not_mem_nil) rfl hA hK hP hD hS (ci := 1) rfl rfl rfl rfl hl.1 rfl (Nat.le_of_ble_eq_true rfl) dX2_linkOf_28 ⟨Nat.le_refl _, Nat.le_refl _⟩ (fun rx ux H locs hw hP hD hS => ?_)
        have hP : va_P D vwCl (wM ob ar dA n g) H := hP
        have hD : va_D A (wM ob ar dA n g) := hD
        have hw : rx = nI (ct_bn (k.testBit v)) := hw
        subst hw
        refine kn_if_ne (tgt := 55) hx hb dX2_linkOf_31 (by decide) (ct_bn_lt _) (fun hd => ?_) (fun hd => ?_)
        · refine lv_iinc (v := nI (k + 1)) (lv' := [(4, .int (nI (k + 1))), (0, .ref (ob)), (1, .int (nI (u))), (2, .int (nI (v))), (3, .int (le))]) hx hb dX2_linkOf_55 hl (k := 4) rfl (nI_add k 1) (by decide) rfl (fun ls hl => ?_)
          refine lv_goto (tgt := 5) hx hb dX2_linkOf_58 (by decide) ?_
          exact ih _ (ct_lo_skip (fun z => absurd (z.2.symm.trans (ct_bn_1 hd)) (by decide)) zl) _ _ _ hP hD hS (lv_sub hl [1, 2, 3, 4, 0] rfl)
        · refine lv_aload_n hx hb dX2_linkOf_34 rfl (lv_at hl 0 rfl) ?_
          refine lv_iload hx hb dX2_linkOf_35 (lv_at hl 4 rfl) ?_
          refine kt_callI (wr := []) (rest := []) B (mM_weightOf l D ob ar dA n g zn k (by omega)) (cwV 1 B.2.2.2.2 (lw_V q187 q189 qs14 q19 q190) rfl rfl rfl (by decide +kernel) ⟨Nat.le_of_ble_eq_true rfl, Nat.le_of_ble_eq_true rfl⟩) [0, 1] [] [0] rfl rfl rfl rfl rfl (fun _ h _ => absurd h List.not_mem_nil) rfl hA hK hP hD hS (ci := 1) rfl rfl rfl rfl hl.1 rfl (Nat.le_of_ble_eq_true rfl) dX2_linkOf_37 ⟨Nat.le_refl _, Nat.le_refl _⟩ (fun rx ux H locs hw hP hD hS => ?_)
          have hP : va_P D vwCl (wM ob ar dA n g) H := hP
          have hD : va_D A (wM ob ar dA n g) := hD
          have hw : rx = nI (ct_wt n g k) := hw
          subst hw
          refine lv_istore (lv' := [(5, .int (nI (ct_wt n g k))), (0, .ref (ob)), (1, .int (nI (u))), (2, .int (nI (v))), (3, .int (le)), (4, .int (nI (k)))]) hx hb dX2_linkOf_40 hl (by decide) rfl (fun ls hl => ?_)
          refine lv_iload_n hx hb dX2_linkOf_42 rfl (lv_at hl 4 rfl) ?_
          have zP : ct_parts u v k := ⟨ct_bn_1 hc, ct_bn_0 hd⟩
          rcases zl with ⟨rfl, zl⟩ | ⟨L, rfl, zL, z0, zl⟩
          · refine lv_if_lt (tgt := 52) hx hb dX2_linkOf_43 (by decide)  (fun hq => ?_) (fun hq => absurd hq (by decide))
            refine lv_iload hx hb dX2_linkOf_52 (lv_at hl 0 rfl) ?_
            refine lv_istore_n (lv' := [(3, .int (nI (ct_wt n g k))), (5, .int (nI (ct_wt n g k))), (0, .ref (ob)), (1, .int (nI (u))), (2, .int (nI (v))), (4, .int (nI (k)))]) hx hb dX2_linkOf_54 rfl hl (by decide) rfl (fun ls hl => ?_)
            refine lv_iinc (v := nI (k + 1)) (lv' := [(4, .int (nI (k + 1))), (3, .int (nI (ct_wt n g k))), (5, .int (nI (ct_wt n g k))), (0, .ref (ob)), (1, .int (nI (u))), (2, .int (nI (v)))]) hx hb dX2_linkOf_55 hl (k := 5) rfl (nI_add k 1) (by decide) rfl (fun ls hl => ?_)
            refine lv_goto (tgt := 5) hx hb dX2_linkOf_58 (by decide) ?_
            exact ih _ (ct_lo_first zP (by omega) zl) _ _ _ hP hD hS (lv_sub hl [3, 4, 5, 1, 0] rfl)
          · refine lv_if_lt (tgt := 52) hx hb dX2_linkOf_43 (by decide) (fun hq => absurd hq (nI_pos zL)) (fun hq => ?_)
            refine lv_iload hx hb dX2_linkOf_46 (lv_at hl 0 rfl) ?_
            refine lv_iload_n hx hb dX2_linkOf_48 rfl (lv_at hl 4 rfl) ?_
            refine kn_ge (tgt := 55) hx hb dX2_linkOf_49 (by decide) (by omega) (by omega) (fun he => ?_) (fun he => ?_)
            · refine lv_iinc (v := nI (k + 1)) (lv' := [(4, .int (nI (k + 1))), (5, .int (nI (ct_wt n g k))), (0, .ref (ob)), (1, .int (nI (u))), (2, .int (nI (v))), (3, .int (nI (L)))]) hx hb dX2_linkOf_55 hl (k := 5) rfl (nI_add k 1) (by decide) rfl (fun ls hl => ?_)
              refine lv_goto (tgt := 5) hx hb dX2_linkOf_58 (by decide) ?_
              exact ih _ (ct_lo_keep zL he z0 zl) _ _ _ hP hD hS (lv_sub hl [2, 3, 4, 5, 0] rfl)
            · refine lv_iload hx hb dX2_linkOf_52 (lv_at hl 0 rfl) ?_
              refine lv_istore_n (lv' := [(3, .int (nI (ct_wt n g k))), (5, .int (nI (ct_wt n g k))), (0, .ref (ob)), (1, .int (nI (u))), (2, .int (nI (v))), (4, .int (nI (k)))]) hx hb dX2_linkOf_54 rfl hl (by decide) rfl (fun ls hl => ?_)
              refine lv_iinc (v := nI (k + 1)) (lv' := [(4, .int (nI (k + 1))), (3, .int (nI (ct_wt n g k))), (5, .int (nI (ct_wt n g k))), (0, .ref (ob)), (1, .int (nI (u))), (2, .int (nI (v)))]) hx hb dX2_linkOf_55 hl (k := 5) rfl (nI_add k 1) (by decide) rfl (fun ls hl => ?_)
              refine lv_goto (tgt := 5) hx hb dX2_linkOf_58 (by decide) ?_
              exact ih _ (ct_lo_less zP (by omega) he zl) _ _ _ hP hD hS (lv_sub hl [3, 4, 5, 1, 0] rfl)
  refine lv_iconst (v := (-1)) hx hb dX2_linkOf_0 (by decide) ?_
  refine lv_istore_n (lv' := [(3, .int (-1)), (0, .ref (ob)), (1, .int (nI (u))), (2, .int (nI (v)))]) hx hb dX2_linkOf_1 rfl hl (by decide) rfl (fun ls hl => ?_)
  refine lv_iconst (v := nI (1)) hx hb dX2_linkOf_2 (by decide) ?_
  refine lv_istore (lv' := [(4, .int (nI (1))), (3, .int (-1)), (0, .ref (ob)), (1, .int (nI (u))), (2, .int (nI (v)))]) hx hb dX2_linkOf_3 hl (by decide) rfl (fun ls hl => ?_)
  exact loop 1 (by have := Nat.pow_le_pow_right (n := 2) (by decide) (show 2 ≤ n by omega); omega) _ (ct_lo_0 u v _) _ _ _ hP hD hS (lv_sub hl [2, 3, 4, 1, 0] rfl)
set_option maxHeartbeats 4000000 in
set_option maxRecDepth 100000 in
theorem mM_link (l : Launch) (D : va_G) (ob ar : Nat) (dA : ClassId) (n : Nat) (g : Nat → Nat) (zn : n ≤ 8) (zg : ct_G g) (u v : Int32) : kt_Mi l yX2_link cX2_link 3 .int 3 D (tyM dA) (wM ob ar dA n g) [.ref (ob), .int (u), .int (v)] (fun r (_ : Unit) => r = ct_lk n g u v) (fun _ => wM ob ar dA n g) := by
  refine kt_inI (by decide) (Nat.le_of_ble_eq_true rfl) (fun r _ h => rfl) ?_
  intro p e s m args below meth c A Q H ls B hA hK hP hD hS hl hret
  have B : CallFix p m c cX2_link 3 s args lw_all RX2 := B
  have hx := B.1
  have hb := B.2.1
  have hl : lv_has ls 3 [(0, .ref (ob)), (1, .int (u)), (2, .int (v))] := hl
  refine lv_aload_n hx hb dX2_link_0 rfl (lv_at hl 0 rfl) ?_
  refine lv_iload_n hx hb dX2_link_1 rfl (lv_at hl 1 rfl) ?_
  refine lv_iload_n hx hb dX2_link_2 rfl (lv_at hl 2 rfl) ?_
  refine kt_callI (wr := []) (rest := []) B (mM_isCouple l D ob ar dA n g u v) (cwV 2 B.2.2.2.2 (lw_V q159 q161 qs9 q19 q162) rfl rfl rfl (by decide +kernel) ⟨Nat.le_of_ble_eq_true rfl, Nat.le_of_ble_eq_true rfl⟩) [0, 1] [] [0] rfl rfl rfl rfl rfl (fun _ h _ => absurd h List.not_mem_nil) rfl hA hK hP hD hS (ci := 1) rfl rfl rfl rfl hl.1 rfl (Nat.le_of_ble_eq_true rfl) dX2_link_3 ⟨Nat.le_refl _, Nat.le_refl _⟩ (fun rx ux H locs hw hP hD hS => ?_)
  have hP : va_P D vwCl (wM ob ar dA n g) H := hP
  have hD : va_D A (wM ob ar dA n g) := hD
  have hw : rx = nI (ct_bn (ct_ic n u v)) := hw
  subst hw
  refine kn_if_eq (tgt := 18) hx hb dX2_link_6 (by decide) (ct_bn_lt _) (fun hc => ?_) (fun hc => ?_)
  · refine lv_iconst (v := (-1)) hx hb dX2_link_18 (by decide) ?_
    exact hret _ () _ _ _ _ (ct_lk_no (ct_bn_0 hc)) hP hD hS dX2_link_19
  · have hok := ct_bn_1 hc
    obtain ⟨i, j, zi, zj, zij, rfl, rfl⟩ := ct_ic_of zn hok
    refine lv_aload_n hx hb dX2_link_9 rfl (lv_at hl 0 rfl) ?_
    refine lv_iload_n hx hb dX2_link_10 rfl (lv_at hl 1 rfl) ?_
    refine lv_iload_n hx hb dX2_link_11 rfl (lv_at hl 2 rfl) ?_
    refine kt_callI (wr := []) (rest := []) B (mM_linkOf l D ob ar dA n g zn zg i j zi zj zij) (cwV 2 B.2.2.2.2 (lw_V q175 q177 qs11 q19 q178) rfl rfl rfl (by decide +kernel) ⟨Nat.le_of_ble_eq_true rfl, Nat.le_of_ble_eq_true rfl⟩) [0, 1] [] [0] rfl rfl rfl rfl rfl (fun _ h _ => absurd h List.not_mem_nil) rfl hA hK hP hD hS (ci := 1) rfl rfl rfl rfl hl.1 rfl (Nat.le_of_ble_eq_true rfl) dX2_link_12 ⟨Nat.le_refl _, Nat.le_refl _⟩ (fun rx ux H locs hw hP hD hS => ?_)
    have hP : va_P D vwCl (wM ob ar dA n g) H := hP
    have hD : va_D A (wM ob ar dA n g) := hD
    have hw : rx = nI (ct_lam n g i j) := hw
    subst hw
    refine lv_goto (tgt := 19) hx hb dX2_link_15 (by decide) ?_
    exact hret _ () _ _ _ _ (ct_lk_yes (by omega) (by omega) hok) hP hD hS dX2_link_19
set_option maxHeartbeats 4000000 in
set_option maxRecDepth 100000 in
theorem mM_sizeOf (l : Launch) (D : va_G) (ob ar : Nat) (dA : ClassId) (n : Nat) (g : Nat → Nat) (zn : n ≤ 8) (S : Nat) (zS : S < 2 ^ 31) : kt_Mi l yX2_sizeOf cX2_sizeOf 4 .int 1 D (tyM dA) (wM ob ar dA n g) [.ref (ob), .int (nI (S))] (fun r (_ : Unit) => r = nI (ct_pc n S)) (fun _ => wM ob ar dA n g) := by
  refine kt_inI (by decide) (Nat.le_of_ble_eq_true rfl) (fun r _ h => rfl) ?_
  intro p e s m args below meth c A Q H ls B hA hK hP hD hS hl hret
  have B : CallFix p m c cX2_sizeOf 4 s args lw_all RX2 := B
  have hx := B.1
  have hb := B.2.1
  have hl : lv_has ls 4 [(0, .ref (ob)), (1, .int (nI (S)))] := hl
  have loop : ∀ u, u ≤ n → ∀ acc, acc = fb_ct S.testBit u → ∀ (H : Heap) (locs : List Loc) (ls : Array Slot), va_P D vwCl (wM ob ar dA n g) H → va_D A (wM ob ar dA n g) → va_S A s.heap H locs → lv_has ls 4 [(0, .ref (ob)), (1, .int (nI (S))), (2, .int (nI (acc))), (3, .int (nI (u)))] → W p l e (kt_rm 1) s m args below meth c H locs 0 0 Q (F0 m 4 ls []) := by
    refine kt_up ?_ ?_
    · intro acc za H locs ls hP hD hS hl
      refine lv_iload_n hx hb dX2_sizeOf_4 rfl (lv_at hl 3 rfl) ?_
      refine lv_aload_n hx hb dX2_sizeOf_5 rfl (lv_at hl 0 rfl) ?_
      refine kt_gM B hK hP rfl 0 (by decide) q148 rfl dX2_sizeOf_6 ?_
      refine kn_ge (tgt := 30) hx hb dX2_sizeOf_9 (by decide) (by omega) (by omega) (fun hq => ?_) (fun hq => absurd hq (by omega))
      refine lv_iload_n hx hb dX2_sizeOf_30 rfl (lv_at hl 2 rfl) ?_
      exact hret _ () _ _ _ _ (by rw [za]; rfl) hP hD hS dX2_sizeOf_31
    · intro u zu ih acc za H locs ls hP hD hS hl
      refine lv_iload_n hx hb dX2_sizeOf_4 rfl (lv_at hl 3 rfl) ?_
      refine lv_aload_n hx hb dX2_sizeOf_5 rfl (lv_at hl 0 rfl) ?_
      refine kt_gM B hK hP rfl 0 (by decide) q148 rfl dX2_sizeOf_6 ?_
      refine kn_ge (tgt := 30) hx hb dX2_sizeOf_9 (by decide) (by omega) (by omega) (fun hq => absurd hq (by omega)) (fun hq => ?_)
      refine lv_aload_n hx hb dX2_sizeOf_12 rfl (lv_at hl 0 rfl) ?_
      refine lv_iload_n hx hb dX2_sizeOf_13 rfl (lv_at hl 1 rfl) ?_
      refine lv_iload_n hx hb dX2_sizeOf_14 rfl (lv_at hl 3 rfl) ?_
      refine kt_callI (wr := []) (rest := []) B (mM_in l D ob ar dA n g S u zS (by omega)) (cwV 2 B.2.2.2.2 (lw_V q183 q185 qs13 q19 q186) rfl rfl rfl (by decide +kernel) ⟨Nat.le_of_ble_eq_true rfl, Nat.le_of_ble_eq_true rfl⟩) [0, 1] [] [0] rfl rfl rfl rfl rfl (fun _ h _ => absurd h List.not_mem_nil) rfl hA hK hP hD hS (ci := 1) rfl rfl rfl rfl hl.1 rfl (Nat.le_of_ble_eq_true rfl) dX2_sizeOf_15 ⟨Nat.le_refl _, Nat.le_refl _⟩ (fun rx ux H locs hw hP hD hS => ?_)
      have hP : va_P D vwCl (wM ob ar dA n g) H := hP
      have hD : va_D A (wM ob ar dA n g) := hD
      have hw : rx = nI (ct_bn (S.testBit u)) := hw
      subst hw
      refine kn_if_eq (tgt := 24) hx hb dX2_sizeOf_18 (by decide) (ct_bn_lt _) (fun hc => ?_) (fun hc => ?_)
      · refine lv_iinc (v := nI (u + 1)) (lv' := [(3, .int (nI (u + 1))), (0, .ref (ob)), (1, .int (nI (S))), (2, .int (nI (acc)))]) hx hb dX2_sizeOf_24 hl (k := 3) rfl (nI_add u 1) (by decide) rfl (fun ls hl => ?_)
        refine lv_goto (tgt := 4) hx hb dX2_sizeOf_27 (by decide) ?_
        exact ih _ (by rw [za, ct_pc_s, ct_bn_0 hc]; rfl) _ _ _ hP hD hS (lv_sub hl [1, 2, 3, 0] rfl)
      · refine lv_iinc (v := nI (acc + 1)) (lv' := [(2, .int (nI (acc + 1))), (0, .ref (ob)), (1, .int (nI (S))), (3, .int (nI (u)))]) hx hb dX2_sizeOf_21 hl (k := 2) rfl (nI_add acc 1) (by decide) rfl (fun ls hl => ?_)
        refine lv_iinc (v := nI (u + 1)) (lv' := [(3, .int (nI (u + 1))), (2, .int (nI (acc + 1))), (0, .ref (ob)), (1, .int (nI (S)))]) hx hb dX2_sizeOf_24 hl (k := 3) rfl (nI_add u 1) (by decide) rfl (fun ls hl => ?_)
        refine lv_goto (tgt := 4) hx hb dX2_sizeOf_27 (by decide) ?_
        exact ih _ (by rw [za, ct_pc_s, ct_bn_1 hc]; rfl) _ _ _ hP hD hS (lv_sub hl [2, 3, 1, 0] rfl)
  refine lv_iconst (v := nI (0)) hx hb dX2_sizeOf_0 (by decide) ?_
  refine lv_istore_n (lv' := [(2, .int (nI (0))), (0, .ref (ob)), (1, .int (nI (S)))]) hx hb dX2_sizeOf_1 rfl hl (by decide) rfl (fun ls hl => ?_)
  refine lv_iconst (v := nI (0)) hx hb dX2_sizeOf_2 (by decide) ?_
  refine lv_istore_n (lv' := [(3, .int (nI (0))), (2, .int (nI (0))), (0, .ref (ob)), (1, .int (nI (S)))]) hx hb dX2_sizeOf_3 rfl hl (by decide) rfl (fun ls hl => ?_)
  exact loop 0 (Nat.zero_le _) 0 rfl _ _ _ hP hD hS (lv_sub hl [2, 3, 1, 0] rfl)
set_option maxHeartbeats 4000000 in
set_option maxRecDepth 100000 in
theorem mM_side (l : Launch) (D : va_G) (ob ar : Nat) (dA : ClassId) (n : Nat) (g : Nat → Nat) (zn : n ≤ 8) (zg : ct_G g) (u v : Int32) : kt_Mi l yX2_side cX2_side 7 .int 3 D (tyM dA) (wM ob ar dA n g) [.ref (ob), .int (u), .int (v)] (fun r (_ : Unit) => (ct_ic n u v = false ∧ r = -1) ∨ ∃ i j bs, i < n ∧ j < n ∧ i ≠ j ∧ u = nI i ∧ v = nI j ∧ r = nI bs ∧ ct_side n g i j bs) (fun _ => wM ob ar dA n g) := by
  refine kt_inI (by decide) (Nat.le_of_ble_eq_true rfl) (fun r _ h => rfl) ?_
  intro p e s m args below meth c A Q H ls B hA hK hP hD hS hl hret
  have B : CallFix p m c cX2_side 7 s args lw_all RX2 := B
  have hx := B.1
  have hb := B.2.1
  have hl : lv_has ls 7 [(0, .ref (ob)), (1, .int (u)), (2, .int (v))] := hl
  have zp := ct_pow8 zn
  refine lv_aload_n hx hb dX2_side_0 rfl (lv_at hl 0 rfl) ?_
  refine lv_iload_n hx hb dX2_side_1 rfl (lv_at hl 1 rfl) ?_
  refine lv_iload_n hx hb dX2_side_2 rfl (lv_at hl 2 rfl) ?_
  refine kt_callI (wr := []) (rest := []) B (mM_isCouple l D ob ar dA n g u v) (cwV 2 B.2.2.2.2 (lw_V q159 q161 qs9 q19 q162) rfl rfl rfl (by decide +kernel) ⟨Nat.le_of_ble_eq_true rfl, Nat.le_of_ble_eq_true rfl⟩) [0, 1] [] [0] rfl rfl rfl rfl rfl (fun _ h _ => absurd h List.not_mem_nil) rfl hA hK hP hD hS (ci := 1) rfl rfl rfl rfl hl.1 rfl (Nat.le_of_ble_eq_true rfl) dX2_side_3 ⟨Nat.le_refl _, Nat.le_refl _⟩ (fun rx ux H locs hw hP hD hS => ?_)
  have hP : va_P D vwCl (wM ob ar dA n g) H := hP
  have hD : va_D A (wM ob ar dA n g) := hD
  have hw : rx = nI (ct_bn (ct_ic n u v)) := hw
  subst hw
  refine kn_if_ne (tgt := 11) hx hb dX2_side_6 (by decide) (ct_bn_lt _) (fun hc => ?_) (fun hc => ?_)
  · have hok := ct_bn_1 hc
    obtain ⟨i, j, zi, zj, zij, rfl, rfl⟩ := ct_ic_of zn hok
    refine lv_aload_n hx hb dX2_side_11 rfl (lv_at hl 0 rfl) ?_
    refine lv_iload_n hx hb dX2_side_12 rfl (lv_at hl 1 rfl) ?_
    refine lv_iload_n hx hb dX2_side_13 rfl (lv_at hl 2 rfl) ?_
    refine kt_callI (wr := []) (rest := []) B (mM_linkOf l D ob ar dA n g zn zg i j zi zj zij) (cwV 2 B.2.2.2.2 (lw_V q175 q177 qs11 q19 q178) rfl rfl rfl (by decide +kernel) ⟨Nat.le_of_ble_eq_true rfl, Nat.le_of_ble_eq_true rfl⟩) [0, 1] [] [0] rfl rfl rfl rfl rfl (fun _ h _ => absurd h List.not_mem_nil) rfl hA hK hP hD hS (ci := 1) rfl rfl rfl rfl hl.1 rfl (Nat.le_of_ble_eq_true rfl) dX2_side_14 ⟨Nat.le_refl _, Nat.le_refl _⟩ (fun rx ux H locs hw hP hD hS => ?_)
    have hP : va_P D vwCl (wM ob ar dA n g) H := hP
    have hD : va_D A (wM ob ar dA n g) := hD
    have hw : rx = nI (ct_lam n g i j) := hw
    subst hw
    have zlam := ct_lam_bound zn zg zi zj zij
    refine lv_istore_n (lv' := [(3, .int (nI (ct_lam n g i j))), (0, .ref (ob)), (1, .int (nI (i))), (2, .int (nI (j)))]) hx hb dX2_side_17 rfl hl (by decide) rfl (fun ls hl => ?_)
    refine lv_iconst (v := nI (0)) hx hb dX2_side_18 (by decide) ?_
    refine lv_istore (lv' := [(4, .int (nI (0))), (3, .int (nI (ct_lam n g i j))), (0, .ref (ob)), (1, .int (nI (i))), (2, .int (nI (j)))]) hx hb dX2_side_19 hl (by decide) rfl (fun ls hl => ?_)
    refine lv_iconst (v := nI (1)) hx hb dX2_side_21 (by decide) ?_
    refine lv_istore (lv' := [(5, .int (nI (1))), (4, .int (nI (0))), (3, .int (nI (ct_lam n g i j))), (0, .ref (ob)), (1, .int (nI (i))), (2, .int (nI (j)))]) hx hb dX2_side_22 hl (by decide) rfl (fun ls hl => ?_)
    have loop : ∀ k, k ≤ 2 ^ n - 1 → 1 ≤ k → ∀ bs, ct_be n g i j k bs → ∀ (H : Heap) (locs : List Loc) (ls : Array Slot), va_P D vwCl (wM ob ar dA n g) H → va_D A (wM ob ar dA n g) → va_S A s.heap H locs → lv_has ls 7 [(0, .ref (ob)), (1, .int (nI (i))), (2, .int (nI (j))), (3, .int (nI (ct_lam n g i j))), (4, .int (nI (bs))), (5, .int (nI (k)))] → W p l e (kt_rm 3) s m args below meth c H locs 0 0 Q (F0 m 24 ls []) := by
      refine kt_up ?_ ?_
      · intro zk1 bs zb H locs ls hP hD hS hl
        refine lv_iload hx hb dX2_side_24 (lv_at hl 5 rfl) ?_
        refine lv_aload_n hx hb dX2_side_26 rfl (lv_at hl 0 rfl) ?_
        refine kt_callI (wr := []) (rest := [.int (nI ((2 ^ n - 1)))]) B (mM_all l D ob ar dA n g zn) (cwV 0 B.2.2.2.2 (lw_V q179 q181 qs12 q19 q182) rfl rfl rfl (by decide +kernel) ⟨Nat.le_of_ble_eq_true rfl, Nat.le_of_ble_eq_true rfl⟩) [0, 1] [] [0] rfl rfl rfl rfl rfl (fun _ h _ => absurd h List.not_mem_nil) rfl hA hK hP hD hS (ci := 1) rfl rfl rfl rfl hl.1 rfl (Nat.le_of_ble_eq_true rfl) dX2_side_27 ⟨Nat.le_refl _, Nat.le_refl _⟩ (fun rx ux H locs hw hP hD hS => ?_)
        have hP : va_P D vwCl (wM ob ar dA n g) H := hP
        have hD : va_D A (wM ob ar dA n g) := hD
        have hw : rx = nI (2 ^ n - 1) := hw
        subst hw
        refine kn_ge (tgt := 105) hx hb dX2_side_30 (by decide) (by omega) (by omega) (fun hq => ?_) (fun hq => absurd hq (by omega))
        refine lv_iload hx hb dX2_side_105 (lv_at hl 4 rfl) ?_
        exact hret _ () _ _ _ _ (Or.inr ⟨i, j, bs, zi, zj, zij, rfl, rfl, rfl, ct_be_end zi zj zij zb⟩) hP hD hS dX2_side_107
      · intro k zk ih zk1 bs zb H locs ls hP hD hS hl
        have zw := ct_wt_le zn zg k
        refine lv_iload hx hb dX2_side_24 (lv_at hl 5 rfl) ?_
        refine lv_aload_n hx hb dX2_side_26 rfl (lv_at hl 0 rfl) ?_
        refine kt_callI (wr := []) (rest := [.int (nI (k))]) B (mM_all l D ob ar dA n g zn) (cwV 0 B.2.2.2.2 (lw_V q179 q181 qs12 q19 q182) rfl rfl rfl (by decide +kernel) ⟨Nat.le_of_ble_eq_true rfl, Nat.le_of_ble_eq_true rfl⟩) [0, 1] [] [0] rfl rfl rfl rfl rfl (fun _ h _ => absurd h List.not_mem_nil) rfl hA hK hP hD hS (ci := 1) rfl rfl rfl rfl hl.1 rfl (Nat.le_of_ble_eq_true rfl) dX2_side_27 ⟨Nat.le_refl _, Nat.le_refl _⟩ (fun rx ux H locs hw hP hD hS => ?_)
        have hP : va_P D vwCl (wM ob ar dA n g) H := hP
        have hD : va_D A (wM ob ar dA n g) := hD
        have hw : rx = nI (2 ^ n - 1) := hw
        subst hw
        refine kn_ge (tgt := 105) hx hb dX2_side_30 (by decide) (by omega) (by omega) (fun hq => absurd hq (by omega)) (fun hq => ?_)
        refine lv_aload_n hx hb dX2_side_33 rfl (lv_at hl 0 rfl) ?_
        refine lv_iload hx hb dX2_side_34 (lv_at hl 5 rfl) ?_
        refine lv_iload_n hx hb dX2_side_36 rfl (lv_at hl 1 rfl) ?_
        refine kt_callI (wr := []) (rest := []) B (mM_in l D ob ar dA n g k i (by omega) (by omega)) (cwV 2 B.2.2.2.2 (lw_V q183 q185 qs13 q19 q186) rfl rfl rfl (by decide +kernel) ⟨Nat.le_of_ble_eq_true rfl, Nat.le_of_ble_eq_true rfl⟩) [0, 1] [] [0] rfl rfl rfl rfl rfl (fun _ h _ => absurd h List.not_mem_nil) rfl hA hK hP hD hS (ci := 1) rfl rfl rfl rfl hl.1 rfl (Nat.le_of_ble_eq_true rfl) dX2_side_37 ⟨Nat.le_refl _, Nat.le_refl _⟩ (fun rx ux H locs hw hP hD hS => ?_)
        have hP : va_P D vwCl (wM ob ar dA n g) H := hP
        have hD : va_D A (wM ob ar dA n g) := hD
        have hw : rx = nI (ct_bn (k.testBit i)) := hw
        subst hw
        refine kn_if_eq (tgt := 67) hx hb dX2_side_40 (by decide) (ct_bn_lt _) (fun hc => ?_) (fun hc => ?_)
        · refine lv_iconst (v := nI (0)) hx hb dX2_side_67 (by decide) ?_
          refine lv_istore (lv' := [(6, .int (nI (0))), (0, .ref (ob)), (1, .int (nI (i))), (2, .int (nI (j))), (3, .int (nI (ct_lam n g i j))), (4, .int (nI (bs))), (5, .int (nI (k)))]) hx hb dX2_side_68 hl (by decide) rfl (fun ls hl => ?_)
          refine lv_iload hx hb dX2_side_70 (lv_at hl 0 rfl) ?_
          refine kn_if_eq (tgt := 99) hx hb dX2_side_72 (by decide) (by omega) (fun hq => ?_) (fun hq => absurd hq (by omega))
          refine lv_iinc (v := nI (k + 1)) (lv' := [(5, .int (nI (k + 1))), (6, .int (nI (0))), (0, .ref (ob)), (1, .int (nI (i))), (2, .int (nI (j))), (3, .int (nI (ct_lam n g i j))), (4, .int (nI (bs)))]) hx hb dX2_side_99 hl (k := 6) rfl (nI_add k 1) (by decide) rfl (fun ls hl => ?_)
          refine lv_goto (tgt := 24) hx hb dX2_side_102 (by decide) ?_
          exact ih (by omega) _ (ct_be_skip (fun z => absurd (z.1.symm.trans (ct_bn_0 hc)) (by decide)) zb) _ _ _ hP hD hS (lv_sub hl [2, 3, 4, 5, 6, 0] rfl)
        · refine lv_aload_n hx hb dX2_side_43 rfl (lv_at hl 0 rfl) ?_
          refine lv_iload hx hb dX2_side_44 (lv_at hl 5 rfl) ?_
          refine lv_iload_n hx hb dX2_side_46 rfl (lv_at hl 2 rfl) ?_
          refine kt_callI (wr := []) (rest := []) B (mM_in l D ob ar dA n g k j (by omega) (by omega)) (cwV 2 B.2.2.2.2 (lw_V q183 q185 qs13 q19 q186) rfl rfl rfl (by decide +kernel) ⟨Nat.le_of_ble_eq_true rfl, Nat.le_of_ble_eq_true rfl⟩) [0, 1] [] [0] rfl rfl rfl rfl rfl (fun _ h _ => absurd h List.not_mem_nil) rfl hA hK hP hD hS (ci := 1) rfl rfl rfl rfl hl.1 rfl (Nat.le_of_ble_eq_true rfl) dX2_side_47 ⟨Nat.le_refl _, Nat.le_refl _⟩ (fun rx ux H locs hw hP hD hS => ?_)
          have hP : va_P D vwCl (wM ob ar dA n g) H := hP
          have hD : va_D A (wM ob ar dA n g) := hD
          have hw : rx = nI (ct_bn (k.testBit j)) := hw
          subst hw
          refine kn_if_ne (tgt := 67) hx hb dX2_side_50 (by decide) (ct_bn_lt _) (fun hd => ?_) (fun hd => ?_)
          · refine lv_iconst (v := nI (0)) hx hb dX2_side_67 (by decide) ?_
            refine lv_istore (lv' := [(6, .int (nI (0))), (0, .ref (ob)), (1, .int (nI (i))), (2, .int (nI (j))), (3, .int (nI (ct_lam n g i j))), (4, .int (nI (bs))), (5, .int (nI (k)))]) hx hb dX2_side_68 hl (by decide) rfl (fun ls hl => ?_)
            refine lv_iload hx hb dX2_side_70 (lv_at hl 0 rfl) ?_
            refine kn_if_eq (tgt := 99) hx hb dX2_side_72 (by decide) (by omega) (fun hq => ?_) (fun hq => absurd hq (by omega))
            refine lv_iinc (v := nI (k + 1)) (lv' := [(5, .int (nI (k + 1))), (6, .int (nI (0))), (0, .ref (ob)), (1, .int (nI (i))), (2, .int (nI (j))), (3, .int (nI (ct_lam n g i j))), (4, .int (nI (bs)))]) hx hb dX2_side_99 hl (k := 6) rfl (nI_add k 1) (by decide) rfl (fun ls hl => ?_)
            refine lv_goto (tgt := 24) hx hb dX2_side_102 (by decide) ?_
            exact ih (by omega) _ (ct_be_skip (fun z => absurd (z.2.1.symm.trans (ct_bn_1 hd)) (by decide)) zb) _ _ _ hP hD hS (lv_sub hl [2, 3, 4, 5, 6, 0] rfl)
          · refine lv_aload_n hx hb dX2_side_53 rfl (lv_at hl 0 rfl) ?_
            refine lv_iload hx hb dX2_side_54 (lv_at hl 5 rfl) ?_
            refine kt_callI (wr := []) (rest := []) B (mM_weightOf l D ob ar dA n g zn k (by omega)) (cwV 1 B.2.2.2.2 (lw_V q187 q189 qs14 q19 q190) rfl rfl rfl (by decide +kernel) ⟨Nat.le_of_ble_eq_true rfl, Nat.le_of_ble_eq_true rfl⟩) [0, 1] [] [0] rfl rfl rfl rfl rfl (fun _ h _ => absurd h List.not_mem_nil) rfl hA hK hP hD hS (ci := 1) rfl rfl rfl rfl hl.1 rfl (Nat.le_of_ble_eq_true rfl) dX2_side_56 ⟨Nat.le_refl _, Nat.le_refl _⟩ (fun rx ux H locs hw hP hD hS => ?_)
            have hP : va_P D vwCl (wM ob ar dA n g) H := hP
            have hD : va_D A (wM ob ar dA n g) := hD
            have hw : rx = nI (ct_wt n g k) := hw
            subst hw
            refine lv_iload_n hx hb dX2_side_59 rfl (lv_at hl 3 rfl) ?_
            refine kn_ne (tgt := 67) hx hb dX2_side_60 (by decide) (by omega) (by omega) (fun he => ?_) (fun he => ?_)
            · refine lv_iconst (v := nI (0)) hx hb dX2_side_67 (by decide) ?_
              refine lv_istore (lv' := [(6, .int (nI (0))), (0, .ref (ob)), (1, .int (nI (i))), (2, .int (nI (j))), (3, .int (nI (ct_lam n g i j))), (4, .int (nI (bs))), (5, .int (nI (k)))]) hx hb dX2_side_68 hl (by decide) rfl (fun ls hl => ?_)
              refine lv_iload hx hb dX2_side_70 (lv_at hl 0 rfl) ?_
              refine kn_if_eq (tgt := 99) hx hb dX2_side_72 (by decide) (by omega) (fun hq => ?_) (fun hq => absurd hq (by omega))
              refine lv_iinc (v := nI (k + 1)) (lv' := [(5, .int (nI (k + 1))), (6, .int (nI (0))), (0, .ref (ob)), (1, .int (nI (i))), (2, .int (nI (j))), (3, .int (nI (ct_lam n g i j))), (4, .int (nI (bs)))]) hx hb dX2_side_99 hl (k := 6) rfl (nI_add k 1) (by decide) rfl (fun ls hl => ?_)
              refine lv_goto (tgt := 24) hx hb dX2_side_102 (by decide) ?_
              exact ih (by omega) _ (ct_be_skip (fun z => he z.2.2) zb) _ _ _ hP hD hS (lv_sub hl [2, 3, 4, 5, 6, 0] rfl)
            · have zf : ct_fit n g i j k := ⟨ct_bn_1 hc, ct_bn_0 hd, he⟩
              refine lv_iconst (v := nI (1)) hx hb dX2_side_63 (by decide) ?_
              refine lv_goto (tgt := 68) hx hb dX2_side_64 (by decide) ?_
              refine lv_istore (lv' := [(6, .int (nI (1))), (0, .ref (ob)), (1, .int (nI (i))), (2, .int (nI (j))), (3, .int (nI (ct_lam n g i j))), (4, .int (nI (bs))), (5, .int (nI (k)))]) hx hb dX2_side_68 hl (by decide) rfl (fun ls hl => ?_)
              refine lv_iload hx hb dX2_side_70 (lv_at hl 0 rfl) ?_
              refine kn_if_eq (tgt := 99) hx hb dX2_side_72 (by decide) (by omega) (fun hq => absurd hq (by omega)) (fun hq => ?_)
              refine lv_iload hx hb dX2_side_75 (lv_at hl 5 rfl) ?_
              rcases zb with ⟨rfl, zb⟩ | ⟨zB0, zBk, zBf, zb⟩
              · refine kn_if_eq (tgt := 95) hx hb dX2_side_77 (by decide) (by omega) (fun hq => ?_) (fun hq => absurd hq (by omega))
                refine lv_iload hx hb dX2_side_95 (lv_at hl 6 rfl) ?_
                refine lv_istore (lv' := [(4, .int (nI (k))), (6, .int (nI (1))), (0, .ref (ob)), (1, .int (nI (i))), (2, .int (nI (j))), (3, .int (nI (ct_lam n g i j))), (5, .int (nI (k)))]) hx hb dX2_side_97 hl (by decide) rfl (fun ls hl => ?_)
                refine lv_iinc (v := nI (k + 1)) (lv' := [(5, .int (nI (k + 1))), (4, .int (nI (k))), (6, .int (nI (1))), (0, .ref (ob)), (1, .int (nI (i))), (2, .int (nI (j))), (3, .int (nI (ct_lam n g i j)))]) hx hb dX2_side_99 hl (k := 6) rfl (nI_add k 1) (by decide) rfl (fun ls hl => ?_)
                refine lv_goto (tgt := 24) hx hb dX2_side_102 (by decide) ?_
                exact ih (by omega) _ (ct_be_new (by omega) zf (fun S hS hf => absurd hf (zb S hS))) _ _ _ hP hD hS (lv_sub hl [3, 4, 5, 6, 1, 0] rfl)
              · refine kn_if_eq (tgt := 95) hx hb dX2_side_77 (by decide) (by omega) (fun hq => absurd hq (by omega)) (fun hq => ?_)
                have zs1 := ct_pc_le n k
                have zs2 := ct_pc_le n bs
                refine lv_aload_n hx hb dX2_side_80 rfl (lv_at hl 1 rfl) ?_
                refine lv_iload hx hb dX2_side_81 (lv_at hl 6 rfl) ?_
                refine kt_callI (wr := []) (rest := []) B (mM_sizeOf l D ob ar dA n g zn k (by omega)) (cwV 1 B.2.2.2.2 (lw_V q195 q197 qs15 q19 q198) rfl rfl rfl (by decide +kernel) ⟨Nat.le_of_ble_eq_true rfl, Nat.le_of_ble_eq_true rfl⟩) [0, 1] [] [0] rfl rfl rfl rfl rfl (fun _ h _ => absurd h List.not_mem_nil) rfl hA hK hP hD hS (ci := 1) rfl rfl rfl rfl hl.1 rfl (Nat.le_of_ble_eq_true rfl) dX2_side_83 ⟨Nat.le_refl _, Nat.le_refl _⟩ (fun rx ux H locs hw hP hD hS => ?_)
                have hP : va_P D vwCl (wM ob ar dA n g) H := hP
                have hD : va_D A (wM ob ar dA n g) := hD
                have hw : rx = nI (ct_pc n k) := hw
                subst hw
                refine lv_aload_n hx hb dX2_side_86 rfl (lv_at hl 1 rfl) ?_
                refine lv_iload hx hb dX2_side_87 (lv_at hl 5 rfl) ?_
                refine kt_callI (wr := []) (rest := [.int (nI (ct_pc n k))]) B (mM_sizeOf l D ob ar dA n g zn bs (by omega)) (cwV 1 B.2.2.2.2 (lw_V q195 q197 qs15 q19 q198) rfl rfl rfl (by decide +kernel) ⟨Nat.le_of_ble_eq_true rfl, Nat.le_of_ble_eq_true rfl⟩) [0, 1] [] [0] rfl rfl rfl rfl rfl (fun _ h _ => absurd h List.not_mem_nil) rfl hA hK hP hD hS (ci := 1) rfl rfl rfl rfl hl.1 rfl (Nat.le_of_ble_eq_true rfl) dX2_side_89 ⟨Nat.le_refl _, Nat.le_refl _⟩ (fun rx ux H locs hw hP hD hS => ?_)
                have hP : va_P D vwCl (wM ob ar dA n g) H := hP
                have hD : va_D A (wM ob ar dA n g) := hD
                have hw : rx = nI (ct_pc n bs) := hw
                subst hw
                refine kn_ge (tgt := 99) hx hb dX2_side_92 (by decide) (by omega) (by omega) (fun hf => ?_) (fun hf => ?_)
                · refine lv_iinc (v := nI (k + 1)) (lv' := [(5, .int (nI (k + 1))), (6, .int (nI (1))), (0, .ref (ob)), (1, .int (nI (i))), (2, .int (nI (j))), (3, .int (nI (ct_lam n g i j))), (4, .int (nI (bs)))]) hx hb dX2_side_99 hl (k := 6) rfl (nI_add k 1) (by decide) rfl (fun ls hl => ?_)
                  refine lv_goto (tgt := 24) hx hb dX2_side_102 (by decide) ?_
                  exact ih (by omega) _ (ct_be_keep zB0 zBk zBf hf zb) _ _ _ hP hD hS (lv_sub hl [2, 3, 4, 5, 6, 0] rfl)
                · refine lv_iload hx hb dX2_side_95 (lv_at hl 6 rfl) ?_
                  refine lv_istore (lv' := [(4, .int (nI (k))), (6, .int (nI (1))), (0, .ref (ob)), (1, .int (nI (i))), (2, .int (nI (j))), (3, .int (nI (ct_lam n g i j))), (5, .int (nI (k)))]) hx hb dX2_side_97 hl (by decide) rfl (fun ls hl => ?_)
                  refine lv_iinc (v := nI (k + 1)) (lv' := [(5, .int (nI (k + 1))), (4, .int (nI (k))), (6, .int (nI (1))), (0, .ref (ob)), (1, .int (nI (i))), (2, .int (nI (j))), (3, .int (nI (ct_lam n g i j)))]) hx hb dX2_side_99 hl (k := 6) rfl (nI_add k 1) (by decide) rfl (fun ls hl => ?_)
                  refine lv_goto (tgt := 24) hx hb dX2_side_102 (by decide) ?_
                  exact ih (by omega) _ (ct_be_new (by omega) zf (fun S hS hfS => Nat.le_trans (Nat.le_of_lt hf) (zb S hS hfS))) _ _ _ hP hD hS (lv_sub hl [3, 4, 5, 6, 1, 0] rfl)
    exact loop 1 (by have := Nat.pow_le_pow_right (n := 2) (by decide) (show 2 ≤ n by omega); omega) (Nat.le_refl 1) 0 (ct_be_0 n g i j) _ _ _ hP hD hS (lv_sub hl [3, 4, 5, 2, 1, 0] rfl)
  · refine lv_iconst (v := (-1)) hx hb dX2_side_9 (by decide) ?_
    exact hret _ () _ _ _ _ (Or.inl ⟨ct_bn_0 hc, rfl⟩) hP hD hS dX2_side_10
set_option maxHeartbeats 4000000 in
set_option maxRecDepth 100000 in
theorem mM_smallest (l : Launch) (D : va_G) (ob ar : Nat) (dA : ClassId) (n : Nat) (g : Nat → Nat) (zn : n ≤ 8) (zn2 : 2 ≤ n) (zg : ct_G g) : kt_Mi l yX2_smallest cX2_smallest 4 .int 2 D (tyM dA) (wM ob ar dA n g) [.ref (ob)] (fun r (_ : Unit) => ∃ L, r = nI L ∧ ct_min n g L) (fun _ => wM ob ar dA n g) := by
  refine kt_inI (by decide) (Nat.le_of_ble_eq_true rfl) (fun r _ h => rfl) ?_
  intro p e s m args below meth c A Q H ls B hA hK hP hD hS hl hret
  have B : CallFix p m c cX2_smallest 4 s args lw_all RX2 := B
  have hx := B.1
  have hb := B.2.1
  have hl : lv_has ls 4 [(0, .ref (ob))] := hl
  have zp := ct_pow8 zn
  have zp2 := Nat.pow_le_pow_right (n := 2) (by decide) zn2
  have loop : ∀ k, k ≤ 2 ^ n - 1 → 1 ≤ k → ∀ le, ct_lo (fun S => 1 ≤ S) (ct_wt n g) k le → ∀ (H : Heap) (locs : List Loc) (ls : Array Slot), va_P D vwCl (wM ob ar dA n g) H → va_D A (wM ob ar dA n g) → va_S A s.heap H locs → lv_has ls 4 [(0, .ref (ob)), (1, .int (le)), (2, .int (nI (k)))] → W p l e (kt_rm 2) s m args below meth c H locs 0 0 Q (F0 m 4 ls []) := by
    refine kt_up ?_ ?_
    · intro zk1 le zl H locs ls hP hD hS hl
      refine lv_iload_n hx hb dX2_smallest_4 rfl (lv_at hl 2 rfl) ?_
      refine lv_aload_n hx hb dX2_smallest_5 rfl (lv_at hl 0 rfl) ?_
      refine kt_callI (wr := []) (rest := [.int (nI ((2 ^ n - 1)))]) B (mM_all l D ob ar dA n g zn) (cwV 0 B.2.2.2.2 (lw_V q179 q181 qs12 q19 q182) rfl rfl rfl (by decide +kernel) ⟨Nat.le_of_ble_eq_true rfl, Nat.le_of_ble_eq_true rfl⟩) [0, 1] [] [0] rfl rfl rfl rfl rfl (fun _ h _ => absurd h List.not_mem_nil) rfl hA hK hP hD hS (ci := 1) rfl rfl rfl rfl hl.1 rfl (Nat.le_of_ble_eq_true rfl) dX2_smallest_6 ⟨Nat.le_refl _, Nat.le_refl _⟩ (fun rx ux H locs hw hP hD hS => ?_)
      have hP : va_P D vwCl (wM ob ar dA n g) H := hP
      have hD : va_D A (wM ob ar dA n g) := hD
      have hw : rx = nI (2 ^ n - 1) := hw
      subst hw
      refine kn_ge (tgt := 35) hx hb dX2_smallest_9 (by decide) (by omega) (by omega) (fun hq => ?_) (fun hq => absurd hq (by omega))
      refine lv_iload_n hx hb dX2_smallest_35 rfl (lv_at hl 1 rfl) ?_
      exact hret _ () _ _ _ _ (ct_lo_min zn2 zl) hP hD hS dX2_smallest_36
    · intro k zk ih zk1 le zl H locs ls hP hD hS hl
      have zw := ct_wt_le zn zg k
      refine lv_iload_n hx hb dX2_smallest_4 rfl (lv_at hl 2 rfl) ?_
      refine lv_aload_n hx hb dX2_smallest_5 rfl (lv_at hl 0 rfl) ?_
      refine kt_callI (wr := []) (rest := [.int (nI (k))]) B (mM_all l D ob ar dA n g zn) (cwV 0 B.2.2.2.2 (lw_V q179 q181 qs12 q19 q182) rfl rfl rfl (by decide +kernel) ⟨Nat.le_of_ble_eq_true rfl, Nat.le_of_ble_eq_true rfl⟩) [0, 1] [] [0] rfl rfl rfl rfl rfl (fun _ h _ => absurd h List.not_mem_nil) rfl hA hK hP hD hS (ci := 1) rfl rfl rfl rfl hl.1 rfl (Nat.le_of_ble_eq_true rfl) dX2_smallest_6 ⟨Nat.le_refl _, Nat.le_refl _⟩ (fun rx ux H locs hw hP hD hS => ?_)
      have hP : va_P D vwCl (wM ob ar dA n g) H := hP
      have hD : va_D A (wM ob ar dA n g) := hD
      have hw : rx = nI (2 ^ n - 1) := hw
      subst hw
      refine kn_ge (tgt := 35) hx hb dX2_smallest_9 (by decide) (by omega) (by omega) (fun hq => absurd hq (by omega)) (fun hq => ?_)
      refine lv_aload_n hx hb dX2_smallest_12 rfl (lv_at hl 0 rfl) ?_
      refine lv_iload_n hx hb dX2_smallest_13 rfl (lv_at hl 2 rfl) ?_
      refine kt_callI (wr := []) (rest := []) B (mM_weightOf l D ob ar dA n g zn k (by omega)) (cwV 1 B.2.2.2.2 (lw_V q187 q189 qs14 q19 q190) rfl rfl rfl (by decide +kernel) ⟨Nat.le_of_ble_eq_true rfl, Nat.le_of_ble_eq_true rfl⟩) [0, 1] [] [0] rfl rfl rfl rfl rfl (fun _ h _ => absurd h List.not_mem_nil) rfl hA hK hP hD hS (ci := 1) rfl rfl rfl rfl hl.1 rfl (Nat.le_of_ble_eq_true rfl) dX2_smallest_14 ⟨Nat.le_refl _, Nat.le_refl _⟩ (fun rx ux H locs hw hP hD hS => ?_)
      have hP : va_P D vwCl (wM ob ar dA n g) H := hP
      have hD : va_D A (wM ob ar dA n g) := hD
      have hw : rx = nI (ct_wt n g k) := hw
      subst hw
      refine lv_istore_n (lv' := [(3, .int (nI (ct_wt n g k))), (0, .ref (ob)), (1, .int (le)), (2, .int (nI (k)))]) hx hb dX2_smallest_17 rfl hl (by decide) rfl (fun ls hl => ?_)
      refine lv_iload_n hx hb dX2_smallest_18 rfl (lv_at hl 2 rfl) ?_
      rcases zl with ⟨rfl, zl⟩ | ⟨L, rfl, zL, z0, zl⟩
      · refine lv_if_lt (tgt := 27) hx hb dX2_smallest_19 (by decide)  (fun hq => ?_) (fun hq => absurd hq (by decide))
        refine lv_iload_n hx hb dX2_smallest_27 rfl (lv_at hl 0 rfl) ?_
        refine lv_istore_n (lv' := [(1, .int (nI (ct_wt n g k))), (3, .int (nI (ct_wt n g k))), (0, .ref (ob)), (2, .int (nI (k)))]) hx hb dX2_smallest_28 rfl hl (by decide) rfl (fun ls hl => ?_)
        refine lv_iinc (v := nI (k + 1)) (lv' := [(2, .int (nI (k + 1))), (1, .int (nI (ct_wt n g k))), (3, .int (nI (ct_wt n g k))), (0, .ref (ob))]) hx hb dX2_smallest_29 hl (k := 3) rfl (nI_add k 1) (by decide) rfl (fun ls hl => ?_)
        refine lv_goto (tgt := 4) hx hb dX2_smallest_32 (by decide) ?_
        exact ih (by omega) _ (ct_lo_first (P := fun S => 1 ≤ S) zk1 (by omega) zl) _ _ _ hP hD hS (lv_sub hl [3, 1, 0] rfl)
      · refine lv_if_lt (tgt := 27) hx hb dX2_smallest_19 (by decide) (fun hq => absurd hq (nI_pos zL)) (fun hq => ?_)
        refine lv_iload_n hx hb dX2_smallest_22 rfl (lv_at hl 0 rfl) ?_
        refine lv_iload_n hx hb dX2_smallest_23 rfl (lv_at hl 2 rfl) ?_
        refine kn_ge (tgt := 29) hx hb dX2_smallest_24 (by decide) (by omega) (by omega) (fun he => ?_) (fun he => ?_)
        · refine lv_iinc (v := nI (k + 1)) (lv' := [(2, .int (nI (k + 1))), (3, .int (nI (ct_wt n g k))), (0, .ref (ob)), (1, .int (nI (L)))]) hx hb dX2_smallest_29 hl (k := 3) rfl (nI_add k 1) (by decide) rfl (fun ls hl => ?_)
          refine lv_goto (tgt := 4) hx hb dX2_smallest_32 (by decide) ?_
          exact ih (by omega) _ (ct_lo_keep zL he z0 zl) _ _ _ hP hD hS (lv_sub hl [2, 3, 0] rfl)
        · refine lv_iload_n hx hb dX2_smallest_27 rfl (lv_at hl 0 rfl) ?_
          refine lv_istore_n (lv' := [(1, .int (nI (ct_wt n g k))), (3, .int (nI (ct_wt n g k))), (0, .ref (ob)), (2, .int (nI (k)))]) hx hb dX2_smallest_28 rfl hl (by decide) rfl (fun ls hl => ?_)
          refine lv_iinc (v := nI (k + 1)) (lv' := [(2, .int (nI (k + 1))), (1, .int (nI (ct_wt n g k))), (3, .int (nI (ct_wt n g k))), (0, .ref (ob))]) hx hb dX2_smallest_29 hl (k := 3) rfl (nI_add k 1) (by decide) rfl (fun ls hl => ?_)
          refine lv_goto (tgt := 4) hx hb dX2_smallest_32 (by decide) ?_
          exact ih (by omega) _ (ct_lo_less (P := fun S => 1 ≤ S) zk1 (by omega) he zl) _ _ _ hP hD hS (lv_sub hl [3, 1, 0] rfl)
  refine lv_iconst (v := (-1)) hx hb dX2_smallest_0 (by decide) ?_
  refine lv_istore_n (lv' := [(1, .int (-1)), (0, .ref (ob))]) hx hb dX2_smallest_1 rfl hl (by decide) rfl (fun ls hl => ?_)
  refine lv_iconst (v := nI (1)) hx hb dX2_smallest_2 (by decide) ?_
  refine lv_istore_n (lv' := [(2, .int (nI (1))), (1, .int (-1)), (0, .ref (ob))]) hx hb dX2_smallest_3 rfl hl (by decide) rfl (fun ls hl => ?_)
  exact loop 1 (by omega) (Nat.le_refl 1) _ (ct_lo_1 _) _ _ _ hP hD hS (lv_sub hl [2, 1, 0] rfl)
end
section
/-! ===== the reference, counts ===== -/
set_option maxHeartbeats 4000000 in
set_option maxRecDepth 100000 in
theorem mM_couples (l : Launch) (D : va_G) (ob ar : Nat) (dA : ClassId) (n : Nat) (g : Nat → Nat) (zn : n ≤ 8) (zg : ct_G g) (k : Int32) : kt_Mi l yX2_couples cX2_couples 5 .int 3 D (tyM dA) (wM ob ar dA n g) [.ref (ob), .int (k)] (fun r (_ : Unit) => r = nI (fb_sm (fun u => fb_sm (fun v => ct_bn (decide (k ≤ nI (ct_lam n g u v)))) u) n)) (fun _ => wM ob ar dA n g) := by
  refine kt_inI (by decide) (Nat.le_of_ble_eq_true rfl) (fun r _ h => rfl) ?_
  intro p e s m args below meth c A Q H ls B hA hK hP hD hS hl hret
  have B : CallFix p m c cX2_couples 5 s args lw_all RX2 := B
  have hx := B.1
  have hb := B.2.1
  have hl : lv_has ls 5 [(0, .ref (ob)), (1, .int (k))] := hl
  have outer : ∀ u, u ≤ n → ∀ acc, acc = fb_sm (fun u => fb_sm (fun v => ct_bn (decide (k ≤ nI (ct_lam n g u v)))) u) u → ∀ (H : Heap) (locs : List Loc) (ls : Array Slot), va_P D vwCl (wM ob ar dA n g) H → va_D A (wM ob ar dA n g) → va_S A s.heap H locs → lv_has ls 5 [(0, .ref (ob)), (1, .int (k)), (2, .int (nI (acc))), (3, .int (nI (u)))] → W p l e (kt_rm 3) s m args below meth c H locs 0 0 Q (F0 m 4 ls []) := by
    refine kt_up ?_ ?_
    · intro acc za H locs ls hP hD hS hl
      refine lv_iload_n hx hb dX2_couples_4 rfl (lv_at hl 3 rfl) ?_
      refine lv_aload_n hx hb dX2_couples_5 rfl (lv_at hl 0 rfl) ?_
      refine kt_gM B hK hP rfl 0 (by decide) q148 rfl dX2_couples_6 ?_
      refine kn_ge (tgt := 47) hx hb dX2_couples_9 (by decide) (by omega) (by omega) (fun hq => ?_) (fun hq => absurd hq (by omega))
      refine lv_iload_n hx hb dX2_couples_47 rfl (lv_at hl 2 rfl) ?_
      exact hret _ () _ _ _ _ (by rw [za]) hP hD hS dX2_couples_48
    · intro u zu ih acc za H locs ls hP hD hS hl
      refine lv_iload_n hx hb dX2_couples_4 rfl (lv_at hl 3 rfl) ?_
      refine lv_aload_n hx hb dX2_couples_5 rfl (lv_at hl 0 rfl) ?_
      refine kt_gM B hK hP rfl 0 (by decide) q148 rfl dX2_couples_6 ?_
      refine kn_ge (tgt := 47) hx hb dX2_couples_9 (by decide) (by omega) (by omega) (fun hq => absurd hq (by omega)) (fun hq => ?_)
      refine lv_iconst (v := nI (0)) hx hb dX2_couples_12 (by decide) ?_
      refine lv_istore (lv' := [(4, .int (nI (0))), (0, .ref (ob)), (1, .int (k)), (2, .int (nI (acc))), (3, .int (nI (u)))]) hx hb dX2_couples_13 hl (by decide) rfl (fun ls hl => ?_)
      have inner : ∀ v, v ≤ u → ∀ acc2, acc2 = acc + fb_sm (fun v => ct_bn (decide (k ≤ nI (ct_lam n g u v)))) v → ∀ (H : Heap) (locs : List Loc) (ls : Array Slot), va_P D vwCl (wM ob ar dA n g) H → va_D A (wM ob ar dA n g) → va_S A s.heap H locs → lv_has ls 5 [(0, .ref (ob)), (1, .int (k)), (2, .int (nI (acc2))), (3, .int (nI (u))), (4, .int (nI (v)))] → W p l e (kt_rm 3) s m args below meth c H locs 0 0 Q (F0 m 15 ls []) := by
        refine kt_up ?_ ?_
        · intro acc2 za2 H locs ls hP hD hS hl
          refine lv_iload hx hb dX2_couples_15 (lv_at hl 4 rfl) ?_
          refine lv_iload_n hx hb dX2_couples_17 rfl (lv_at hl 3 rfl) ?_
          refine kn_ge (tgt := 41) hx hb dX2_couples_18 (by decide) (by omega) (by omega) (fun hq => ?_) (fun hq => absurd hq (by omega))
          refine lv_iinc (v := nI (u + 1)) (lv' := [(3, .int (nI (u + 1))), (0, .ref (ob)), (1, .int (k)), (2, .int (nI (acc2))), (4, .int (nI ((u))))]) hx hb dX2_couples_41 hl (k := 3) rfl (nI_add u 1) (by decide) rfl (fun ls hl => ?_)
          refine lv_goto (tgt := 4) hx hb dX2_couples_44 (by decide) ?_
          exact ih _ (by rw [za2, za]; rfl) _ _ _ hP hD hS (lv_sub hl [1, 2, 3, 0] rfl)
        · intro v zv ih2 acc2 za2 H locs ls hP hD hS hl
          refine lv_iload hx hb dX2_couples_15 (lv_at hl 4 rfl) ?_
          refine lv_iload_n hx hb dX2_couples_17 rfl (lv_at hl 3 rfl) ?_
          refine kn_ge (tgt := 41) hx hb dX2_couples_18 (by decide) (by omega) (by omega) (fun hq => absurd hq (by omega)) (fun hq => ?_)
          refine lv_aload_n hx hb dX2_couples_21 rfl (lv_at hl 0 rfl) ?_
          refine lv_iload_n hx hb dX2_couples_22 rfl (lv_at hl 3 rfl) ?_
          refine lv_iload hx hb dX2_couples_23 (lv_at hl 4 rfl) ?_
          refine kt_callI (wr := []) (rest := []) B (mM_linkOf l D ob ar dA n g zn zg u v zu (by omega) (by omega)) (cwV 2 B.2.2.2.2 (lw_V q175 q177 qs11 q19 q178) rfl rfl rfl (by decide +kernel) ⟨Nat.le_of_ble_eq_true rfl, Nat.le_of_ble_eq_true rfl⟩) [0, 1] [] [0] rfl rfl rfl rfl rfl (fun _ h _ => absurd h List.not_mem_nil) rfl hA hK hP hD hS (ci := 1) rfl rfl rfl rfl hl.1 rfl (Nat.le_of_ble_eq_true rfl) dX2_couples_25 ⟨Nat.le_refl _, Nat.le_refl _⟩ (fun rx ux H locs hw hP hD hS => ?_)
          have hP : va_P D vwCl (wM ob ar dA n g) H := hP
          have hD : va_D A (wM ob ar dA n g) := hD
          have hw : rx = nI (ct_lam n g u v) := hw
          subst hw
          refine lv_iload_n hx hb dX2_couples_28 rfl (lv_at hl 1 rfl) ?_
          refine lv_icmp_lt (tgt := 35) hx hb dX2_couples_29 (by decide)  (fun hc => ?_) (fun hc => ?_)
          · refine lv_iinc (v := nI (v + 1)) (lv' := [(4, .int (nI (v + 1))), (0, .ref (ob)), (1, .int (k)), (2, .int (nI (acc2))), (3, .int (nI (u)))]) hx hb dX2_couples_35 hl (k := 4) rfl (nI_add v 1) (by decide) rfl (fun ls hl => ?_)
            refine lv_goto (tgt := 15) hx hb dX2_couples_38 (by decide) ?_
            exact ih2 _ (by rw [za2, fb_sm_succ, show decide (k ≤ nI (ct_lam n g u v)) = false from decide_eq_false (fa_of_lt hc).2.1]; rfl) _ _ _ hP hD hS (lv_sub hl [1, 2, 3, 4, 0] rfl)
          · refine lv_iinc (v := nI (acc2 + 1)) (lv' := [(2, .int (nI (acc2 + 1))), (0, .ref (ob)), (1, .int (k)), (3, .int (nI (u))), (4, .int (nI (v)))]) hx hb dX2_couples_32 hl (k := 2) rfl (nI_add acc2 1) (by decide) rfl (fun ls hl => ?_)
            refine lv_iinc (v := nI (v + 1)) (lv' := [(4, .int (nI (v + 1))), (2, .int (nI (acc2 + 1))), (0, .ref (ob)), (1, .int (k)), (3, .int (nI (u)))]) hx hb dX2_couples_35 hl (k := 4) rfl (nI_add v 1) (by decide) rfl (fun ls hl => ?_)
            refine lv_goto (tgt := 15) hx hb dX2_couples_38 (by decide) ?_
            exact ih2 _ (by rw [za2, fb_sm_succ, show decide (k ≤ nI (ct_lam n g u v)) = true from decide_eq_true (fa_of_nlt hc)]; rfl) _ _ _ hP hD hS (lv_sub hl [2, 3, 1, 4, 0] rfl)
      exact inner 0 (Nat.zero_le _) acc rfl _ _ _ hP hD hS (lv_sub hl [1, 2, 3, 4, 0] rfl)
  refine lv_iconst (v := nI (0)) hx hb dX2_couples_0 (by decide) ?_
  refine lv_istore_n (lv' := [(2, .int (nI (0))), (0, .ref (ob)), (1, .int (k))]) hx hb dX2_couples_1 rfl hl (by decide) rfl (fun ls hl => ?_)
  refine lv_iconst (v := nI (0)) hx hb dX2_couples_2 (by decide) ?_
  refine lv_istore_n (lv' := [(3, .int (nI (0))), (2, .int (nI (0))), (0, .ref (ob)), (1, .int (k))]) hx hb dX2_couples_3 rfl hl (by decide) rfl (fun ls hl => ?_)
  exact outer 0 (Nat.zero_le _) 0 rfl _ _ _ hP hD hS (lv_sub hl [2, 3, 1, 0] rfl)
set_option maxHeartbeats 4000000 in
set_option maxRecDepth 100000 in
theorem mM_groupOf (l : Launch) (D : va_G) (ob ar : Nat) (dA : ClassId) (n : Nat) (g : Nat → Nat) (zn : n ≤ 8) (zg : ct_G g) (u : Nat) (zu : u < n) (k : Int32) : kt_Mi l yX2_groupOf cX2_groupOf 5 .int 3 D (tyM dA) (wM ob ar dA n g) [.ref (ob), .int (nI (u)), .int (k)] (fun r (_ : Unit) => r = nI (ct_gr n g u k)) (fun _ => wM ob ar dA n g) := by
  refine kt_inI (by decide) (Nat.le_of_ble_eq_true rfl) (fun r _ h => rfl) ?_
  intro p e s m args below meth c A Q H ls B hA hK hP hD hS hl hret
  have B : CallFix p m c cX2_groupOf 5 s args lw_all RX2 := B
  have hx := B.1
  have hb := B.2.1
  have hl : lv_has ls 5 [(0, .ref (ob)), (1, .int (nI (u))), (2, .int (k))] := hl
  have loop : ∀ v, v ≤ n → ∀ S, ct_gs n g u k v S → ∀ (H : Heap) (locs : List Loc) (ls : Array Slot), va_P D vwCl (wM ob ar dA n g) H → va_D A (wM ob ar dA n g) → va_S A s.heap H locs → lv_has ls 5 [(0, .ref (ob)), (1, .int (nI (u))), (2, .int (k)), (3, .int (nI (S))), (4, .int (nI (v)))] → W p l e (kt_rm 3) s m args below meth c H locs 0 0 Q (F0 m 7 ls []) := by
    refine kt_up ?_ ?_
    · intro S zs H locs ls hP hD hS hl
      refine lv_iload hx hb dX2_groupOf_7 (lv_at hl 4 rfl) ?_
      refine lv_aload_n hx hb dX2_groupOf_9 rfl (lv_at hl 0 rfl) ?_
      refine kt_gM B hK hP rfl 0 (by decide) q148 rfl dX2_groupOf_10 ?_
      refine kn_ge (tgt := 46) hx hb dX2_groupOf_13 (by decide) (by omega) (by omega) (fun hq => ?_) (fun hq => absurd hq (by omega))
      refine lv_iload_n hx hb dX2_groupOf_46 rfl (lv_at hl 3 rfl) ?_
      exact hret _ () _ _ _ _ (by rw [ct_gs_end zs zu]) hP hD hS dX2_groupOf_47
    · intro v zv ih S zs H locs ls hP hD hS hl
      refine lv_iload hx hb dX2_groupOf_7 (lv_at hl 4 rfl) ?_
      refine lv_aload_n hx hb dX2_groupOf_9 rfl (lv_at hl 0 rfl) ?_
      refine kt_gM B hK hP rfl 0 (by decide) q148 rfl dX2_groupOf_10 ?_
      refine kn_ge (tgt := 46) hx hb dX2_groupOf_13 (by decide) (by omega) (by omega) (fun hq => absurd hq (by omega)) (fun hq => ?_)
      refine lv_iload hx hb dX2_groupOf_16 (lv_at hl 4 rfl) ?_
      refine lv_iload_n hx hb dX2_groupOf_18 rfl (lv_at hl 1 rfl) ?_
      refine kn_eq (tgt := 40) hx hb dX2_groupOf_19 (by decide) (by omega) (by omega) (fun hc => ?_) (fun hc => ?_)
      · refine lv_iinc (v := nI (v + 1)) (lv' := [(4, .int (nI (v + 1))), (0, .ref (ob)), (1, .int (nI (u))), (2, .int (k)), (3, .int (nI (S)))]) hx hb dX2_groupOf_40 hl (k := 4) rfl (nI_add v 1) (by decide) rfl (fun ls hl => ?_)
        refine lv_goto (tgt := 7) hx hb dX2_groupOf_43 (by decide) ?_
        exact ih _ (ct_gs_same zs (Or.inl hc)) _ _ _ hP hD hS (lv_sub hl [1, 2, 3, 4, 0] rfl)
      · refine lv_aload_n hx hb dX2_groupOf_22 rfl (lv_at hl 0 rfl) ?_
        refine lv_iload_n hx hb dX2_groupOf_23 rfl (lv_at hl 1 rfl) ?_
        refine lv_iload hx hb dX2_groupOf_24 (lv_at hl 4 rfl) ?_
        refine kt_callI (wr := []) (rest := []) B (mM_linkOf l D ob ar dA n g zn zg u v zu zv (Ne.symm hc)) (cwV 2 B.2.2.2.2 (lw_V q175 q177 qs11 q19 q178) rfl rfl rfl (by decide +kernel) ⟨Nat.le_of_ble_eq_true rfl, Nat.le_of_ble_eq_true rfl⟩) [0, 1] [] [0] rfl rfl rfl rfl rfl (fun _ h _ => absurd h List.not_mem_nil) rfl hA hK hP hD hS (ci := 1) rfl rfl rfl rfl hl.1 rfl (Nat.le_of_ble_eq_true rfl) dX2_groupOf_26 ⟨Nat.le_refl _, Nat.le_refl _⟩ (fun rx ux H locs hw hP hD hS => ?_)
        have hP : va_P D vwCl (wM ob ar dA n g) H := hP
        have hD : va_D A (wM ob ar dA n g) := hD
        have hw : rx = nI (ct_lam n g u v) := hw
        subst hw
        refine lv_iload_n hx hb dX2_groupOf_29 rfl (lv_at hl 2 rfl) ?_
        refine lv_icmp_lt (tgt := 40) hx hb dX2_groupOf_30 (by decide)  (fun hd => ?_) (fun hd => ?_)
        · refine lv_iinc (v := nI (v + 1)) (lv' := [(4, .int (nI (v + 1))), (0, .ref (ob)), (1, .int (nI (u))), (2, .int (k)), (3, .int (nI (S)))]) hx hb dX2_groupOf_40 hl (k := 4) rfl (nI_add v 1) (by decide) rfl (fun ls hl => ?_)
          refine lv_goto (tgt := 7) hx hb dX2_groupOf_43 (by decide) ?_
          exact ih _ (ct_gs_same zs (Or.inr (fa_of_lt hd).2.1)) _ _ _ hP hD hS (lv_sub hl [1, 2, 3, 4, 0] rfl)
        · refine lv_iload_n hx hb dX2_groupOf_33 rfl (lv_at hl 3 rfl) ?_
          refine lv_iconst (v := nI (1)) hx hb dX2_groupOf_34 (by decide) ?_
          refine lv_iload hx hb dX2_groupOf_35 (lv_at hl 4 rfl) ?_
          refine kn_shl1 hx hb (by omega) dX2_groupOf_37 ?_
          refine kn_ior hx hb dX2_groupOf_38 ?_
          refine lv_istore_n (lv' := [(3, .int (nI (S ||| (2 ^ v)))), (0, .ref (ob)), (1, .int (nI (u))), (2, .int (k)), (4, .int (nI (v)))]) hx hb dX2_groupOf_39 rfl hl (by decide) rfl (fun ls hl => ?_)
          refine lv_iinc (v := nI (v + 1)) (lv' := [(4, .int (nI (v + 1))), (3, .int (nI (S ||| (2 ^ v)))), (0, .ref (ob)), (1, .int (nI (u))), (2, .int (k))]) hx hb dX2_groupOf_40 hl (k := 4) rfl (nI_add v 1) (by decide) rfl (fun ls hl => ?_)
          refine lv_goto (tgt := 7) hx hb dX2_groupOf_43 (by decide) ?_
          exact ih _ (ct_gs_add zv zs (fa_of_nlt hd)) _ _ _ hP hD hS (lv_sub hl [2, 3, 4, 1, 0] rfl)
  refine lv_iconst (v := nI (1)) hx hb dX2_groupOf_0 (by decide) ?_
  refine lv_iload_n hx hb dX2_groupOf_1 rfl (lv_at hl 1 rfl) ?_
  refine kn_shl1 hx hb (by omega) dX2_groupOf_2 ?_
  refine lv_istore_n (lv' := [(3, .int (nI (2 ^ u))), (0, .ref (ob)), (1, .int (nI (u))), (2, .int (k))]) hx hb dX2_groupOf_3 rfl hl (by decide) rfl (fun ls hl => ?_)
  refine lv_iconst (v := nI (0)) hx hb dX2_groupOf_4 (by decide) ?_
  refine lv_istore (lv' := [(4, .int (nI (0))), (3, .int (nI (2 ^ u))), (0, .ref (ob)), (1, .int (nI (u))), (2, .int (k))]) hx hb dX2_groupOf_5 hl (by decide) rfl (fun ls hl => ?_)
  exact loop 0 (Nat.zero_le _) _ (ct_gs_0 n g zu k) _ _ _ hP hD hS (lv_sub hl [2, 3, 4, 1, 0] rfl)
set_option maxHeartbeats 4000000 in
set_option maxRecDepth 100000 in
theorem mM_groups (l : Launch) (D : va_G) (ob ar : Nat) (dA : ClassId) (n : Nat) (g : Nat → Nat) (zn : n ≤ 8) (zg : ct_G g) (k : Int32) : kt_Mi l yX2_groups cX2_groups 5 .int 4 D (tyM dA) (wM ob ar dA n g) [.ref (ob), .int (k)] (fun r (_ : Unit) => r = nI (fb_ct (fun u => decide (ct_gr n g u k &&& (2 ^ u - 1) = 0)) n)) (fun _ => wM ob ar dA n g) := by
  refine kt_inI (by decide) (Nat.le_of_ble_eq_true rfl) (fun r _ h => rfl) ?_
  intro p e s m args below meth c A Q H ls B hA hK hP hD hS hl hret
  have B : CallFix p m c cX2_groups 5 s args lw_all RX2 := B
  have hx := B.1
  have hb := B.2.1
  have hl : lv_has ls 5 [(0, .ref (ob)), (1, .int (k))] := hl
  have zp := ct_pow8 zn
  have loop : ∀ u, u ≤ n → ∀ acc, acc = fb_ct (fun u => decide (ct_gr n g u k &&& (2 ^ u - 1) = 0)) u → ∀ (H : Heap) (locs : List Loc) (ls : Array Slot), va_P D vwCl (wM ob ar dA n g) H → va_D A (wM ob ar dA n g) → va_S A s.heap H locs → lv_has ls 5 [(0, .ref (ob)), (1, .int (k)), (2, .int (nI (acc))), (3, .int (nI (u)))] → W p l e (kt_rm 4) s m args below meth c H locs 0 0 Q (F0 m 4 ls []) := by
    refine kt_up ?_ ?_
    · intro acc za H locs ls hP hD hS hl
      refine lv_iload_n hx hb dX2_groups_4 rfl (lv_at hl 3 rfl) ?_
      refine lv_aload_n hx hb dX2_groups_5 rfl (lv_at hl 0 rfl) ?_
      refine kt_gM B hK hP rfl 0 (by decide) q148 rfl dX2_groups_6 ?_
      refine kn_ge (tgt := 40) hx hb dX2_groups_9 (by decide) (by omega) (by omega) (fun hq => ?_) (fun hq => absurd hq (by omega))
      refine lv_iload_n hx hb dX2_groups_40 rfl (lv_at hl 2 rfl) ?_
      exact hret _ () _ _ _ _ (by rw [za]) hP hD hS dX2_groups_41
    · intro u zu ih acc za H locs ls hP hD hS hl
      refine lv_iload_n hx hb dX2_groups_4 rfl (lv_at hl 3 rfl) ?_
      refine lv_aload_n hx hb dX2_groups_5 rfl (lv_at hl 0 rfl) ?_
      refine kt_gM B hK hP rfl 0 (by decide) q148 rfl dX2_groups_6 ?_
      refine kn_ge (tgt := 40) hx hb dX2_groups_9 (by decide) (by omega) (by omega) (fun hq => absurd hq (by omega)) (fun hq => ?_)
      have zpu := Nat.two_pow_pos u
      have zgr := ct_gr_lt n g u k
      have zand : ct_gr n g u k &&& (2 ^ u - 1) ≤ ct_gr n g u k := Nat.and_le_left
      refine lv_aload_n hx hb dX2_groups_12 rfl (lv_at hl 0 rfl) ?_
      refine lv_iload_n hx hb dX2_groups_13 rfl (lv_at hl 3 rfl) ?_
      refine lv_iload_n hx hb dX2_groups_14 rfl (lv_at hl 1 rfl) ?_
      refine kt_callI (wr := []) (rest := []) B (mM_groupOf l D ob ar dA n g zn zg u zu k) (cwV 2 B.2.2.2.2 (lw_V q211 q213 qs16 q19 q214) rfl rfl rfl (by decide +kernel) ⟨Nat.le_of_ble_eq_true rfl, Nat.le_of_ble_eq_true rfl⟩) [0, 1] [] [0] rfl rfl rfl rfl rfl (fun _ h _ => absurd h List.not_mem_nil) rfl hA hK hP hD hS (ci := 1) rfl rfl rfl rfl hl.1 rfl (Nat.le_of_ble_eq_true rfl) dX2_groups_15 ⟨Nat.le_refl _, Nat.le_refl _⟩ (fun rx ux H locs hw hP hD hS => ?_)
      have hP : va_P D vwCl (wM ob ar dA n g) H := hP
      have hD : va_D A (wM ob ar dA n g) := hD
      have hw : rx = nI (ct_gr n g u k) := hw
      subst hw
      refine lv_istore (lv' := [(4, .int (nI (ct_gr n g u k))), (0, .ref (ob)), (1, .int (k)), (2, .int (nI (acc))), (3, .int (nI (u)))]) hx hb dX2_groups_18 hl (by decide) rfl (fun ls hl => ?_)
      refine lv_iload hx hb dX2_groups_20 (lv_at hl 0 rfl) ?_
      refine lv_iconst (v := nI (1)) hx hb dX2_groups_22 (by decide) ?_
      refine lv_iload_n hx hb dX2_groups_23 rfl (lv_at hl 4 rfl) ?_
      refine kn_shl1 hx hb (by omega) dX2_groups_24 ?_
      refine lv_iconst (v := nI (1)) hx hb dX2_groups_25 (by decide) ?_
      refine kn_isub hx hb (by omega) dX2_groups_26 ?_
      refine kn_iand hx hb dX2_groups_27 ?_
      refine kn_if_ne (tgt := 34) hx hb dX2_groups_28 (by decide) (by omega) (fun hc => ?_) (fun hc => ?_)
      · refine lv_iinc (v := nI (u + 1)) (lv' := [(3, .int (nI (u + 1))), (4, .int (nI (ct_gr n g u k))), (0, .ref (ob)), (1, .int (k)), (2, .int (nI (acc)))]) hx hb dX2_groups_34 hl (k := 4) rfl (nI_add u 1) (by decide) rfl (fun ls hl => ?_)
        refine lv_goto (tgt := 4) hx hb dX2_groups_37 (by decide) ?_
        exact ih _ (by rw [za, fb_ct_succ, if_neg (by rw [decide_eq_true_eq]; exact hc)]; rfl) _ _ _ hP hD hS (lv_sub hl [2, 3, 4, 0] rfl)
      · refine lv_iinc (v := nI (acc + 1)) (lv' := [(2, .int (nI (acc + 1))), (4, .int (nI (ct_gr n g u k))), (0, .ref (ob)), (1, .int (k)), (3, .int (nI (u)))]) hx hb dX2_groups_31 hl (k := 3) rfl (nI_add acc 1) (by decide) rfl (fun ls hl => ?_)
        refine lv_iinc (v := nI (u + 1)) (lv' := [(3, .int (nI (u + 1))), (2, .int (nI (acc + 1))), (4, .int (nI (ct_gr n g u k))), (0, .ref (ob)), (1, .int (k))]) hx hb dX2_groups_34 hl (k := 4) rfl (nI_add u 1) (by decide) rfl (fun ls hl => ?_)
        refine lv_goto (tgt := 4) hx hb dX2_groups_37 (by decide) ?_
        exact ih _ (by rw [za, fb_ct_succ, if_pos (by rw [decide_eq_true_eq]; exact hc)]) _ _ _ hP hD hS (lv_sub hl [3, 4, 1, 0] rfl)
  refine lv_iconst (v := nI (0)) hx hb dX2_groups_0 (by decide) ?_
  refine lv_istore_n (lv' := [(2, .int (nI (0))), (0, .ref (ob)), (1, .int (k))]) hx hb dX2_groups_1 rfl hl (by decide) rfl (fun ls hl => ?_)
  refine lv_iconst (v := nI (0)) hx hb dX2_groups_2 (by decide) ?_
  refine lv_istore_n (lv' := [(3, .int (nI (0))), (2, .int (nI (0))), (0, .ref (ob)), (1, .int (k))]) hx hb dX2_groups_3 rfl hl (by decide) rfl (fun ls hl => ?_)
  exact loop 0 (Nat.zero_le _) 0 rfl _ _ _ hP hD hS (lv_sub hl [2, 3, 1, 0] rfl)
set_option maxHeartbeats 4000000 in
set_option maxRecDepth 100000 in
theorem mM_group (l : Launch) (D : va_G) (ob ar : Nat) (dA : ClassId) (n : Nat) (g : Nat → Nat) (zn : n ≤ 8) (zg : ct_G g) (u k : Int32) : kt_Mi l yX2_group cX2_group 3 .int 4 D (tyM dA) (wM ob ar dA n g) [.ref (ob), .int (u), .int (k)] (fun r (_ : Unit) => r = ct_gq n g u k) (fun _ => wM ob ar dA n g) := by
  refine kt_inI (by decide) (Nat.le_of_ble_eq_true rfl) (fun r _ h => rfl) ?_
  intro p e s m args below meth c A Q H ls B hA hK hP hD hS hl hret
  have B : CallFix p m c cX2_group 3 s args lw_all RX2 := B
  have hx := B.1
  have hb := B.2.1
  have hl : lv_has ls 3 [(0, .ref (ob)), (1, .int (u)), (2, .int (k))] := hl
  refine lv_aload_n hx hb dX2_group_0 rfl (lv_at hl 0 rfl) ?_
  refine lv_iload_n hx hb dX2_group_1 rfl (lv_at hl 1 rfl) ?_
  refine kt_callI (wr := []) (rest := []) B (mM_isPoint l D ob ar dA n g u) (cwV 1 B.2.2.2.2 (lw_V q163 q165 qs10 q19 q166) rfl rfl rfl (by decide +kernel) ⟨Nat.le_of_ble_eq_true rfl, Nat.le_of_ble_eq_true rfl⟩) [0, 1] [] [0] rfl rfl rfl rfl rfl (fun _ h _ => absurd h List.not_mem_nil) rfl hA hK hP hD hS (ci := 1) rfl rfl rfl rfl hl.1 rfl (Nat.le_of_ble_eq_true rfl) dX2_group_2 ⟨Nat.le_refl _, Nat.le_refl _⟩ (fun rx ux H locs hw hP hD hS => ?_)
  have hP : va_P D vwCl (wM ob ar dA n g) H := hP
  have hD : va_D A (wM ob ar dA n g) := hD
  have hw : rx = nI (ct_bn (ct_ip n u)) := hw
  subst hw
  refine kn_if_eq (tgt := 17) hx hb dX2_group_5 (by decide) (ct_bn_lt _) (fun hc => ?_) (fun hc => ?_)
  · refine lv_iconst (v := (-1)) hx hb dX2_group_17 (by decide) ?_
    exact hret _ () _ _ _ _ (ct_gq_no (ct_bn_0 hc)) hP hD hS dX2_group_18
  · have hok := ct_bn_1 hc
    obtain ⟨i, zi, rfl⟩ := ct_ip_of zn hok
    refine lv_aload_n hx hb dX2_group_8 rfl (lv_at hl 0 rfl) ?_
    refine lv_iload_n hx hb dX2_group_9 rfl (lv_at hl 1 rfl) ?_
    refine lv_iload_n hx hb dX2_group_10 rfl (lv_at hl 2 rfl) ?_
    refine kt_callI (wr := []) (rest := []) B (mM_groupOf l D ob ar dA n g zn zg i zi k) (cwV 2 B.2.2.2.2 (lw_V q211 q213 qs16 q19 q214) rfl rfl rfl (by decide +kernel) ⟨Nat.le_of_ble_eq_true rfl, Nat.le_of_ble_eq_true rfl⟩) [0, 1] [] [0] rfl rfl rfl rfl rfl (fun _ h _ => absurd h List.not_mem_nil) rfl hA hK hP hD hS (ci := 1) rfl rfl rfl rfl hl.1 rfl (Nat.le_of_ble_eq_true rfl) dX2_group_11 ⟨Nat.le_refl _, Nat.le_refl _⟩ (fun rx ux H locs hw hP hD hS => ?_)
    have hP : va_P D vwCl (wM ob ar dA n g) H := hP
    have hD : va_D A (wM ob ar dA n g) := hD
    have hw : rx = nI (ct_gr n g i k) := hw
    subst hw
    refine lv_goto (tgt := 18) hx hb dX2_group_14 (by decide) ?_
    exact hret _ () _ _ _ _ (ct_gq_yes (by omega) hok) hP hD hS dX2_group_18
set_option maxHeartbeats 4000000 in
set_option maxRecDepth 100000 in
theorem mM_weight (l : Launch) (D : va_G) (ob ar : Nat) (dA : ClassId) (n : Nat) (g : Nat → Nat) (zn : n ≤ 8) (x : Int32) : kt_Mi l yX2_weight cX2_weight 2 .int 2 D (tyM dA) (wM ob ar dA n g) [.ref (ob), .int (x)] (fun r (_ : Unit) => r = ct_we n g x) (fun _ => wM ob ar dA n g) := by
  refine kt_inI (by decide) (Nat.le_of_ble_eq_true rfl) (fun r _ h => rfl) ?_
  intro p e s m args below meth c A Q H ls B hA hK hP hD hS hl hret
  have B : CallFix p m c cX2_weight 2 s args lw_all RX2 := B
  have hx := B.1
  have hb := B.2.1
  have hl : lv_has ls 2 [(0, .ref (ob)), (1, .int (x))] := hl
  refine lv_iload_n hx hb dX2_weight_0 rfl (lv_at hl 1 rfl) ?_
  refine lv_if_le (tgt := 20) hx hb dX2_weight_1 (by decide)  (fun hc => ?_) (fun hc => ?_)
  · refine lv_iconst (v := (-1)) hx hb dX2_weight_20 (by decide) ?_
    exact hret _ () _ _ _ _ (ct_we_1 hc) hP hD hS dX2_weight_21
  · refine lv_iload_n hx hb dX2_weight_4 rfl (lv_at hl 1 rfl) ?_
    refine lv_aload_n hx hb dX2_weight_5 rfl (lv_at hl 0 rfl) ?_
    refine kt_callI (wr := []) (rest := [.int (x)]) B (mM_all l D ob ar dA n g zn) (cwV 0 B.2.2.2.2 (lw_V q179 q181 qs12 q19 q182) rfl rfl rfl (by decide +kernel) ⟨Nat.le_of_ble_eq_true rfl, Nat.le_of_ble_eq_true rfl⟩) [0, 1] [] [0] rfl rfl rfl rfl rfl (fun _ h _ => absurd h List.not_mem_nil) rfl hA hK hP hD hS (ci := 1) rfl rfl rfl rfl hl.1 rfl (Nat.le_of_ble_eq_true rfl) dX2_weight_6 ⟨Nat.le_refl _, Nat.le_refl _⟩ (fun rx ux H locs hw hP hD hS => ?_)
    have hP : va_P D vwCl (wM ob ar dA n g) H := hP
    have hD : va_D A (wM ob ar dA n g) := hD
    have hw : rx = nI (2 ^ n - 1) := hw
    subst hw
    refine lv_icmp_ge (tgt := 20) hx hb dX2_weight_9 (by decide)  (fun hd => ?_) (fun hd => ?_)
    · refine lv_iconst (v := (-1)) hx hb dX2_weight_20 (by decide) ?_
      exact hret _ () _ _ _ _ (ct_we_2 hd) hP hD hS dX2_weight_21
    · obtain ⟨S, zS, rfl, zS1, zS0⟩ := ct_we_of hc hd zn
      refine lv_aload_n hx hb dX2_weight_12 rfl (lv_at hl 0 rfl) ?_
      refine lv_iload_n hx hb dX2_weight_13 rfl (lv_at hl 1 rfl) ?_
      refine kt_callI (wr := []) (rest := []) B (mM_weightOf l D ob ar dA n g zn S zS) (cwV 1 B.2.2.2.2 (lw_V q187 q189 qs14 q19 q190) rfl rfl rfl (by decide +kernel) ⟨Nat.le_of_ble_eq_true rfl, Nat.le_of_ble_eq_true rfl⟩) [0, 1] [] [0] rfl rfl rfl rfl rfl (fun _ h _ => absurd h List.not_mem_nil) rfl hA hK hP hD hS (ci := 1) rfl rfl rfl rfl hl.1 rfl (Nat.le_of_ble_eq_true rfl) dX2_weight_14 ⟨Nat.le_refl _, Nat.le_refl _⟩ (fun rx ux H locs hw hP hD hS => ?_)
      have hP : va_P D vwCl (wM ob ar dA n g) H := hP
      have hD : va_D A (wM ob ar dA n g) := hD
      have hw : rx = nI (ct_wt n g S) := hw
      subst hw
      refine lv_goto (tgt := 21) hx hb dX2_weight_17 (by decide) ?_
      exact hret _ () _ _ _ _ (ct_we_3 zS hc hd) hP hD hS dX2_weight_21
set_option maxHeartbeats 4000000 in
set_option maxRecDepth 100000 in
theorem mM_total (l : Launch) (D : va_G) (ob ar : Nat) (dA : ClassId) (n : Nat) (g : Nat → Nat) (zn : n ≤ 8) (zg : ct_G g) : kt_Mi l yX2_total cX2_total 4 .int 3 D (tyM dA) (wM ob ar dA n g) [.ref (ob)] (fun r (_ : Unit) => r = nI (fb_sm (fun u => fb_sm (fun v => ct_lam n g u v) u) n)) (fun _ => wM ob ar dA n g) := by
  refine kt_inI (by decide) (Nat.le_of_ble_eq_true rfl) (fun r _ h => rfl) ?_
  intro p e s m args below meth c A Q H ls B hA hK hP hD hS hl hret
  have B : CallFix p m c cX2_total 4 s args lw_all RX2 := B
  have hx := B.1
  have hb := B.2.1
  have hl : lv_has ls 4 [(0, .ref (ob))] := hl
  have outer : ∀ u, u ≤ n → ∀ acc, acc = fb_sm (fun u => fb_sm (fun v => ct_lam n g u v) u) u → ∀ (H : Heap) (locs : List Loc) (ls : Array Slot), va_P D vwCl (wM ob ar dA n g) H → va_D A (wM ob ar dA n g) → va_S A s.heap H locs → lv_has ls 4 [(0, .ref (ob)), (1, .int (nI (acc))), (2, .int (nI (u)))] → W p l e (kt_rm 3) s m args below meth c H locs 0 0 Q (F0 m 4 ls []) := by
    refine kt_up ?_ ?_
    · intro acc za H locs ls hP hD hS hl
      refine lv_iload_n hx hb dX2_total_4 rfl (lv_at hl 2 rfl) ?_
      refine lv_aload_n hx hb dX2_total_5 rfl (lv_at hl 0 rfl) ?_
      refine kt_gM B hK hP rfl 0 (by decide) q148 rfl dX2_total_6 ?_
      refine kn_ge (tgt := 40) hx hb dX2_total_9 (by decide) (by omega) (by omega) (fun hq => ?_) (fun hq => absurd hq (by omega))
      refine lv_iload_n hx hb dX2_total_40 rfl (lv_at hl 1 rfl) ?_
      exact hret _ () _ _ _ _ (by rw [za]) hP hD hS dX2_total_41
    · intro u zu ih acc za H locs ls hP hD hS hl
      refine lv_iload_n hx hb dX2_total_4 rfl (lv_at hl 2 rfl) ?_
      refine lv_aload_n hx hb dX2_total_5 rfl (lv_at hl 0 rfl) ?_
      refine kt_gM B hK hP rfl 0 (by decide) q148 rfl dX2_total_6 ?_
      refine kn_ge (tgt := 40) hx hb dX2_total_9 (by decide) (by omega) (by omega) (fun hq => absurd hq (by omega)) (fun hq => ?_)
      refine lv_iconst (v := nI (0)) hx hb dX2_total_12 (by decide) ?_
      refine lv_istore_n (lv' := [(3, .int (nI (0))), (0, .ref (ob)), (1, .int (nI (acc))), (2, .int (nI (u)))]) hx hb dX2_total_13 rfl hl (by decide) rfl (fun ls hl => ?_)
      have inner : ∀ v, v ≤ u → ∀ acc2, acc2 = acc + fb_sm (fun v => ct_lam n g u v) v → ∀ (H : Heap) (locs : List Loc) (ls : Array Slot), va_P D vwCl (wM ob ar dA n g) H → va_D A (wM ob ar dA n g) → va_S A s.heap H locs → lv_has ls 4 [(0, .ref (ob)), (1, .int (nI (acc2))), (2, .int (nI (u))), (3, .int (nI (v)))] → W p l e (kt_rm 3) s m args below meth c H locs 0 0 Q (F0 m 14 ls []) := by
        refine kt_up ?_ ?_
        · intro acc2 za2 H locs ls hP hD hS hl
          refine lv_iload_n hx hb dX2_total_14 rfl (lv_at hl 3 rfl) ?_
          refine lv_iload_n hx hb dX2_total_15 rfl (lv_at hl 2 rfl) ?_
          refine kn_ge (tgt := 34) hx hb dX2_total_16 (by decide) (by omega) (by omega) (fun hq => ?_) (fun hq => absurd hq (by omega))
          refine lv_iinc (v := nI (u + 1)) (lv' := [(2, .int (nI (u + 1))), (0, .ref (ob)), (1, .int (nI (acc2))), (3, .int (nI ((u))))]) hx hb dX2_total_34 hl (k := 2) rfl (nI_add u 1) (by decide) rfl (fun ls hl => ?_)
          refine lv_goto (tgt := 4) hx hb dX2_total_37 (by decide) ?_
          exact ih _ (by rw [za2, za]; rfl) _ _ _ hP hD hS (lv_sub hl [1, 2, 0] rfl)
        · intro v zv ih2 acc2 za2 H locs ls hP hD hS hl
          refine lv_iload_n hx hb dX2_total_14 rfl (lv_at hl 3 rfl) ?_
          refine lv_iload_n hx hb dX2_total_15 rfl (lv_at hl 2 rfl) ?_
          refine kn_ge (tgt := 34) hx hb dX2_total_16 (by decide) (by omega) (by omega) (fun hq => absurd hq (by omega)) (fun hq => ?_)
          refine lv_iload_n hx hb dX2_total_19 rfl (lv_at hl 1 rfl) ?_
          refine lv_aload_n hx hb dX2_total_20 rfl (lv_at hl 0 rfl) ?_
          refine lv_iload_n hx hb dX2_total_21 rfl (lv_at hl 2 rfl) ?_
          refine lv_iload_n hx hb dX2_total_22 rfl (lv_at hl 3 rfl) ?_
          refine kt_callI (wr := []) (rest := [.int (nI (acc2))]) B (mM_linkOf l D ob ar dA n g zn zg u v zu (by omega) (by omega)) (cwV 2 B.2.2.2.2 (lw_V q175 q177 qs11 q19 q178) rfl rfl rfl (by decide +kernel) ⟨Nat.le_of_ble_eq_true rfl, Nat.le_of_ble_eq_true rfl⟩) [0, 1] [] [0] rfl rfl rfl rfl rfl (fun _ h _ => absurd h List.not_mem_nil) rfl hA hK hP hD hS (ci := 1) rfl rfl rfl rfl hl.1 rfl (Nat.le_of_ble_eq_true rfl) dX2_total_23 ⟨Nat.le_refl _, Nat.le_refl _⟩ (fun rx ux H locs hw hP hD hS => ?_)
          have hP : va_P D vwCl (wM ob ar dA n g) H := hP
          have hD : va_D A (wM ob ar dA n g) := hD
          have hw : rx = nI (ct_lam n g u v) := hw
          subst hw
          refine kn_iadd hx hb dX2_total_26 ?_
          refine lv_istore_n (lv' := [(1, .int (nI (acc2 + (ct_lam n g u v)))), (0, .ref (ob)), (2, .int (nI (u))), (3, .int (nI (v)))]) hx hb dX2_total_27 rfl hl (by decide) rfl (fun ls hl => ?_)
          refine lv_iinc (v := nI (v + 1)) (lv' := [(3, .int (nI (v + 1))), (1, .int (nI (acc2 + (ct_lam n g u v)))), (0, .ref (ob)), (2, .int (nI (u)))]) hx hb dX2_total_28 hl (k := 3) rfl (nI_add v 1) (by decide) rfl (fun ls hl => ?_)
          refine lv_goto (tgt := 14) hx hb dX2_total_31 (by decide) ?_
          exact ih2 _ (by rw [za2, fb_sm_succ, Nat.add_assoc]) _ _ _ hP hD hS (lv_sub hl [2, 1, 3, 0] rfl)
      exact inner 0 (Nat.zero_le _) acc rfl _ _ _ hP hD hS (lv_sub hl [1, 2, 3, 0] rfl)
  refine lv_iconst (v := nI (0)) hx hb dX2_total_0 (by decide) ?_
  refine lv_istore_n (lv' := [(1, .int (nI (0))), (0, .ref (ob))]) hx hb dX2_total_1 rfl hl (by decide) rfl (fun ls hl => ?_)
  refine lv_iconst (v := nI (0)) hx hb dX2_total_2 (by decide) ?_
  refine lv_istore_n (lv' := [(2, .int (nI (0))), (1, .int (nI (0))), (0, .ref (ob))]) hx hb dX2_total_3 rfl hl (by decide) rfl (fun ls hl => ?_)
  exact outer 0 (Nat.zero_le _) 0 rfl _ _ _ hP hD hS (lv_sub hl [2, 1, 0] rfl)
set_option maxHeartbeats 4000000 in
set_option maxRecDepth 100000 in
theorem mM_cap (l : Launch) (D : va_G) (ob ar : Nat) (dA : ClassId) (n : Nat) (g : Nat → Nat) (zn : n ≤ 8) (zg : ct_G g) (x : Int32) : kt_Mi l yX2_cap cX2_cap 5 .int 0 D (tyM dA) (wM ob ar dA n g) [.ref (ob), .int (x)] (fun r (gq : Nat → Nat) => (x < 0 ∧ r = -1 ∧ gq = g) ∨ ∃ t, t < 2 ^ 31 ∧ x = nI t ∧ r = nI (fb_sm (fun u => fb_sm (fun v => ct_cc g t u v) u) n) ∧ gq = ct_cm g t n 0) (fun gq => wM ob ar dA n gq) := by
  refine kt_inI (by decide) (Nat.le_of_ble_eq_true rfl) (fun r _ h => rfl) ?_
  intro p e s m args below meth c A Q H ls B hA hK hP hD hS hl hret
  have B : CallFix p m c cX2_cap 5 s args lw_all RX2 := B
  have hx := B.1
  have hb := B.2.1
  have hl : lv_has ls 5 [(0, .ref (ob)), (1, .int (x))] := hl
  refine lv_iload_n hx hb dX2_cap_0 rfl (lv_at hl 1 rfl) ?_
  by_cases hc : x < 0
  · refine lv_if_ge (tgt := 6) hx hb dX2_cap_1 (by decide) (fun hq => absurd hc (by rw [fa_le] at hq; rw [fa_lt]; omega)) (fun hq => ?_)
    refine lv_iconst (v := (-1)) hx hb dX2_cap_4 (by decide) ?_
    exact hret _ g _ _ _ _ (Or.inl ⟨hc, rfl, rfl⟩) hP hD hS dX2_cap_5
  · obtain ⟨t, zt, rfl⟩ := nI_of hc
    refine lv_if_ge (tgt := 6) hx hb dX2_cap_1 (by decide) (fun hq => ?_) (fun hq => absurd (nI_pos' zt) hq)
    have outer : ∀ u, u ≤ n → ∀ acc, acc = fb_sm (fun u => fb_sm (fun v => ct_cc g t u v) u) u → ∀ (H : Heap) (locs : List Loc) (ls : Array Slot), va_P D vwCl (wM ob ar dA n (ct_cm g t u 0)) H → va_D A (wM ob ar dA n (ct_cm g t u 0)) → va_S A s.heap H locs → lv_has ls 5 [(0, .ref (ob)), (1, .int (nI (t))), (2, .int (nI (acc))), (3, .int (nI (u)))] → W p l e (kt_rm 0) s m args below meth c H locs 0 0 Q (F0 m 10 ls []) := by
      refine kt_up ?_ ?_
      · intro acc za H locs ls hP hD hS hl
        refine lv_iload_n hx hb dX2_cap_10 rfl (lv_at hl 3 rfl) ?_
        refine lv_aload_n hx hb dX2_cap_11 rfl (lv_at hl 0 rfl) ?_
        refine kt_gM B hK hP rfl 0 (by decide) q148 rfl dX2_cap_12 ?_
        refine kn_ge (tgt := 84) hx hb dX2_cap_15 (by decide) (by omega) (by omega) (fun hq => ?_) (fun hq => absurd hq (by omega))
        refine lv_iload_n hx hb dX2_cap_84 rfl (lv_at hl 2 rfl) ?_
        exact hret _ _ _ _ _ _ (Or.inr ⟨t, zt, rfl, by rw [za], rfl⟩) hP hD hS dX2_cap_85
      · intro u zu ih acc za H locs ls hP hD hS hl
        refine lv_iload_n hx hb dX2_cap_10 rfl (lv_at hl 3 rfl) ?_
        refine lv_aload_n hx hb dX2_cap_11 rfl (lv_at hl 0 rfl) ?_
        refine kt_gM B hK hP rfl 0 (by decide) q148 rfl dX2_cap_12 ?_
        refine kn_ge (tgt := 84) hx hb dX2_cap_15 (by decide) (by omega) (by omega) (fun hq => absurd hq (by omega)) (fun hq => ?_)
        refine lv_iconst (v := nI (0)) hx hb dX2_cap_18 (by decide) ?_
        refine lv_istore (lv' := [(4, .int (nI (0))), (0, .ref (ob)), (1, .int (nI (t))), (2, .int (nI (acc))), (3, .int (nI (u)))]) hx hb dX2_cap_19 hl (by decide) rfl (fun ls hl => ?_)
        have inner : ∀ v, v ≤ u → ∀ acc2, acc2 = acc + fb_sm (fun v => ct_cc g t u v) v → ∀ (H : Heap) (locs : List Loc) (ls : Array Slot), va_P D vwCl (wM ob ar dA n (ct_cm g t u v)) H → va_D A (wM ob ar dA n (ct_cm g t u v)) → va_S A s.heap H locs → lv_has ls 5 [(0, .ref (ob)), (1, .int (nI (t))), (2, .int (nI (acc2))), (3, .int (nI (u))), (4, .int (nI (v)))] → W p l e (kt_rm 0) s m args below meth c H locs 0 0 Q (F0 m 21 ls []) := by
          refine kt_up ?_ ?_
          · intro acc2 za2 H locs ls hP hD hS hl
            refine lv_iload hx hb dX2_cap_21 (lv_at hl 4 rfl) ?_
            refine lv_iload_n hx hb dX2_cap_23 rfl (lv_at hl 3 rfl) ?_
            refine kn_ge (tgt := 78) hx hb dX2_cap_24 (by decide) (by omega) (by omega) (fun hq => ?_) (fun hq => absurd hq (by omega))
            refine lv_iinc (v := nI (u + 1)) (lv' := [(3, .int (nI (u + 1))), (0, .ref (ob)), (1, .int (nI (t))), (2, .int (nI (acc2))), (4, .int (nI ((u))))]) hx hb dX2_cap_78 hl (k := 3) rfl (nI_add u 1) (by decide) rfl (fun ls hl => ?_)
            refine lv_goto (tgt := 10) hx hb dX2_cap_81 (by decide) ?_
            have hwe : ct_cm g t u (u) = ct_cm g t (u + 1) 0 := ct_cm_row g t u
            have hP : va_P D vwCl (wM ob ar dA n (ct_cm g t (u + 1) 0)) H := by rw [← hwe]; exact hP
            have hD : va_D A (wM ob ar dA n (ct_cm g t (u + 1) 0)) := by rw [← hwe]; exact hD
            clear hwe
            exact ih _ (by rw [za2, za]; rfl) _ _ _ hP hD hS (lv_sub hl [1, 2, 3, 0] rfl)
          · intro v zv ih2 acc2 za2 H locs ls hP hD hS hl
            refine lv_iload hx hb dX2_cap_21 (lv_at hl 4 rfl) ?_
            refine lv_iload_n hx hb dX2_cap_23 rfl (lv_at hl 3 rfl) ?_
            refine kn_ge (tgt := 78) hx hb dX2_cap_24 (by decide) (by omega) (by omega) (fun hq => absurd hq (by omega)) (fun hq => ?_)
            have zg50 := zg.2.2 (8 * u + v)
            refine lv_aload_n hx hb dX2_cap_27 rfl (lv_at hl 0 rfl) ?_
            refine kt_gM B hK hP rfl 1 (by decide) q149 rfl dX2_cap_28 ?_
            refine lv_bipush (v := nI (8)) hx hb dX2_cap_31 (by decide) ?_
            refine lv_iload_n hx hb dX2_cap_33 rfl (lv_at hl 3 rfl) ?_
            refine kn_imul hx hb dX2_cap_34 ?_
            refine lv_iload hx hb dX2_cap_35 (lv_at hl 4 rfl) ?_
            refine kn_iadd hx hb dX2_cap_37 ?_
            refine kt_il (v := nI ((ct_cm g t u v) ((8 * u) + v))) hx hb hK hP 1 0 rfl rfl (by omega) (by decide) rfl dX2_cap_38 ?_
            refine kt_e (show nI ((ct_cm g t u v) ((8 * u) + v)) = nI (g (8 * u + v)) from by rw [ct_cm_at zv (by omega)]) ?_
            refine lv_iload_n hx hb dX2_cap_39 rfl (lv_at hl 1 rfl) ?_
            refine kn_le (tgt := 72) hx hb dX2_cap_40 (by decide) (by omega) (by omega) (fun hd => ?_) (fun hd => ?_)
            · refine lv_iinc (v := nI (v + 1)) (lv' := [(4, .int (nI (v + 1))), (0, .ref (ob)), (1, .int (nI (t))), (2, .int (nI (acc2))), (3, .int (nI (u)))]) hx hb dX2_cap_72 hl (k := 4) rfl (nI_add v 1) (by decide) rfl (fun ls hl => ?_)
              refine lv_goto (tgt := 21) hx hb dX2_cap_75 (by decide) ?_
              have hwe : ct_cm g t u v = ct_cm g t u (v + 1) := ct_cm_keep zg zv (by omega) hd
              have hP : va_P D vwCl (wM ob ar dA n (ct_cm g t u (v + 1))) H := by rw [← hwe]; exact hP
              have hD : va_D A (wM ob ar dA n (ct_cm g t u (v + 1))) := by rw [← hwe]; exact hD
              clear hwe
              exact ih2 _ (by rw [za2, fb_sm_succ, ct_cc, show decide (t < g (8 * u + v)) = false from decide_eq_false (by omega)]; rfl) _ _ _ hP hD hS (lv_sub hl [1, 2, 3, 4, 0] rfl)
            · refine lv_iinc (v := nI (acc2 + 1)) (lv' := [(2, .int (nI (acc2 + 1))), (0, .ref (ob)), (1, .int (nI (t))), (3, .int (nI (u))), (4, .int (nI (v)))]) hx hb dX2_cap_43 hl (k := 2) rfl (nI_add acc2 1) (by decide) rfl (fun ls hl => ?_)
              refine lv_aload_n hx hb dX2_cap_46 rfl (lv_at hl 1 rfl) ?_
              refine kt_gM B hK hP rfl 1 (by decide) q149 rfl dX2_cap_47 ?_
              refine lv_bipush (v := nI (8)) hx hb dX2_cap_50 (by decide) ?_
              refine lv_iload_n hx hb dX2_cap_52 rfl (lv_at hl 3 rfl) ?_
              refine kn_imul hx hb dX2_cap_53 ?_
              refine lv_iload hx hb dX2_cap_54 (lv_at hl 4 rfl) ?_
              refine kn_iadd hx hb dX2_cap_56 ?_
              refine lv_iload_n hx hb dX2_cap_57 rfl (lv_at hl 2 rfl) ?_
              refine kt_is (f' := fun iq => nI ((ct_up (ct_cm g t u v) ((8 * u) + v) t) iq)) hx hb hK hP hD hS 1 0 rfl rfl (by omega) (by decide) (ct_updN _ _ _) dX2_cap_58 (fun H locs hP hD hS => ?_)
              have hP : va_P D vwCl (wM ob ar dA n (ct_up (ct_cm g t u v) ((8 * u) + v) t)) H := hP
              have hD : va_D A (wM ob ar dA n (ct_up (ct_cm g t u v) ((8 * u) + v) t)) := hD
              refine lv_aload_n hx hb dX2_cap_59 rfl (lv_at hl 1 rfl) ?_
              refine kt_gM B hK hP rfl 1 (by decide) q149 rfl dX2_cap_60 ?_
              refine lv_bipush (v := nI (8)) hx hb dX2_cap_63 (by decide) ?_
              refine lv_iload hx hb dX2_cap_65 (lv_at hl 4 rfl) ?_
              refine kn_imul hx hb dX2_cap_67 ?_
              refine lv_iload_n hx hb dX2_cap_68 rfl (lv_at hl 3 rfl) ?_
              refine kn_iadd hx hb dX2_cap_69 ?_
              refine lv_iload_n hx hb dX2_cap_70 rfl (lv_at hl 2 rfl) ?_
              refine kt_is (f' := fun iq => nI ((ct_up (ct_up (ct_cm g t u v) ((8 * u) + v) t) ((8 * v) + u) t) iq)) hx hb hK hP hD hS 1 0 rfl rfl (by omega) (by decide) (ct_updN _ _ _) dX2_cap_71 (fun H locs hP hD hS => ?_)
              have hP : va_P D vwCl (wM ob ar dA n (ct_up (ct_up (ct_cm g t u v) ((8 * u) + v) t) ((8 * v) + u) t)) H := hP
              have hD : va_D A (wM ob ar dA n (ct_up (ct_up (ct_cm g t u v) ((8 * u) + v) t) ((8 * v) + u) t)) := hD
              have hwe : ct_up (ct_up (ct_cm g t u v) ((8 * u) + v) t) ((8 * v) + u) t = ct_cm g t u (v + 1) := ct_cm_put zg zv (by omega) hd
              have hP : va_P D vwCl (wM ob ar dA n (ct_cm g t u (v + 1))) H := by rw [← hwe]; exact hP
              have hD : va_D A (wM ob ar dA n (ct_cm g t u (v + 1))) := by rw [← hwe]; exact hD
              clear hwe
              refine lv_iinc (v := nI (v + 1)) (lv' := [(4, .int (nI (v + 1))), (2, .int (nI (acc2 + 1))), (0, .ref (ob)), (1, .int (nI (t))), (3, .int (nI (u)))]) hx hb dX2_cap_72 hl (k := 4) rfl (nI_add v 1) (by decide) rfl (fun ls hl => ?_)
              refine lv_goto (tgt := 21) hx hb dX2_cap_75 (by decide) ?_
              exact ih2 _ (by rw [za2, fb_sm_succ, ct_cc, show decide (t < g (8 * u + v)) = true from decide_eq_true hd]; rfl) _ _ _ hP hD hS (lv_sub hl [2, 3, 1, 4, 0] rfl)
        exact inner 0 (Nat.zero_le _) acc rfl _ _ _ hP hD hS (lv_sub hl [1, 2, 3, 4, 0] rfl)
    refine lv_iconst (v := nI (0)) hx hb dX2_cap_6 (by decide) ?_
    refine lv_istore_n (lv' := [(2, .int (nI (0))), (0, .ref (ob)), (1, .int (nI (t)))]) hx hb dX2_cap_7 rfl hl (by decide) rfl (fun ls hl => ?_)
    refine lv_iconst (v := nI (0)) hx hb dX2_cap_8 (by decide) ?_
    refine lv_istore_n (lv' := [(3, .int (nI (0))), (2, .int (nI (0))), (0, .ref (ob)), (1, .int (nI (t)))]) hx hb dX2_cap_9 rfl hl (by decide) rfl (fun ls hl => ?_)
    have hwe : g = ct_cm g t 0 0 := ct_cm_0 g t
    have hP : va_P D vwCl (wM ob ar dA n (ct_cm g t 0 0)) H := by rw [← hwe]; exact hP
    have hD : va_D A (wM ob ar dA n (ct_cm g t 0 0)) := by rw [← hwe]; exact hD
    clear hwe
    exact outer 0 (Nat.zero_le _) 0 rfl _ _ _ hP hD hS (lv_sub hl [2, 3, 1, 0] rfl)
end
section
/-! ===== the constructors ===== -/
theorem ct_newz (cA : ClassId) : vp_cell cA (64, .inl (fun i => ct_z ((fun _ => 0) i))) = arrV cA 64 (fun _ => defaultValue .int) := by
  have h : ct_z 0 = 0 := by decide
  rw [vp_cell_i]
  simp only [h]
  rfl
/-- how many points -/
def ct_n (x : Int32) : Nat := if x < 2 then 2 else if x ≤ nI 8 then x.toNatClampNeg else 8
theorem ct_n_1 {x : Int32} (h : ¬ nI 2 ≤ x) : nI 2 = nI (ct_n x) := by
  have h2 : x < 2 := by
    have := fa_of_nle h
    exact this
  rw [ct_n, if_pos h2]
theorem ct_n_not {x : Int32} (h : nI 2 ≤ x) : ¬ x < 2 := by
  intro q
  exact (fa_of_lt q).2.1 h
theorem ct_n_2 {x : Int32} (h : nI 2 ≤ x) (h2 : ¬ x ≤ nI 8) : nI 8 = nI (ct_n x) := by rw [ct_n, if_neg (ct_n_not h), if_neg h2]
theorem ct_n_3 {x : Int32} (h : nI 2 ≤ x) (h2 : x ≤ nI 8) : x = nI (ct_n x) := by
  rw [ct_n, if_neg (ct_n_not h), if_pos h2]
  have h0 : ¬ x < 0 := fun q => (fa_of_lt q).2.1 (by rw [fa_le] at h ⊢; rw [Int32.toInt_zero]; have : (nI 2).toInt = 2 := by decide
                                                     omega)
  obtain ⟨j, hj, rfl⟩ := nI_of h0
  rw [nI_clamp hj]
theorem ct_n_rng (x : Int32) : 2 ≤ ct_n x ∧ ct_n x ≤ 8 := by
  unfold ct_n
  by_cases h : x < 2
  · rw [if_pos h]; omega
  · rw [if_neg h]
    by_cases h2 : x ≤ nI 8
    · rw [if_pos h2]
      have h3 : (2 : Int32) ≤ x := fa_of_nlt h
      have h0 : ¬ x < 0 := fun q => by
        rw [fa_lt] at q; rw [fa_le] at h3
        have e1 : (2 : Int32).toInt = 2 := by decide
        have e2 : (0 : Int32).toInt = 0 := by decide
        omega
      obtain ⟨j, hj, rfl⟩ := nI_of h0
      rw [nI_clamp hj]
      have a := (nI_leI (a := 2) (b := j) (by decide) hj).mp h3
      have b := (nI_leI (a := j) (b := 8) hj (by decide)).mp h2
      omega
    · rw [if_neg h2]; omega
set_option maxHeartbeats 4000000 in
set_option maxRecDepth 100000 in
theorem mM_init (l : Launch) (D : va_G) (ob : Nat) (x : Int32) (sz : Nat) : Met l yX2_init (ws_ yX2_init cX2_init 2 none) { frames := 1, cells := 1, slots := 64, locals := 12 } (va_Pc [.ref ob, .int x] (fun U => U.heap.size = sz ∧ va_P D vwCl [(ob, .inr (1, [.int 0, .null]))] U.heap ∧ va_K D vwCl [] U ∧ va_D (fun _ => True) [(ob, .inr (1, [.int 0, .null]))])) (va_Qv (fun u : Nat × ClassId => True) (fun u t => va_P D vwCl (wM ob u.1 u.2 (ct_n x) (fun _ => 0)) t.heap ∧ va_K D vwCl (tyM u.2) t ∧ va_D (va_A [(ob, .inr (1, [.int 0, .null]))] sz) (wM ob u.1 u.2 (ct_n x) (fun _ => 0))) (va_A [(ob, .inr (1, [.int 0, .null]))] sz)) 1 64 (va_A [(ob, .inr (1, [.int 0, .null]))] sz) := by
  refine Met.ofW (cc := cX2_init) (maxL := 2) (ret := none) (by decide) rfl ?_
  intro p e s m args below meth c s₁ B hml hv
  obtain ⟨rfl, hsz, hP, hK, hD0⟩ := hv
  have hx := B.exec
  have hb := B.bytes
  have hr := B.returns
  have hts := atoms_spec (ws := ws_ yX2_init cX2_init 2 none) B.pre
  have hts : ∀ w ∈ lw_all, w.before _ s = true := fun w h => hts w (List.mem_cons_of_mem _ h)
  have hown : s.vm.findClass RX2 = some m.cls := findClass_of_methodNamed B.named
  have hin : meth.name = "<init>" := (name_of_methodNamed B.named B.method).1
  subst hsz
  have hD := hD0.self (sz := s.heap.size)
  generalize hAe : va_A [(ob, .inr (1, [.int 0, .null]))] s.heap.size = A at hD ⊢
  have hA : ∀ q : Nat, s.heap.size ≤ q → A q := fun q h => by rw [← hAe]; exact Or.inr h
  have hS : va_S A s.heap s.heap [] := va_S.rf
  have hl := lv_entry ([.ref ob, .int x]) (n := 2) (Nat.le_of_ble_eq_true rfl)
  rw [lg_entry_eq]
  generalize (lg_sl ([.ref ob, .int x]) ++ List.replicate (2 - (lg_sl ([.ref ob, .int x])).length) Slot.unset).toArray = ls at hl ⊢
  have hl : lv_has ls 2 [(0, .ref ob), (1, .int x)] := hl
  refine lv_aload_n hx hb dX2_init_0 rfl (lv_at hl 0 rfl) ?_
  refine W.objInit hx hb hown (hts _ q147) (hts _ q26) (hts _ q27) rfl (by rw [hml]; exact hl.1) rfl dX2_init_1 (Nat.le_of_ble_eq_true rfl) (Nat.le_of_ble_eq_true rfl) ?_
  refine W.eq (g2 := F0 m 4 ls []) rfl ?_
  refine lv_aload_n hx hb dX2_init_4 rfl (lv_at hl 0 rfl) ?_
  refine lv_bipush (v := nI 64) hx hb dX2_init_5 (by decide) ?_
  refine va_newa (atype := .int) (ty := .int) (N' := 64) (a0 := (64, .inl (fun i => nI ((fun _ => 0) i)))) hx hb (hts _ q57) rfl hK hP hD hS hA (fun cA => rfl) (nI_pos (by decide)) (nI_clamp (by decide)) (Nat.le_of_ble_eq_true rfl) (Nat.le_of_ble_eq_true rfl) (Nat.le_of_ble_eq_true rfl) dX2_init_7 (fun q1 d1 H hK hP hD hS => ?_)
  have hP : va_P D vwCl [(ob, .inr (1, [.int 0, .null])), (q1, .inl (d1, 64, .inl (fun i => nI ((fun _ => 0) i))))] H := hP
  have hD : va_D A [(ob, .inr (1, [.int 0, .null])), (q1, .inl (d1, 64, .inl (fun i => nI ((fun _ => 0) i))))] := hD
  have hK : va_K D vwCl [(d1, .int)] s := hK
  refine W.widen (k := 1) (n := 64) (Nat.le_of_ble_eq_true rfl) (Nat.le_of_ble_eq_true rfl) ?_
  refine va_put (D := D) (ci := 1) (v := .ref q1) (ty := .array .int) (C := RX2) (T := TX2) (N := 2) hx hb hts in_X2 tyX2 tyX2_ok nmX2 hown hK hP hD hS 0 rfl rfl 1 (by decide) (hts _ q149) (fun _ h9 => h9) rfl (by decide +kernel) rfl rfl (Nat.le_of_ble_eq_true rfl) dX2_init_9 (fun H locs hP hD hS => ?_)
  have hP : va_P D vwCl [(ob, .inr (1, [.int 0, .ref q1])), (q1, .inl (d1, 64, .inl (fun i => nI ((fun _ => 0) i))))] H := hP
  have hD : va_D A [(ob, .inr (1, [.int 0, .ref q1])), (q1, .inl (d1, 64, .inl (fun i => nI ((fun _ => 0) i))))] := hD
  refine lv_aload_n hx hb dX2_init_12 rfl (lv_at hl 0 rfl) ?_
  refine lv_iload_n hx hb dX2_init_13 rfl (lv_at hl 1 rfl) ?_
  refine lv_iconst (v := nI 2) hx hb dX2_init_14 (by decide) ?_
  refine lv_icmp_ge (tgt := 22) hx hb dX2_init_15 (by decide) (fun h1 => ?_) (fun h1 => ?_)
  · refine lv_iload_n hx hb dX2_init_22 rfl (lv_at hl 1 rfl) ?_
    refine lv_bipush (v := nI 8) hx hb dX2_init_23 (by decide) ?_
    refine lv_icmp_le (tgt := 33) hx hb dX2_init_25 (by decide) (fun h2 => ?_) (fun h2 => ?_)
    · refine lv_iload_n hx hb dX2_init_33 rfl (lv_at hl 1 rfl) ?_
      refine kt_e (ct_n_3 h1 h2) ?_
      refine va_put (D := D) (ci := 1) (v := .int (nI (ct_n x))) (ty := .int) (C := RX2) (T := TX2) (N := 2) hx hb hts in_X2 tyX2 tyX2_ok nmX2 hown hK hP hD hS 0 rfl rfl 0 (by decide) (hts _ q148) (fun _ h9 => h9) rfl (by decide +kernel) rfl rfl (Nat.le_of_ble_eq_true rfl) dX2_init_34 (fun H locs hP hD hS => ?_)
      exact W.vret hx hb hr (fun t ht hW => ⟨⟨(q1, d1), rfl, trivial, by rw [ht]; exact hP, va_K.moved hW.alike hK, hD⟩, hS.F ht⟩) hS.2.2 dX2_init_37 B.notSynchronized
    · refine lv_bipush (v := nI 8) hx hb dX2_init_28 (by decide) ?_
      refine lv_goto (tgt := 34) hx hb dX2_init_30 (by decide) ?_
      refine kt_e (ct_n_2 h1 h2) ?_
      refine va_put (D := D) (ci := 1) (v := .int (nI (ct_n x))) (ty := .int) (C := RX2) (T := TX2) (N := 2) hx hb hts in_X2 tyX2 tyX2_ok nmX2 hown hK hP hD hS 0 rfl rfl 0 (by decide) (hts _ q148) (fun _ h9 => h9) rfl (by decide +kernel) rfl rfl (Nat.le_of_ble_eq_true rfl) dX2_init_34 (fun H locs hP hD hS => ?_)
      exact W.vret hx hb hr (fun t ht hW => ⟨⟨(q1, d1), rfl, trivial, by rw [ht]; exact hP, va_K.moved hW.alike hK, hD⟩, hS.F ht⟩) hS.2.2 dX2_init_37 B.notSynchronized
  · refine lv_iconst (v := nI 2) hx hb dX2_init_18 (by decide) ?_
    refine lv_goto (tgt := 34) hx hb dX2_init_19 (by decide) ?_
    refine kt_e (ct_n_1 h1) ?_
    refine va_put (D := D) (ci := 1) (v := .int (nI (ct_n x))) (ty := .int) (C := RX2) (T := TX2) (N := 2) hx hb hts in_X2 tyX2 tyX2_ok nmX2 hown hK hP hD hS 0 rfl rfl 0 (by decide) (hts _ q148) (fun _ h9 => h9) rfl (by decide +kernel) rfl rfl (Nat.le_of_ble_eq_true rfl) dX2_init_34 (fun H locs hP hD hS => ?_)
    exact W.vret hx hb hr (fun t ht hW => ⟨⟨(q1, d1), rfl, trivial, by rw [ht]; exact hP, va_K.moved hW.alike hK, hD⟩, hS.F ht⟩) hS.2.2 dX2_init_37 B.notSynchronized
end
section
set_option maxHeartbeats 400000 in
set_option maxRecDepth 100000 in
theorem mT_init (l : Launch) (D : va_G) (ob : Nat) (x : Int32) (sz : Nat) : Met l yX1_init (ws_ yX1_init cX1_init 2 none) { frames := 1, cells := 6, slots := 160, locals := 12 } (va_Pc [.ref ob, .int x] (fun U => U.heap.size = sz ∧ va_P D vwCl [(ob, .inr (0, [.int 0, .null, .null, .null, .null, .int 0, .int 0, .null, .null]))] U.heap ∧ va_K D vwCl [] U ∧ va_D (fun _ => True) [(ob, .inr (0, [.int 0, .null, .null, .null, .null, .int 0, .int 0, .null, .null]))])) (va_Qv (fun u : (Nat → Nat) × (Nat → ClassId) => u.1 0 = ob) (fun u t => va_P D vwCl (wT u.1 u.2 (ct_n x) (fun _ => 0) (fun _ => 0) (fun _ => 0) (fun _ => 0) 0 0 (fun _ => 0) (fun _ => 0)) t.heap ∧ va_K D vwCl (tyT u.2) t ∧ va_D (va_A [(ob, .inr (0, [.int 0, .null, .null, .null, .null, .int 0, .int 0, .null, .null]))] sz) (wT u.1 u.2 (ct_n x) (fun _ => 0) (fun _ => 0) (fun _ => 0) (fun _ => 0) 0 0 (fun _ => 0) (fun _ => 0))) (va_A [(ob, .inr (0, [.int 0, .null, .null, .null, .null, .int 0, .int 0, .null, .null]))] sz)) 6 160 (va_A [(ob, .inr (0, [.int 0, .null, .null, .null, .null, .int 0, .int 0, .null, .null]))] sz) := by
  refine Met.ofW (cc := cX1_init) (maxL := 2) (ret := none) (by decide) rfl ?_
  intro p e s m args below meth c s₁ B hml hv
  obtain ⟨rfl, hsz, hP, hK, hD0⟩ := hv
  have hx := B.exec
  have hb := B.bytes
  have hr := B.returns
  have hts := atoms_spec (ws := ws_ yX1_init cX1_init 2 none) B.pre
  have hts : ∀ w ∈ lw_all, w.before _ s = true := fun w h => hts w (List.mem_cons_of_mem _ h)
  have hown : s.vm.findClass RX1 = some m.cls := findClass_of_methodNamed B.named
  have hin : meth.name = "<init>" := (name_of_methodNamed B.named B.method).1
  subst hsz
  have hD := hD0.self (sz := s.heap.size)
  generalize hAe : va_A [(ob, .inr (0, [.int 0, .null, .null, .null, .null, .int 0, .int 0, .null, .null]))] s.heap.size = A at hD ⊢
  have hA : ∀ q : Nat, s.heap.size ≤ q → A q := fun q h => by rw [← hAe]; exact Or.inr h
  have hS : va_S A s.heap s.heap [] := va_S.rf
  have hl := lv_entry ([.ref ob, .int x]) (n := 2) (Nat.le_of_ble_eq_true rfl)
  rw [lg_entry_eq]
  generalize (lg_sl ([.ref ob, .int x]) ++ List.replicate (2 - (lg_sl ([.ref ob, .int x])).length) Slot.unset).toArray = ls at hl ⊢
  have hl : lv_has ls 2 [(0, .ref ob), (1, .int x)] := hl
  refine lv_aload_n hx hb dX1_init_0 rfl (lv_at hl 0 rfl) ?_
  refine W.objInit hx hb hown (hts _ q25) (hts _ q26) (hts _ q27) rfl (by rw [hml]; exact hl.1) rfl dX1_init_1 (Nat.le_of_ble_eq_true rfl) (Nat.le_of_ble_eq_true rfl) ?_
  refine W.eq (g2 := F0 m 4 ls []) rfl ?_
  refine lv_aload_n hx hb dX1_init_4 rfl (lv_at hl 0 rfl) ?_
  refine lv_bipush (v := nI 64) hx hb dX1_init_5 (by decide) ?_
  refine va_newa (atype := .byte) (ty := .byte) (N' := 64) (a0 := (64, .inl (fun i => nI ((fun _ => 0) i)))) hx hb (hts _ q56) rfl hK hP hD hS hA (fun cA => rfl) (nI_pos (by decide)) (nI_clamp (by decide)) (Nat.le_of_ble_eq_true rfl) (Nat.le_of_ble_eq_true rfl) (Nat.le_of_ble_eq_true rfl) dX1_init_7 (fun q1 d1 H hK hP hD hS => ?_)
  have hP : va_P D vwCl [(ob, .inr (0, [.int 0, .null, .null, .null, .null, .int 0, .int 0, .null, .null])), (q1, .inl (d1, 64, .inl (fun i => nI ((fun _ => 0) i))))] H := hP
  have hD : va_D A [(ob, .inr (0, [.int 0, .null, .null, .null, .null, .int 0, .int 0, .null, .null])), (q1, .inl (d1, 64, .inl (fun i => nI ((fun _ => 0) i))))] := hD
  have hK : va_K D vwCl [(d1, .byte)] s := hK
  refine W.widen (k := 1) (n := 64) (Nat.le_of_ble_eq_true rfl) (Nat.le_of_ble_eq_true rfl) ?_
  refine va_putF (D := D) (ci := 0) (v := .ref q1) (ty := .array .byte) (C := RX1) (T := TX1) (N := 9) hx hb hts in_X1 tyX1 tyX1_ok nmX1 hown hK hP hD hS 0 rfl rfl 1 (by decide) (hts _ q29) (fun _ h9 => h9) rfl hin rfl (by decide +kernel) rfl rfl (Nat.le_of_ble_eq_true rfl) dX1_init_9 (fun H locs hP hD hS => ?_)
  have hP : va_P D vwCl [(ob, .inr (0, [.int 0, .ref q1, .null, .null, .null, .int 0, .int 0, .null, .null])), (q1, .inl (d1, 64, .inl (fun i => nI ((fun _ => 0) i))))] H := hP
  have hD : va_D A [(ob, .inr (0, [.int 0, .ref q1, .null, .null, .null, .int 0, .int 0, .null, .null])), (q1, .inl (d1, 64, .inl (fun i => nI ((fun _ => 0) i))))] := hD
  refine lv_aload_n hx hb dX1_init_12 rfl (lv_at hl 0 rfl) ?_
  refine lv_bipush (v := nI 64) hx hb dX1_init_13 (by decide) ?_
  refine va_newa (atype := .int) (ty := .int) (N' := 64) (a0 := (64, .inl (fun i => ct_z ((fun _ => 0) i)))) hx hb (hts _ q57) rfl hK hP hD hS hA (fun cA => ct_newz cA) (nI_pos (by decide)) (nI_clamp (by decide)) (Nat.le_of_ble_eq_true rfl) (Nat.le_of_ble_eq_true rfl) (Nat.le_of_ble_eq_true rfl) dX1_init_15 (fun q2 d2 H hK hP hD hS => ?_)
  have hP : va_P D vwCl [(ob, .inr (0, [.int 0, .ref q1, .null, .null, .null, .int 0, .int 0, .null, .null])), (q1, .inl (d1, 64, .inl (fun i => nI ((fun _ => 0) i)))), (q2, .inl (d2, 64, .inl (fun i => ct_z ((fun _ => 0) i))))] H := hP
  have hD : va_D A [(ob, .inr (0, [.int 0, .ref q1, .null, .null, .null, .int 0, .int 0, .null, .null])), (q1, .inl (d1, 64, .inl (fun i => nI ((fun _ => 0) i)))), (q2, .inl (d2, 64, .inl (fun i => ct_z ((fun _ => 0) i))))] := hD
  have hK : va_K D vwCl [(d1, .byte), (d2, .int)] s := hK
  refine W.widen (k := 2) (n := 128) (Nat.le_of_ble_eq_true rfl) (Nat.le_of_ble_eq_true rfl) ?_
  refine va_putF (D := D) (ci := 0) (v := .ref q2) (ty := .array .int) (C := RX1) (T := TX1) (N := 9) hx hb hts in_X1 tyX1 tyX1_ok nmX1 hown hK hP hD hS 0 rfl rfl 2 (by decide) (hts _ q30) (fun _ h9 => h9) rfl hin rfl (by decide +kernel) rfl rfl (Nat.le_of_ble_eq_true rfl) dX1_init_17 (fun H locs hP hD hS => ?_)
  have hP : va_P D vwCl [(ob, .inr (0, [.int 0, .ref q1, .ref q2, .null, .null, .int 0, .int 0, .null, .null])), (q1, .inl (d1, 64, .inl (fun i => nI ((fun _ => 0) i)))), (q2, .inl (d2, 64, .inl (fun i => ct_z ((fun _ => 0) i))))] H := hP
  have hD : va_D A [(ob, .inr (0, [.int 0, .ref q1, .ref q2, .null, .null, .int 0, .int 0, .null, .null])), (q1, .inl (d1, 64, .inl (fun i => nI ((fun _ => 0) i)))), (q2, .inl (d2, 64, .inl (fun i => ct_z ((fun _ => 0) i))))] := hD
  refine lv_aload_n hx hb dX1_init_20 rfl (lv_at hl 0 rfl) ?_
  refine lv_bipush (v := nI 8) hx hb dX1_init_21 (by decide) ?_
  refine va_newa (atype := .byte) (ty := .byte) (N' := 8) (a0 := (8, .inl (fun i => nI ((fun _ => 0) i)))) hx hb (hts _ q56) rfl hK hP hD hS hA (fun cA => rfl) (nI_pos (by decide)) (nI_clamp (by decide)) (Nat.le_of_ble_eq_true rfl) (Nat.le_of_ble_eq_true rfl) (Nat.le_of_ble_eq_true rfl) dX1_init_23 (fun q3 d3 H hK hP hD hS => ?_)
  have hP : va_P D vwCl [(ob, .inr (0, [.int 0, .ref q1, .ref q2, .null, .null, .int 0, .int 0, .null, .null])), (q1, .inl (d1, 64, .inl (fun i => nI ((fun _ => 0) i)))), (q2, .inl (d2, 64, .inl (fun i => ct_z ((fun _ => 0) i)))), (q3, .inl (d3, 8, .inl (fun i => nI ((fun _ => 0) i))))] H := hP
  have hD : va_D A [(ob, .inr (0, [.int 0, .ref q1, .ref q2, .null, .null, .int 0, .int 0, .null, .null])), (q1, .inl (d1, 64, .inl (fun i => nI ((fun _ => 0) i)))), (q2, .inl (d2, 64, .inl (fun i => ct_z ((fun _ => 0) i)))), (q3, .inl (d3, 8, .inl (fun i => nI ((fun _ => 0) i))))] := hD
  have hK : va_K D vwCl [(d1, .byte), (d2, .int), (d3, .byte)] s := hK
  refine W.widen (k := 3) (n := 136) (Nat.le_of_ble_eq_true rfl) (Nat.le_of_ble_eq_true rfl) ?_
  refine va_putF (D := D) (ci := 0) (v := .ref q3) (ty := .array .byte) (C := RX1) (T := TX1) (N := 9) hx hb hts in_X1 tyX1 tyX1_ok nmX1 hown hK hP hD hS 0 rfl rfl 3 (by decide) (hts _ q31) (fun _ h9 => h9) rfl hin rfl (by decide +kernel) rfl rfl (Nat.le_of_ble_eq_true rfl) dX1_init_25 (fun H locs hP hD hS => ?_)
  have hP : va_P D vwCl [(ob, .inr (0, [.int 0, .ref q1, .ref q2, .ref q3, .null, .int 0, .int 0, .null, .null])), (q1, .inl (d1, 64, .inl (fun i => nI ((fun _ => 0) i)))), (q2, .inl (d2, 64, .inl (fun i => ct_z ((fun _ => 0) i)))), (q3, .inl (d3, 8, .inl (fun i => nI ((fun _ => 0) i))))] H := hP
  have hD : va_D A [(ob, .inr (0, [.int 0, .ref q1, .ref q2, .ref q3, .null, .int 0, .int 0, .null, .null])), (q1, .inl (d1, 64, .inl (fun i => nI ((fun _ => 0) i)))), (q2, .inl (d2, 64, .inl (fun i => ct_z ((fun _ => 0) i)))), (q3, .inl (d3, 8, .inl (fun i => nI ((fun _ => 0) i))))] := hD
  refine lv_aload_n hx hb dX1_init_28 rfl (lv_at hl 0 rfl) ?_
  refine lv_bipush (v := nI 8) hx hb dX1_init_29 (by decide) ?_
  refine va_newa (atype := .byte) (ty := .byte) (N' := 8) (a0 := (8, .inl (fun i => nI ((fun _ => 0) i)))) hx hb (hts _ q56) rfl hK hP hD hS hA (fun cA => rfl) (nI_pos (by decide)) (nI_clamp (by decide)) (Nat.le_of_ble_eq_true rfl) (Nat.le_of_ble_eq_true rfl) (Nat.le_of_ble_eq_true rfl) dX1_init_31 (fun q4 d4 H hK hP hD hS => ?_)
  have hP : va_P D vwCl [(ob, .inr (0, [.int 0, .ref q1, .ref q2, .ref q3, .null, .int 0, .int 0, .null, .null])), (q1, .inl (d1, 64, .inl (fun i => nI ((fun _ => 0) i)))), (q2, .inl (d2, 64, .inl (fun i => ct_z ((fun _ => 0) i)))), (q3, .inl (d3, 8, .inl (fun i => nI ((fun _ => 0) i)))), (q4, .inl (d4, 8, .inl (fun i => nI ((fun _ => 0) i))))] H := hP
  have hD : va_D A [(ob, .inr (0, [.int 0, .ref q1, .ref q2, .ref q3, .null, .int 0, .int 0, .null, .null])), (q1, .inl (d1, 64, .inl (fun i => nI ((fun _ => 0) i)))), (q2, .inl (d2, 64, .inl (fun i => ct_z ((fun _ => 0) i)))), (q3, .inl (d3, 8, .inl (fun i => nI ((fun _ => 0) i)))), (q4, .inl (d4, 8, .inl (fun i => nI ((fun _ => 0) i))))] := hD
  have hK : va_K D vwCl [(d1, .byte), (d2, .int), (d3, .byte), (d4, .byte)] s := hK
  refine W.widen (k := 4) (n := 144) (Nat.le_of_ble_eq_true rfl) (Nat.le_of_ble_eq_true rfl) ?_
  refine va_putF (D := D) (ci := 0) (v := .ref q4) (ty := .array .byte) (C := RX1) (T := TX1) (N := 9) hx hb hts in_X1 tyX1 tyX1_ok nmX1 hown hK hP hD hS 0 rfl rfl 4 (by decide) (hts _ q32) (fun _ h9 => h9) rfl hin rfl (by decide +kernel) rfl rfl (Nat.le_of_ble_eq_true rfl) dX1_init_33 (fun H locs hP hD hS => ?_)
  have hP : va_P D vwCl [(ob, .inr (0, [.int 0, .ref q1, .ref q2, .ref q3, .ref q4, .int 0, .int 0, .null, .null])), (q1, .inl (d1, 64, .inl (fun i => nI ((fun _ => 0) i)))), (q2, .inl (d2, 64, .inl (fun i => ct_z ((fun _ => 0) i)))), (q3, .inl (d3, 8, .inl (fun i => nI ((fun _ => 0) i)))), (q4, .inl (d4, 8, .inl (fun i => nI ((fun _ => 0) i))))] H := hP
  have hD : va_D A [(ob, .inr (0, [.int 0, .ref q1, .ref q2, .ref q3, .ref q4, .int 0, .int 0, .null, .null])), (q1, .inl (d1, 64, .inl (fun i => nI ((fun _ => 0) i)))), (q2, .inl (d2, 64, .inl (fun i => ct_z ((fun _ => 0) i)))), (q3, .inl (d3, 8, .inl (fun i => nI ((fun _ => 0) i)))), (q4, .inl (d4, 8, .inl (fun i => nI ((fun _ => 0) i))))] := hD
  refine lv_aload_n hx hb dX1_init_36 rfl (lv_at hl 0 rfl) ?_
  refine lv_bipush (v := nI 8) hx hb dX1_init_37 (by decide) ?_
  refine va_newa (atype := .byte) (ty := .byte) (N' := 8) (a0 := (8, .inl (fun i => nI ((fun _ => 0) i)))) hx hb (hts _ q56) rfl hK hP hD hS hA (fun cA => rfl) (nI_pos (by decide)) (nI_clamp (by decide)) (Nat.le_of_ble_eq_true rfl) (Nat.le_of_ble_eq_true rfl) (Nat.le_of_ble_eq_true rfl) dX1_init_39 (fun q5 d5 H hK hP hD hS => ?_)
  have hP : va_P D vwCl [(ob, .inr (0, [.int 0, .ref q1, .ref q2, .ref q3, .ref q4, .int 0, .int 0, .null, .null])), (q1, .inl (d1, 64, .inl (fun i => nI ((fun _ => 0) i)))), (q2, .inl (d2, 64, .inl (fun i => ct_z ((fun _ => 0) i)))), (q3, .inl (d3, 8, .inl (fun i => nI ((fun _ => 0) i)))), (q4, .inl (d4, 8, .inl (fun i => nI ((fun _ => 0) i)))), (q5, .inl (d5, 8, .inl (fun i => nI ((fun _ => 0) i))))] H := hP
  have hD : va_D A [(ob, .inr (0, [.int 0, .ref q1, .ref q2, .ref q3, .ref q4, .int 0, .int 0, .null, .null])), (q1, .inl (d1, 64, .inl (fun i => nI ((fun _ => 0) i)))), (q2, .inl (d2, 64, .inl (fun i => ct_z ((fun _ => 0) i)))), (q3, .inl (d3, 8, .inl (fun i => nI ((fun _ => 0) i)))), (q4, .inl (d4, 8, .inl (fun i => nI ((fun _ => 0) i)))), (q5, .inl (d5, 8, .inl (fun i => nI ((fun _ => 0) i))))] := hD
  have hK : va_K D vwCl [(d1, .byte), (d2, .int), (d3, .byte), (d4, .byte), (d5, .byte)] s := hK
  refine W.widen (k := 5) (n := 152) (Nat.le_of_ble_eq_true rfl) (Nat.le_of_ble_eq_true rfl) ?_
  refine va_putF (D := D) (ci := 0) (v := .ref q5) (ty := .array .byte) (C := RX1) (T := TX1) (N := 9) hx hb hts in_X1 tyX1 tyX1_ok nmX1 hown hK hP hD hS 0 rfl rfl 7 (by decide) (hts _ q35) (fun _ h9 => h9) rfl hin rfl (by decide +kernel) rfl rfl (Nat.le_of_ble_eq_true rfl) dX1_init_41 (fun H locs hP hD hS => ?_)
  have hP : va_P D vwCl [(ob, .inr (0, [.int 0, .ref q1, .ref q2, .ref q3, .ref q4, .int 0, .int 0, .ref q5, .null])), (q1, .inl (d1, 64, .inl (fun i => nI ((fun _ => 0) i)))), (q2, .inl (d2, 64, .inl (fun i => ct_z ((fun _ => 0) i)))), (q3, .inl (d3, 8, .inl (fun i => nI ((fun _ => 0) i)))), (q4, .inl (d4, 8, .inl (fun i => nI ((fun _ => 0) i)))), (q5, .inl (d5, 8, .inl (fun i => nI ((fun _ => 0) i))))] H := hP
  have hD : va_D A [(ob, .inr (0, [.int 0, .ref q1, .ref q2, .ref q3, .ref q4, .int 0, .int 0, .ref q5, .null])), (q1, .inl (d1, 64, .inl (fun i => nI ((fun _ => 0) i)))), (q2, .inl (d2, 64, .inl (fun i => ct_z ((fun _ => 0) i)))), (q3, .inl (d3, 8, .inl (fun i => nI ((fun _ => 0) i)))), (q4, .inl (d4, 8, .inl (fun i => nI ((fun _ => 0) i)))), (q5, .inl (d5, 8, .inl (fun i => nI ((fun _ => 0) i))))] := hD
  refine lv_aload_n hx hb dX1_init_44 rfl (lv_at hl 0 rfl) ?_
  refine lv_bipush (v := nI 8) hx hb dX1_init_45 (by decide) ?_
  refine va_newa (atype := .int) (ty := .int) (N' := 8) (a0 := (8, .inl (fun i => nI ((fun _ => 0) i)))) hx hb (hts _ q57) rfl hK hP hD hS hA (fun cA => rfl) (nI_pos (by decide)) (nI_clamp (by decide)) (Nat.le_of_ble_eq_true rfl) (Nat.le_of_ble_eq_true rfl) (Nat.le_of_ble_eq_true rfl) dX1_init_47 (fun q6 d6 H hK hP hD hS => ?_)
  have hP : va_P D vwCl [(ob, .inr (0, [.int 0, .ref q1, .ref q2, .ref q3, .ref q4, .int 0, .int 0, .ref q5, .null])), (q1, .inl (d1, 64, .inl (fun i => nI ((fun _ => 0) i)))), (q2, .inl (d2, 64, .inl (fun i => ct_z ((fun _ => 0) i)))), (q3, .inl (d3, 8, .inl (fun i => nI ((fun _ => 0) i)))), (q4, .inl (d4, 8, .inl (fun i => nI ((fun _ => 0) i)))), (q5, .inl (d5, 8, .inl (fun i => nI ((fun _ => 0) i)))), (q6, .inl (d6, 8, .inl (fun i => nI ((fun _ => 0) i))))] H := hP
  have hD : va_D A [(ob, .inr (0, [.int 0, .ref q1, .ref q2, .ref q3, .ref q4, .int 0, .int 0, .ref q5, .null])), (q1, .inl (d1, 64, .inl (fun i => nI ((fun _ => 0) i)))), (q2, .inl (d2, 64, .inl (fun i => ct_z ((fun _ => 0) i)))), (q3, .inl (d3, 8, .inl (fun i => nI ((fun _ => 0) i)))), (q4, .inl (d4, 8, .inl (fun i => nI ((fun _ => 0) i)))), (q5, .inl (d5, 8, .inl (fun i => nI ((fun _ => 0) i)))), (q6, .inl (d6, 8, .inl (fun i => nI ((fun _ => 0) i))))] := hD
  have hK : va_K D vwCl [(d1, .byte), (d2, .int), (d3, .byte), (d4, .byte), (d5, .byte), (d6, .int)] s := hK
  refine W.widen (k := 6) (n := 160) (Nat.le_of_ble_eq_true rfl) (Nat.le_of_ble_eq_true rfl) ?_
  refine va_putF (D := D) (ci := 0) (v := .ref q6) (ty := .array .int) (C := RX1) (T := TX1) (N := 9) hx hb hts in_X1 tyX1 tyX1_ok nmX1 hown hK hP hD hS 0 rfl rfl 8 (by decide) (hts _ q36) (fun _ h9 => h9) rfl hin rfl (by decide +kernel) rfl rfl (Nat.le_of_ble_eq_true rfl) dX1_init_49 (fun H locs hP hD hS => ?_)
  have hP : va_P D vwCl [(ob, .inr (0, [.int 0, .ref q1, .ref q2, .ref q3, .ref q4, .int 0, .int 0, .ref q5, .ref q6])), (q1, .inl (d1, 64, .inl (fun i => nI ((fun _ => 0) i)))), (q2, .inl (d2, 64, .inl (fun i => ct_z ((fun _ => 0) i)))), (q3, .inl (d3, 8, .inl (fun i => nI ((fun _ => 0) i)))), (q4, .inl (d4, 8, .inl (fun i => nI ((fun _ => 0) i)))), (q5, .inl (d5, 8, .inl (fun i => nI ((fun _ => 0) i)))), (q6, .inl (d6, 8, .inl (fun i => nI ((fun _ => 0) i))))] H := hP
  have hD : va_D A [(ob, .inr (0, [.int 0, .ref q1, .ref q2, .ref q3, .ref q4, .int 0, .int 0, .ref q5, .ref q6])), (q1, .inl (d1, 64, .inl (fun i => nI ((fun _ => 0) i)))), (q2, .inl (d2, 64, .inl (fun i => ct_z ((fun _ => 0) i)))), (q3, .inl (d3, 8, .inl (fun i => nI ((fun _ => 0) i)))), (q4, .inl (d4, 8, .inl (fun i => nI ((fun _ => 0) i)))), (q5, .inl (d5, 8, .inl (fun i => nI ((fun _ => 0) i)))), (q6, .inl (d6, 8, .inl (fun i => nI ((fun _ => 0) i))))] := hD
  refine lv_aload_n hx hb dX1_init_52 rfl (lv_at hl 0 rfl) ?_
  refine lv_iload_n hx hb dX1_init_53 rfl (lv_at hl 1 rfl) ?_
  refine lv_iconst (v := nI 2) hx hb dX1_init_54 (by decide) ?_
  refine lv_icmp_ge (tgt := 62) hx hb dX1_init_55 (by decide) (fun h1 => ?_) (fun h1 => ?_)
  · refine lv_iload_n hx hb dX1_init_62 rfl (lv_at hl 1 rfl) ?_
    refine lv_bipush (v := nI 8) hx hb dX1_init_63 (by decide) ?_
    refine lv_icmp_le (tgt := 73) hx hb dX1_init_65 (by decide) (fun h2 => ?_) (fun h2 => ?_)
    · refine lv_iload_n hx hb dX1_init_73 rfl (lv_at hl 1 rfl) ?_
      refine kt_e (ct_n_3 h1 h2) ?_
      refine va_put (D := D) (ci := 0) (v := .int (nI (ct_n x))) (ty := .int) (C := RX1) (T := TX1) (N := 9) hx hb hts in_X1 tyX1 tyX1_ok nmX1 hown hK hP hD hS 0 rfl rfl 0 (by decide) (hts _ q28) (fun _ h9 => h9) rfl (by decide +kernel) rfl rfl (Nat.le_of_ble_eq_true rfl) dX1_init_74 (fun H locs hP hD hS => ?_)
      exact W.vret hx hb hr (fun t ht hW => ⟨⟨(fun k => match k with | 0 => ob | 1 => q1 | 2 => q2 | 3 => q3 | 4 => q4 | 5 => q5 | _ => q6, fun k => match k with | 1 => d1 | 2 => d2 | 3 => d3 | 4 => d4 | 5 => d5 | _ => d6), rfl, rfl, by rw [ht]; exact hP, va_K.moved hW.alike hK, hD⟩, hS.F ht⟩) hS.2.2 dX1_init_77 B.notSynchronized
    · refine lv_bipush (v := nI 8) hx hb dX1_init_68 (by decide) ?_
      refine lv_goto (tgt := 74) hx hb dX1_init_70 (by decide) ?_
      refine kt_e (ct_n_2 h1 h2) ?_
      refine va_put (D := D) (ci := 0) (v := .int (nI (ct_n x))) (ty := .int) (C := RX1) (T := TX1) (N := 9) hx hb hts in_X1 tyX1 tyX1_ok nmX1 hown hK hP hD hS 0 rfl rfl 0 (by decide) (hts _ q28) (fun _ h9 => h9) rfl (by decide +kernel) rfl rfl (Nat.le_of_ble_eq_true rfl) dX1_init_74 (fun H locs hP hD hS => ?_)
      exact W.vret hx hb hr (fun t ht hW => ⟨⟨(fun k => match k with | 0 => ob | 1 => q1 | 2 => q2 | 3 => q3 | 4 => q4 | 5 => q5 | _ => q6, fun k => match k with | 1 => d1 | 2 => d2 | 3 => d3 | 4 => d4 | 5 => d5 | _ => d6), rfl, rfl, by rw [ht]; exact hP, va_K.moved hW.alike hK, hD⟩, hS.F ht⟩) hS.2.2 dX1_init_77 B.notSynchronized
  · refine lv_iconst (v := nI 2) hx hb dX1_init_58 (by decide) ?_
    refine lv_goto (tgt := 74) hx hb dX1_init_59 (by decide) ?_
    refine kt_e (ct_n_1 h1) ?_
    refine va_put (D := D) (ci := 0) (v := .int (nI (ct_n x))) (ty := .int) (C := RX1) (T := TX1) (N := 9) hx hb hts in_X1 tyX1 tyX1_ok nmX1 hown hK hP hD hS 0 rfl rfl 0 (by decide) (hts _ q28) (fun _ h9 => h9) rfl (by decide +kernel) rfl rfl (Nat.le_of_ble_eq_true rfl) dX1_init_74 (fun H locs hP hD hS => ?_)
    exact W.vret hx hb hr (fun t ht hW => ⟨⟨(fun k => match k with | 0 => ob | 1 => q1 | 2 => q2 | 3 => q3 | 4 => q4 | 5 => q5 | _ => q6, fun k => match k with | 1 => d1 | 2 => d2 | 3 => d3 | 4 => d4 | 5 => d5 | _ => d6), rfl, rfl, by rw [ht]; exact hP, va_K.moved hW.alike hK, hD⟩, hS.F ht⟩) hS.2.2 dX1_init_77 B.notSynchronized
end
section
/-! ===== the tree's own words ===== -/
/-- 'built' behind connect -/
def ct_cb (n : Nat) (u v w : Int32) (b : Nat) : Nat := if ct_ok n u v w then 0 else b
theorem ct_cb_no {n : Nat} {u v w : Int32} {b : Nat} (h : ct_ok n u v w = false) : b = ct_cb n u v w b := by simp [ct_cb, h]
theorem ct_cb_yes {n : Nat} {u v w : Int32} (b : Nat) (h : ct_ok n u v w = true) : 0 = ct_cb n u v w b := by simp [ct_cb, h]
/-- the tree that is built: what each point hangs on, and with which link -/
def ct_TB (n : Nat) (g ho hb : Nat → Nat) : Prop := ct_T n g ho ∧ ∀ u, 1 ≤ u → u < n → hb u = ct_lam n g u (ho u)
/-- the weakest edge, on the way -/
theorem ct_min_1 {a l m x : Nat} (h1 : a < l) (h : min l (min a m) = x) : min a m = x := by omega
theorem ct_min_2 {a l m x : Nat} (h1 : l ≤ a) (h : min l (min a m) = x) : min l m = x := by omega
end
section
/-! ===== the tree, its small methods ===== -/
set_option maxHeartbeats 4000000 in
set_option maxRecDepth 100000 in
theorem mT_isPoint (l : Launch) (D : va_G) (ad : Nat → Nat) (dd : Nat → ClassId) (n : Nat) (g : Nat → Nat) (f : Nat → Int) (cf qu : Nat → Nat) (R b : Nat) (po pb : Nat → Nat) (u : Int32) : kt_Mi l yX1_isPoint cX1_isPoint 2 .boolean 0 D (tyT dd) (wT ad dd n g f cf qu R b po pb) [.ref (ad 0), .int (u)] (fun r (_ : Unit) => r = nI (ct_bn (ct_ip n u))) (fun _ => wT ad dd n g f cf qu R b po pb) := by
  refine kt_inI (by decide) (Nat.le_of_ble_eq_true rfl) (fun r _ h => ct_bn_narrow h) ?_
  intro p e s m args below meth c A Q H ls B hA hK hP hD hS hl hret
  have B : CallFix p m c cX1_isPoint 2 s args lw_all RX1 := B
  have hx := B.1
  have hb := B.2.1
  have hl : lv_has ls 2 [(0, .ref (ad 0)), (1, .int (u))] := hl
  refine lv_iload_n hx hb dX1_isPoint_0 rfl (lv_at hl 1 rfl) ?_
  refine lv_if_lt (tgt := 16) hx hb dX1_isPoint_1 (by decide)  (fun hc => ?_) (fun hc => ?_)
  · refine lv_iconst (v := nI (0)) hx hb dX1_isPoint_16 (by decide) ?_
    exact hret _ () _ _ _ _ (by rw [ct_ip_lt hc]; rfl) hP hD hS dX1_isPoint_17
  · refine lv_iload_n hx hb dX1_isPoint_4 rfl (lv_at hl 1 rfl) ?_
    refine lv_aload_n hx hb dX1_isPoint_5 rfl (lv_at hl 0 rfl) ?_
    refine kt_gT B hK hP rfl 0 (by decide) q28 rfl dX1_isPoint_6 ?_
    refine lv_icmp_ge (tgt := 16) hx hb dX1_isPoint_9 (by decide)  (fun hd => ?_) (fun hd => ?_)
    · refine lv_iconst (v := nI (0)) hx hb dX1_isPoint_16 (by decide) ?_
      exact hret _ () _ _ _ _ (by rw [ct_ip_ge hd]; rfl) hP hD hS dX1_isPoint_17
    · refine lv_iconst (v := nI (1)) hx hb dX1_isPoint_12 (by decide) ?_
      refine lv_goto (tgt := 17) hx hb dX1_isPoint_13 (by decide) ?_
      exact hret _ () _ _ _ _ (by rw [ct_ip_in hc hd]; rfl) hP hD hS dX1_isPoint_17
set_option maxHeartbeats 4000000 in
set_option maxRecDepth 100000 in
theorem mT_isCouple (l : Launch) (D : va_G) (ad : Nat → Nat) (dd : Nat → ClassId) (n : Nat) (g : Nat → Nat) (f : Nat → Int) (cf qu : Nat → Nat) (R b : Nat) (po pb : Nat → Nat) (u v : Int32) : kt_Mi l yX1_isCouple cX1_isCouple 3 .boolean 1 D (tyT dd) (wT ad dd n g f cf qu R b po pb) [.ref (ad 0), .int (u), .int (v)] (fun r (_ : Unit) => r = nI (ct_bn (ct_ic n u v))) (fun _ => wT ad dd n g f cf qu R b po pb) := by
  refine kt_inI (by decide) (Nat.le_of_ble_eq_true rfl) (fun r _ h => ct_bn_narrow h) ?_
  intro p e s m args below meth c A Q H ls B hA hK hP hD hS hl hret
  have B : CallFix p m c cX1_isCouple 3 s args lw_all RX1 := B
  have hx := B.1
  have hb := B.2.1
  have hl : lv_has ls 3 [(0, .ref (ad 0)), (1, .int (u)), (2, .int (v))] := hl
  refine lv_aload_n hx hb dX1_isCouple_0 rfl (lv_at hl 0 rfl) ?_
  refine lv_iload_n hx hb dX1_isCouple_1 rfl (lv_at hl 1 rfl) ?_
  refine kt_callI (wr := []) (rest := []) B (mT_isPoint l D ad dd n g f cf qu R b po pb u) (cwV 1 B.2.2.2.2 (lw_V q66 q68 qs1 q18 q69) rfl rfl rfl (by decide +kernel) ⟨Nat.le_of_ble_eq_true rfl, Nat.le_of_ble_eq_true rfl⟩) [0, 1, 2, 3, 4, 5, 6] [] [0, 1, 2, 3, 4, 5] rfl rfl rfl rfl rfl (fun _ h _ => absurd h List.not_mem_nil) rfl hA hK hP hD hS (ci := 0) rfl rfl rfl rfl hl.1 rfl (Nat.le_of_ble_eq_true rfl) dX1_isCouple_2 ⟨Nat.le_refl _, Nat.le_refl _⟩ (fun rx ux H locs hw hP hD hS => ?_)
  have hP : va_P D vwCl (wT ad dd n g f cf qu R b po pb) H := hP
  have hD : va_D A (wT ad dd n g f cf qu R b po pb) := hD
  have hw : rx = nI (ct_bn (ct_ip n u)) := hw
  subst hw
  refine kn_if_eq (tgt := 25) hx hb dX1_isCouple_5 (by decide) (ct_bn_lt _) (fun hc => ?_) (fun hc => ?_)
  · refine lv_iconst (v := nI (0)) hx hb dX1_isCouple_25 (by decide) ?_
    exact hret _ () _ _ _ _ (by rw [ct_ic_1 (ct_bn_0 hc)]; rfl) hP hD hS dX1_isCouple_26
  · refine lv_aload_n hx hb dX1_isCouple_8 rfl (lv_at hl 0 rfl) ?_
    refine lv_iload_n hx hb dX1_isCouple_9 rfl (lv_at hl 2 rfl) ?_
    refine kt_callI (wr := []) (rest := []) B (mT_isPoint l D ad dd n g f cf qu R b po pb v) (cwV 1 B.2.2.2.2 (lw_V q66 q68 qs1 q18 q69) rfl rfl rfl (by decide +kernel) ⟨Nat.le_of_ble_eq_true rfl, Nat.le_of_ble_eq_true rfl⟩) [0, 1, 2, 3, 4, 5, 6] [] [0, 1, 2, 3, 4, 5] rfl rfl rfl rfl rfl (fun _ h _ => absurd h List.not_mem_nil) rfl hA hK hP hD hS (ci := 0) rfl rfl rfl rfl hl.1 rfl (Nat.le_of_ble_eq_true rfl) dX1_isCouple_10 ⟨Nat.le_refl _, Nat.le_refl _⟩ (fun rx ux H locs hw hP hD hS => ?_)
    have hP : va_P D vwCl (wT ad dd n g f cf qu R b po pb) H := hP
    have hD : va_D A (wT ad dd n g f cf qu R b po pb) := hD
    have hw : rx = nI (ct_bn (ct_ip n v)) := hw
    subst hw
    refine kn_if_eq (tgt := 25) hx hb dX1_isCouple_13 (by decide) (ct_bn_lt _) (fun hd => ?_) (fun hd => ?_)
    · refine lv_iconst (v := nI (0)) hx hb dX1_isCouple_25 (by decide) ?_
      exact hret _ () _ _ _ _ (by rw [ct_ic_2 (ct_bn_0 hd)]; rfl) hP hD hS dX1_isCouple_26
    · refine lv_iload_n hx hb dX1_isCouple_16 rfl (lv_at hl 1 rfl) ?_
      refine lv_iload_n hx hb dX1_isCouple_17 rfl (lv_at hl 2 rfl) ?_
      refine lv_icmp_eq (tgt := 25) hx hb dX1_isCouple_18 (by decide)  (fun he => ?_) (fun he => ?_)
      · refine lv_iconst (v := nI (0)) hx hb dX1_isCouple_25 (by decide) ?_
        exact hret _ () _ _ _ _ (by rw [ct_ic_3 he]; rfl) hP hD hS dX1_isCouple_26
      · refine lv_iconst (v := nI (1)) hx hb dX1_isCouple_21 (by decide) ?_
        refine lv_goto (tgt := 26) hx hb dX1_isCouple_22 (by decide) ?_
        exact hret _ () _ _ _ _ (by rw [ct_ic_in (ct_bn_1 hc) (ct_bn_1 hd) he]; rfl) hP hD hS dX1_isCouple_26
set_option maxHeartbeats 4000000 in
set_option maxRecDepth 100000 in
theorem mT_connect (l : Launch) (D : va_G) (ad : Nat → Nat) (dd : Nat → ClassId) (n : Nat) (g : Nat → Nat) (f : Nat → Int) (cf qu : Nat → Nat) (R b : Nat) (po pb : Nat → Nat) (zn : n ≤ 8) (u v w : Int32) : kt_Mi l yX1_connect cX1_connect 4 .boolean 2 D (tyT dd) (wT ad dd n g f cf qu R b po pb) [.ref (ad 0), .int (u), .int (v), .int (w)] (fun r (_ : Unit) => r = nI (ct_bn (ct_ok n u v w))) (fun _ => wT ad dd n (ct_cn n g u v w) f cf qu R (ct_cb n u v w b) po pb) := by
  refine kt_inI (by decide) (Nat.le_of_ble_eq_true rfl) (fun r _ h => ct_bn_narrow h) ?_
  intro p e s m args below meth c A Q H ls B hA hK hP hD hS hl hret
  have B : CallFix p m c cX1_connect 4 s args lw_all RX1 := B
  have hx := B.1
  have hb := B.2.1
  have hl : lv_has ls 4 [(0, .ref (ad 0)), (1, .int (u)), (2, .int (v)), (3, .int (w))] := hl
  refine lv_aload_n hx hb dX1_connect_0 rfl (lv_at hl 0 rfl) ?_
  refine lv_iload_n hx hb dX1_connect_1 rfl (lv_at hl 1 rfl) ?_
  refine lv_iload_n hx hb dX1_connect_2 rfl (lv_at hl 2 rfl) ?_
  refine kt_callI (wr := []) (rest := []) B (mT_isCouple l D ad dd n g f cf qu R b po pb u v) (cwV 2 B.2.2.2.2 (lw_V q62 q64 qs0 q18 q65) rfl rfl rfl (by decide +kernel) ⟨Nat.le_of_ble_eq_true rfl, Nat.le_of_ble_eq_true rfl⟩) [0, 1, 2, 3, 4, 5, 6] [] [0, 1, 2, 3, 4, 5] rfl rfl rfl rfl rfl (fun _ h _ => absurd h List.not_mem_nil) rfl hA hK hP hD hS (ci := 0) rfl rfl rfl rfl hl.1 rfl (Nat.le_of_ble_eq_true rfl) dX1_connect_3 ⟨Nat.le_refl _, Nat.le_refl _⟩ (fun rx ux H locs hw hP hD hS => ?_)
  have hP : va_P D vwCl (wT ad dd n g f cf qu R b po pb) H := hP
  have hD : va_D A (wT ad dd n g f cf qu R b po pb) := hD
  have hw : rx = nI (ct_bn (ct_ic n u v)) := hw
  subst hw
  refine kn_if_eq (tgt := 19) hx hb dX1_connect_6 (by decide) (ct_bn_lt _) (fun hc => ?_) (fun hc => ?_)
  · refine lv_iconst (v := nI (0)) hx hb dX1_connect_19 (by decide) ?_
    have hwe : g = ct_cn n g u v w := ct_cn_no (ct_ok_1 (ct_bn_0 hc))
    have hP : va_P D vwCl (wT ad dd n (ct_cn n g u v w) f cf qu R b po pb) H := by rw [← hwe]; exact hP
    have hD : va_D A (wT ad dd n (ct_cn n g u v w) f cf qu R b po pb) := by rw [← hwe]; exact hD
    clear hwe
    have hwe : b = ct_cb n u v w b := ct_cb_no (ct_ok_1 (ct_bn_0 hc))
    have hP : va_P D vwCl (wT ad dd n (ct_cn n g u v w) f cf qu R (ct_cb n u v w b) po pb) H := by rw [← hwe]; exact hP
    have hD : va_D A (wT ad dd n (ct_cn n g u v w) f cf qu R (ct_cb n u v w b) po pb) := by rw [← hwe]; exact hD
    clear hwe
    exact hret _ () _ _ _ _ (by rw [ct_ok_1 (ct_bn_0 hc)]; rfl) hP hD hS dX1_connect_20
  · refine lv_iload_n hx hb dX1_connect_9 rfl (lv_at hl 3 rfl) ?_
    refine lv_if_lt (tgt := 19) hx hb dX1_connect_10 (by decide)  (fun hd => ?_) (fun hd => ?_)
    · refine lv_iconst (v := nI (0)) hx hb dX1_connect_19 (by decide) ?_
      have hwe : g = ct_cn n g u v w := ct_cn_no (ct_ok_2 hd)
      have hP : va_P D vwCl (wT ad dd n (ct_cn n g u v w) f cf qu R b po pb) H := by rw [← hwe]; exact hP
      have hD : va_D A (wT ad dd n (ct_cn n g u v w) f cf qu R b po pb) := by rw [← hwe]; exact hD
      clear hwe
      have hwe : b = ct_cb n u v w b := ct_cb_no (ct_ok_2 hd)
      have hP : va_P D vwCl (wT ad dd n (ct_cn n g u v w) f cf qu R (ct_cb n u v w b) po pb) H := by rw [← hwe]; exact hP
      have hD : va_D A (wT ad dd n (ct_cn n g u v w) f cf qu R (ct_cb n u v w b) po pb) := by rw [← hwe]; exact hD
      clear hwe
      exact hret _ () _ _ _ _ (by rw [ct_ok_2 hd]; rfl) hP hD hS dX1_connect_20
    · refine lv_iload_n hx hb dX1_connect_13 rfl (lv_at hl 3 rfl) ?_
      refine lv_bipush (v := nI (50)) hx hb dX1_connect_14 (by decide) ?_
      refine lv_icmp_le (tgt := 21) hx hb dX1_connect_16 (by decide)  (fun he => ?_) (fun he => ?_)
      · have hok := ct_ok_in (ct_bn_1 hc) hd he
        obtain ⟨i, j, zi, zj, zij, rfl, rfl⟩ := ct_ic_of zn (ct_bn_1 hc)
        obtain ⟨k, zk, rfl⟩ := ct_50 hd he
        refine lv_aload_n hx hb dX1_connect_21 rfl (lv_at hl 0 rfl) ?_
        refine kt_gT B hK hP rfl 1 (by decide) q29 rfl dX1_connect_22 ?_
        refine lv_bipush (v := nI (8)) hx hb dX1_connect_25 (by decide) ?_
        refine lv_iload_n hx hb dX1_connect_27 rfl (lv_at hl 1 rfl) ?_
        refine kn_imul hx hb dX1_connect_28 ?_
        refine lv_iload_n hx hb dX1_connect_29 rfl (lv_at hl 2 rfl) ?_
        refine kn_iadd hx hb dX1_connect_30 ?_
        refine lv_iload_n hx hb dX1_connect_31 rfl (lv_at hl 3 rfl) ?_
        refine kn_i2b hx hb (by omega) dX1_connect_32 ?_
        refine kt_bs (f' := fun iq => nI ((ct_up g ((8 * i) + j) k) iq)) hx hb hK hP hD hS 1 0 rfl rfl (by omega) (by decide) (ct_updB _ _ (by omega)) dX1_connect_33 (fun H locs hP hD hS => ?_)
        have hP : va_P D vwCl (wT ad dd n (ct_up g ((8 * i) + j) k) f cf qu R b po pb) H := hP
        have hD : va_D A (wT ad dd n (ct_up g ((8 * i) + j) k) f cf qu R b po pb) := hD
        refine lv_aload_n hx hb dX1_connect_34 rfl (lv_at hl 0 rfl) ?_
        refine kt_gT B hK hP rfl 1 (by decide) q29 rfl dX1_connect_35 ?_
        refine lv_bipush (v := nI (8)) hx hb dX1_connect_38 (by decide) ?_
        refine lv_iload_n hx hb dX1_connect_40 rfl (lv_at hl 2 rfl) ?_
        refine kn_imul hx hb dX1_connect_41 ?_
        refine lv_iload_n hx hb dX1_connect_42 rfl (lv_at hl 1 rfl) ?_
        refine kn_iadd hx hb dX1_connect_43 ?_
        refine lv_iload_n hx hb dX1_connect_44 rfl (lv_at hl 3 rfl) ?_
        refine kn_i2b hx hb (by omega) dX1_connect_45 ?_
        refine kt_bs (f' := fun iq => nI ((ct_up (ct_up g ((8 * i) + j) k) ((8 * j) + i) k) iq)) hx hb hK hP hD hS 1 0 rfl rfl (by omega) (by decide) (ct_updB _ _ (by omega)) dX1_connect_46 (fun H locs hP hD hS => ?_)
        have hP : va_P D vwCl (wT ad dd n (ct_up (ct_up g ((8 * i) + j) k) ((8 * j) + i) k) f cf qu R b po pb) H := hP
        have hD : va_D A (wT ad dd n (ct_up (ct_up g ((8 * i) + j) k) ((8 * j) + i) k) f cf qu R b po pb) := hD
        refine lv_aload_n hx hb dX1_connect_47 rfl (lv_at hl 0 rfl) ?_
        refine lv_iconst (v := nI (0)) hx hb dX1_connect_48 (by decide) ?_
        refine kt_pT (ty := .boolean) B hK hP hD hS rfl 6 (by decide) q34 rfl (by decide +kernel) rfl rfl (Nat.le_of_ble_eq_true rfl) dX1_connect_49 (fun H locs hP hD hS => ?_)
        have hP : va_P D vwCl (wT ad dd n (ct_up (ct_up g ((8 * i) + j) k) ((8 * j) + i) k) f cf qu R 0 po pb) H := hP
        have hD : va_D A (wT ad dd n (ct_up (ct_up g ((8 * i) + j) k) ((8 * j) + i) k) f cf qu R 0 po pb) := hD
        refine lv_iconst (v := nI (1)) hx hb dX1_connect_52 (by decide) ?_
        have hwe : ct_up (ct_up g ((8 * i) + j) k) ((8 * j) + i) k = ct_cn n g (nI i) (nI j) (nI k) := ct_cn_yes (by omega) (by omega) (by omega) hok
        have hP : va_P D vwCl (wT ad dd n (ct_cn n g (nI i) (nI j) (nI k)) f cf qu R 0 po pb) H := by rw [← hwe]; exact hP
        have hD : va_D A (wT ad dd n (ct_cn n g (nI i) (nI j) (nI k)) f cf qu R 0 po pb) := by rw [← hwe]; exact hD
        clear hwe
        have hwe : 0 = ct_cb n (nI i) (nI j) (nI k) b := ct_cb_yes b hok
        have hP : va_P D vwCl (wT ad dd n (ct_cn n g (nI i) (nI j) (nI k)) f cf qu R (ct_cb n (nI i) (nI j) (nI k) b) po pb) H := by rw [← hwe]; exact hP
        have hD : va_D A (wT ad dd n (ct_cn n g (nI i) (nI j) (nI k)) f cf qu R (ct_cb n (nI i) (nI j) (nI k) b) po pb) := by rw [← hwe]; exact hD
        clear hwe
        exact hret _ () _ _ _ _ (by rw [hok]; rfl) hP hD hS dX1_connect_53
      · refine lv_iconst (v := nI (0)) hx hb dX1_connect_19 (by decide) ?_
        have hwe : g = ct_cn n g u v w := ct_cn_no (ct_ok_3 he)
        have hP : va_P D vwCl (wT ad dd n (ct_cn n g u v w) f cf qu R b po pb) H := by rw [← hwe]; exact hP
        have hD : va_D A (wT ad dd n (ct_cn n g u v w) f cf qu R b po pb) := by rw [← hwe]; exact hD
        clear hwe
        have hwe : b = ct_cb n u v w b := ct_cb_no (ct_ok_3 he)
        have hP : va_P D vwCl (wT ad dd n (ct_cn n g u v w) f cf qu R (ct_cb n u v w b) po pb) H := by rw [← hwe]; exact hP
        have hD : va_D A (wT ad dd n (ct_cn n g u v w) f cf qu R (ct_cb n u v w b) po pb) := by rw [← hwe]; exact hD
        clear hwe
        exact hret _ () _ _ _ _ (by rw [ct_ok_3 he]; rfl) hP hD hS dX1_connect_20
set_option maxHeartbeats 4000000 in
set_option maxRecDepth 100000 in
theorem mT_capacity (l : Launch) (D : va_G) (ad : Nat → Nat) (dd : Nat → ClassId) (n : Nat) (g : Nat → Nat) (f : Nat → Int) (cf qu : Nat → Nat) (R b : Nat) (po pb : Nat → Nat) (zn : n ≤ 8) (u v : Int32) : kt_Mi l yX1_capacity cX1_capacity 3 .int 2 D (tyT dd) (wT ad dd n g f cf qu R b po pb) [.ref (ad 0), .int (u), .int (v)] (fun r (_ : Unit) => r = ct_cp n g u v) (fun _ => wT ad dd n g f cf qu R b po pb) := by
  refine kt_inI (by decide) (Nat.le_of_ble_eq_true rfl) (fun r _ h => rfl) ?_
  intro p e s m args below meth c A Q H ls B hA hK hP hD hS hl hret
  have B : CallFix p m c cX1_capacity 3 s args lw_all RX1 := B
  have hx := B.1
  have hb := B.2.1
  have hl : lv_has ls 3 [(0, .ref (ad 0)), (1, .int (u)), (2, .int (v))] := hl
  refine lv_aload_n hx hb dX1_capacity_0 rfl (lv_at hl 0 rfl) ?_
  refine lv_iload_n hx hb dX1_capacity_1 rfl (lv_at hl 1 rfl) ?_
  refine lv_iload_n hx hb dX1_capacity_2 rfl (lv_at hl 2 rfl) ?_
  refine kt_callI (wr := []) (rest := []) B (mT_isCouple l D ad dd n g f cf qu R b po pb u v) (cwV 2 B.2.2.2.2 (lw_V q62 q64 qs0 q18 q65) rfl rfl rfl (by decide +kernel) ⟨Nat.le_of_ble_eq_true rfl, Nat.le_of_ble_eq_true rfl⟩) [0, 1, 2, 3, 4, 5, 6] [] [0, 1, 2, 3, 4, 5] rfl rfl rfl rfl rfl (fun _ h _ => absurd h List.not_mem_nil) rfl hA hK hP hD hS (ci := 0) rfl rfl rfl rfl hl.1 rfl (Nat.le_of_ble_eq_true rfl) dX1_capacity_3 ⟨Nat.le_refl _, Nat.le_refl _⟩ (fun rx ux H locs hw hP hD hS => ?_)
  have hP : va_P D vwCl (wT ad dd n g f cf qu R b po pb) H := hP
  have hD : va_D A (wT ad dd n g f cf qu R b po pb) := hD
  have hw : rx = nI (ct_bn (ct_ic n u v)) := hw
  subst hw
  refine kn_if_eq (tgt := 23) hx hb dX1_capacity_6 (by decide) (ct_bn_lt _) (fun hc => ?_) (fun hc => ?_)
  · refine lv_iconst (v := (-1)) hx hb dX1_capacity_23 (by decide) ?_
    exact hret _ () _ _ _ _ (ct_cp_no (ct_bn_0 hc)) hP hD hS dX1_capacity_24
  · have hok := ct_bn_1 hc
    obtain ⟨i, j, zi, zj, zij, rfl, rfl⟩ := ct_ic_of zn hok
    refine lv_aload_n hx hb dX1_capacity_9 rfl (lv_at hl 0 rfl) ?_
    refine kt_gT B hK hP rfl 1 (by decide) q29 rfl dX1_capacity_10 ?_
    refine lv_bipush (v := nI (8)) hx hb dX1_capacity_13 (by decide) ?_
    refine lv_iload_n hx hb dX1_capacity_15 rfl (lv_at hl 1 rfl) ?_
    refine kn_imul hx hb dX1_capacity_16 ?_
    refine lv_iload_n hx hb dX1_capacity_17 rfl (lv_at hl 2 rfl) ?_
    refine kn_iadd hx hb dX1_capacity_18 ?_
    refine kt_bl (v := nI (g ((8 * i) + j))) hx hb hK hP 1 0 rfl rfl (by omega) (by decide) rfl dX1_capacity_19 ?_
    refine lv_goto (tgt := 24) hx hb dX1_capacity_20 (by decide) ?_
    exact hret _ () _ _ _ _ (ct_cp_yes (by omega) (by omega) hok) hP hD hS dX1_capacity_24
set_option maxHeartbeats 4000000 in
set_option maxRecDepth 100000 in
theorem mT_weight (l : Launch) (D : va_G) (ad : Nat → Nat) (dd : Nat → ClassId) (n : Nat) (g : Nat → Nat) (f : Nat → Int) (cf qu : Nat → Nat) (R b : Nat) (po pb : Nat → Nat) (zn : n ≤ 8) (x : Int32) : kt_Mi l yX1_weight cX1_weight 5 .int 0 D (tyT dd) (wT ad dd n g f cf qu R b po pb) [.ref (ad 0), .int (x)] (fun r (_ : Unit) => r = ct_we n g x) (fun _ => wT ad dd n g f cf qu R b po pb) := by
  refine kt_inI (by decide) (Nat.le_of_ble_eq_true rfl) (fun r _ h => rfl) ?_
  intro p e s m args below meth c A Q H ls B hA hK hP hD hS hl hret
  have B : CallFix p m c cX1_weight 5 s args lw_all RX1 := B
  have hx := B.1
  have hb := B.2.1
  have hl : lv_has ls 5 [(0, .ref (ad 0)), (1, .int (x))] := hl
  have zp := Nat.two_pow_pos n
  refine lv_iload_n hx hb dX1_weight_0 rfl (lv_at hl 1 rfl) ?_
  refine lv_if_le (tgt := 16) hx hb dX1_weight_1 (by decide)  (fun hc => ?_) (fun hc => ?_)
  · refine lv_iconst (v := (-1)) hx hb dX1_weight_16 (by decide) ?_
    exact hret _ () _ _ _ _ (ct_we_1 hc) hP hD hS dX1_weight_17
  · refine lv_iload_n hx hb dX1_weight_4 rfl (lv_at hl 1 rfl) ?_
    refine lv_iconst (v := nI (1)) hx hb dX1_weight_5 (by decide) ?_
    refine lv_aload_n hx hb dX1_weight_6 rfl (lv_at hl 0 rfl) ?_
    refine kt_gT B hK hP rfl 0 (by decide) q28 rfl dX1_weight_7 ?_
    refine kn_shl1 hx hb (by omega) dX1_weight_10 ?_
    refine lv_iconst (v := nI (1)) hx hb dX1_weight_11 (by decide) ?_
    refine kn_isub hx hb (by omega) dX1_weight_12 ?_
    by_cases hd : nI (2 ^ n - 1) ≤ x
    · refine lv_icmp_lt (tgt := 18) hx hb dX1_weight_13 (by decide)  (fun hq => absurd hq (fun q => (fa_of_lt q).2.1 hd)) (fun hq => ?_)
      refine lv_iconst (v := (-1)) hx hb dX1_weight_16 (by decide) ?_
      exact hret _ () _ _ _ _ (ct_we_2 hd) hP hD hS dX1_weight_17
    · refine lv_icmp_lt (tgt := 18) hx hb dX1_weight_13 (by decide)  (fun hq => ?_) (fun hq => absurd hq (fun q => q (fa_of_nle hd)))
      obtain ⟨S, zS, rfl, zS1, zS0⟩ := ct_we_of hc hd zn
      have outer : ∀ u, u ≤ n → ∀ acc, acc = fb_sm (fun u => ct_row n g S u) u → ∀ (H : Heap) (locs : List Loc) (ls : Array Slot), va_P D vwCl (wT ad dd n g f cf qu R b po pb) H → va_D A (wT ad dd n g f cf qu R b po pb) → va_S A s.heap H locs → lv_has ls 5 [(0, .ref (ad 0)), (1, .int (nI (S))), (2, .int (nI (acc))), (3, .int (nI (u)))] → W p l e (kt_rm 0) s m args below meth c H locs 0 0 Q (F0 m 22 ls []) := by
        refine kt_up ?_ ?_
        · intro acc za H locs ls hP hD hS hl
          refine lv_iload_n hx hb dX1_weight_22 rfl (lv_at hl 3 rfl) ?_
          refine lv_aload_n hx hb dX1_weight_23 rfl (lv_at hl 0 rfl) ?_
          refine kt_gT B hK hP rfl 0 (by decide) q28 rfl dX1_weight_24 ?_
          refine kn_ge (tgt := 86) hx hb dX1_weight_27 (by decide) (by omega) (by omega) (fun hq => ?_) (fun hq => absurd hq (by omega))
          refine lv_iload_n hx hb dX1_weight_86 rfl (lv_at hl 2 rfl) ?_
          exact hret _ () _ _ _ _ (by rw [za, ← ct_wt_row]; exact ct_we_3 zS hc hd) hP hD hS dX1_weight_87
        · intro u zu ih acc za H locs ls hP hD hS hl
          refine lv_iload_n hx hb dX1_weight_22 rfl (lv_at hl 3 rfl) ?_
          refine lv_aload_n hx hb dX1_weight_23 rfl (lv_at hl 0 rfl) ?_
          refine kt_gT B hK hP rfl 0 (by decide) q28 rfl dX1_weight_24 ?_
          refine kn_ge (tgt := 86) hx hb dX1_weight_27 (by decide) (by omega) (by omega) (fun hq => absurd hq (by omega)) (fun hq => ?_)
          refine lv_iconst (v := nI (0)) hx hb dX1_weight_30 (by decide) ?_
          refine lv_istore (lv' := [(4, .int (nI (0))), (0, .ref (ad 0)), (1, .int (nI (S))), (2, .int (nI (acc))), (3, .int (nI (u)))]) hx hb dX1_weight_31 hl (by decide) rfl (fun ls hl => ?_)
          have inner : ∀ v, v ≤ n → ∀ acc2, acc2 = acc + fb_sm (fun v => ct_cell g S u v) v → ∀ (H : Heap) (locs : List Loc) (ls : Array Slot), va_P D vwCl (wT ad dd n g f cf qu R b po pb) H → va_D A (wT ad dd n g f cf qu R b po pb) → va_S A s.heap H locs → lv_has ls 5 [(0, .ref (ad 0)), (1, .int (nI (S))), (2, .int (nI (acc2))), (3, .int (nI (u))), (4, .int (nI (v)))] → W p l e (kt_rm 0) s m args below meth c H locs 0 0 Q (F0 m 33 ls []) := by
            refine kt_up ?_ ?_
            · intro acc2 za2 H locs ls hP hD hS hl
              refine lv_iload hx hb dX1_weight_33 (lv_at hl 4 rfl) ?_
              refine lv_aload_n hx hb dX1_weight_35 rfl (lv_at hl 0 rfl) ?_
              refine kt_gT B hK hP rfl 0 (by decide) q28 rfl dX1_weight_36 ?_
              refine kn_ge (tgt := 80) hx hb dX1_weight_39 (by decide) (by omega) (by omega) (fun hq => ?_) (fun hq => absurd hq (by omega))
              refine lv_iinc (v := nI (u + 1)) (lv' := [(3, .int (nI (u + 1))), (0, .ref (ad 0)), (1, .int (nI (S))), (2, .int (nI (acc2))), (4, .int (nI ((n))))]) hx hb dX1_weight_80 hl (k := 3) rfl (nI_add u 1) (by decide) rfl (fun ls hl => ?_)
              refine lv_goto (tgt := 22) hx hb dX1_weight_83 (by decide) ?_
              exact ih _ (by rw [za2, za]; rfl) _ _ _ hP hD hS (lv_sub hl [1, 2, 3, 0] rfl)
            · intro v zv ih2 acc2 za2 H locs ls hP hD hS hl
              refine lv_iload hx hb dX1_weight_33 (lv_at hl 4 rfl) ?_
              refine lv_aload_n hx hb dX1_weight_35 rfl (lv_at hl 0 rfl) ?_
              refine kt_gT B hK hP rfl 0 (by decide) q28 rfl dX1_weight_36 ?_
              refine kn_ge (tgt := 80) hx hb dX1_weight_39 (by decide) (by omega) (by omega) (fun hq => absurd hq (by omega)) (fun hq => ?_)
              refine lv_iload_n hx hb dX1_weight_42 rfl (lv_at hl 1 rfl) ?_
              refine lv_iload_n hx hb dX1_weight_43 rfl (lv_at hl 3 rfl) ?_
              refine kn_shr hx hb (by omega) (by omega) dX1_weight_44 ?_
              refine lv_iconst (v := nI (1)) hx hb dX1_weight_45 (by decide) ?_
              refine kn_iand1 hx hb dX1_weight_46 ?_
              cases hc2 : S.testBit u
              · have hbit := ct_bit_f hc2
                refine kn_if_eq (tgt := 74) hx hb dX1_weight_47 (by decide) (by omega) (fun hq => ?_) (fun hq => absurd hq (by omega))
                refine lv_iinc (v := nI (v + 1)) (lv' := [(4, .int (nI (v + 1))), (0, .ref (ad 0)), (1, .int (nI (S))), (2, .int (nI (acc2))), (3, .int (nI (u)))]) hx hb dX1_weight_74 hl (k := 4) rfl (nI_add v 1) (by decide) rfl (fun ls hl => ?_)
                refine lv_goto (tgt := 33) hx hb dX1_weight_77 (by decide) ?_
                exact ih2 _ (by rw [za2, fb_sm_succ, ct_cell_1 hc2]; rfl) _ _ _ hP hD hS (lv_sub hl [1, 2, 3, 4, 0] rfl)
              · have hbit := ct_bit_t hc2
                refine kn_if_eq (tgt := 74) hx hb dX1_weight_47 (by decide) (by omega) (fun hq => absurd hq (by omega)) (fun hq => ?_)
                refine lv_iload_n hx hb dX1_weight_50 rfl (lv_at hl 1 rfl) ?_
                refine lv_iload hx hb dX1_weight_51 (lv_at hl 4 rfl) ?_
                refine kn_shr hx hb (by omega) (by omega) dX1_weight_53 ?_
                refine lv_iconst (v := nI (1)) hx hb dX1_weight_54 (by decide) ?_
                refine kn_iand1 hx hb dX1_weight_55 ?_
                cases hd2 : S.testBit v
                · have hbit2 := ct_bit_f hd2
                  refine kn_if_ne (tgt := 74) hx hb dX1_weight_56 (by decide) (by omega) (fun hq => absurd hq (by omega)) (fun hq => ?_)
                  refine lv_iload_n hx hb dX1_weight_59 rfl (lv_at hl 2 rfl) ?_
                  refine lv_aload_n hx hb dX1_weight_60 rfl (lv_at hl 0 rfl) ?_
                  refine kt_gT B hK hP rfl 1 (by decide) q29 rfl dX1_weight_61 ?_
                  refine lv_bipush (v := nI (8)) hx hb dX1_weight_64 (by decide) ?_
                  refine lv_iload_n hx hb dX1_weight_66 rfl (lv_at hl 3 rfl) ?_
                  refine kn_imul hx hb dX1_weight_67 ?_
                  refine lv_iload hx hb dX1_weight_68 (lv_at hl 4 rfl) ?_
                  refine kn_iadd hx hb dX1_weight_70 ?_
                  refine kt_bl (v := nI (g ((8 * u) + v))) hx hb hK hP 1 0 rfl rfl (by omega) (by decide) rfl dX1_weight_71 ?_
                  refine kn_iadd hx hb dX1_weight_72 ?_
                  refine lv_istore_n (lv' := [(2, .int (nI (acc2 + (g ((8 * u) + v))))), (0, .ref (ad 0)), (1, .int (nI (S))), (3, .int (nI (u))), (4, .int (nI (v)))]) hx hb dX1_weight_73 rfl hl (by decide) rfl (fun ls hl => ?_)
                  refine lv_iinc (v := nI (v + 1)) (lv' := [(4, .int (nI (v + 1))), (2, .int (nI (acc2 + (g ((8 * u) + v))))), (0, .ref (ad 0)), (1, .int (nI (S))), (3, .int (nI (u)))]) hx hb dX1_weight_74 hl (k := 4) rfl (nI_add v 1) (by decide) rfl (fun ls hl => ?_)
                  refine lv_goto (tgt := 33) hx hb dX1_weight_77 (by decide) ?_
                  exact ih2 _ (by rw [za2, fb_sm_succ, ct_cell_3 hc2 hd2, Nat.add_assoc]) _ _ _ hP hD hS (lv_sub hl [2, 3, 1, 4, 0] rfl)
                · have hbit2 := ct_bit_t hd2
                  refine kn_if_ne (tgt := 74) hx hb dX1_weight_56 (by decide) (by omega) (fun hq => ?_) (fun hq => absurd hq (by omega))
                  refine lv_iinc (v := nI (v + 1)) (lv' := [(4, .int (nI (v + 1))), (0, .ref (ad 0)), (1, .int (nI (S))), (2, .int (nI (acc2))), (3, .int (nI (u)))]) hx hb dX1_weight_74 hl (k := 4) rfl (nI_add v 1) (by decide) rfl (fun ls hl => ?_)
                  refine lv_goto (tgt := 33) hx hb dX1_weight_77 (by decide) ?_
                  exact ih2 _ (by rw [za2, fb_sm_succ, ct_cell_2 hd2]; rfl) _ _ _ hP hD hS (lv_sub hl [1, 2, 3, 4, 0] rfl)
          exact inner 0 (Nat.zero_le _) acc rfl _ _ _ hP hD hS (lv_sub hl [1, 2, 3, 4, 0] rfl)
      refine lv_iconst (v := nI (0)) hx hb dX1_weight_18 (by decide) ?_
      refine lv_istore_n (lv' := [(2, .int (nI (0))), (0, .ref (ad 0)), (1, .int (nI (S)))]) hx hb dX1_weight_19 rfl hl (by decide) rfl (fun ls hl => ?_)
      refine lv_iconst (v := nI (0)) hx hb dX1_weight_20 (by decide) ?_
      refine lv_istore_n (lv' := [(3, .int (nI (0))), (2, .int (nI (0))), (0, .ref (ad 0)), (1, .int (nI (S)))]) hx hb dX1_weight_21 rfl hl (by decide) rfl (fun ls hl => ?_)
      exact outer 0 (Nat.zero_le _) 0 rfl _ _ _ hP hD hS (lv_sub hl [2, 3, 1, 0] rfl)
set_option maxHeartbeats 4000000 in
set_option maxRecDepth 100000 in
theorem mT_depthOf (l : Launch) (D : va_G) (ad : Nat → Nat) (dd : Nat → ClassId) (n : Nat) (g : Nat → Nat) (f : Nat → Int) (cf qu : Nat → Nat) (R b : Nat) (po pb : Nat → Nat) (zn : n ≤ 8) (zp : ∀ u, 1 ≤ u → u < n → po u < u) (u : Nat) (zu : u < n) : kt_Mi l yX1_depthOf cX1_depthOf 4 .int 0 D (tyT dd) (wT ad dd n g f cf qu R b po pb) [.ref (ad 0), .int (nI (u))] (fun r (_ : Unit) => r = nI (ct_dp po u u)) (fun _ => wT ad dd n g f cf qu R b po pb) := by
  refine kt_inI (by decide) (Nat.le_of_ble_eq_true rfl) (fun r _ h => rfl) ?_
  intro p e s m args below meth c A Q H ls B hA hK hP hD hS hl hret
  have B : CallFix p m c cX1_depthOf 4 s args lw_all RX1 := B
  have hx := B.1
  have hb := B.2.1
  have hl : lv_has ls 4 [(0, .ref (ad 0)), (1, .int (nI (u)))] := hl
  have loop : ∀ d x acc, x < d → x < n → acc + ct_dp po x x = ct_dp po u u → ∀ (H : Heap) (locs : List Loc) (ls : Array Slot), va_P D vwCl (wT ad dd n g f cf qu R b po pb) H → va_D A (wT ad dd n g f cf qu R b po pb) → va_S A s.heap H locs → lv_has ls 4 [(0, .ref (ad 0)), (1, .int (nI (u))), (2, .int (nI (acc))), (3, .int (nI (x)))] → W p l e (kt_rm 0) s m args below meth c H locs 0 0 Q (F0 m 4 ls []) := by
    intro d
    induction d with
    | zero => intro x acc h; omega
    | succ d ih =>
      intro x acc zx zxn za H locs ls hP hD hS hl
      refine lv_iload_n hx hb dX1_depthOf_4 rfl (lv_at hl 3 rfl) ?_
      refine kn_if_eq (tgt := 21) hx hb dX1_depthOf_5 (by decide) (by omega) (fun hc => ?_) (fun hc => ?_)
      · refine lv_iload_n hx hb dX1_depthOf_21 rfl (lv_at hl 2 rfl) ?_
        exact hret _ () _ _ _ _ (by rw [← za, hc]; rfl) hP hD hS dX1_depthOf_22
      · have zpx := zp x (by omega) zxn
        refine lv_aload_n hx hb dX1_depthOf_8 rfl (lv_at hl 0 rfl) ?_
        refine kt_gT B hK hP rfl 7 (by decide) q35 rfl dX1_depthOf_9 ?_
        refine lv_iload_n hx hb dX1_depthOf_12 rfl (lv_at hl 3 rfl) ?_
        refine kt_bl (v := nI (po x)) hx hb hK hP 5 4 rfl rfl (by omega) (by decide) rfl dX1_depthOf_13 ?_
        refine lv_istore_n (lv' := [(3, .int (nI (po x))), (0, .ref (ad 0)), (1, .int (nI (u))), (2, .int (nI (acc)))]) hx hb dX1_depthOf_14 rfl hl (by decide) rfl (fun ls hl => ?_)
        refine lv_iinc (v := nI (acc + 1)) (lv' := [(2, .int (nI (acc + 1))), (3, .int (nI (po x))), (0, .ref (ad 0)), (1, .int (nI (u)))]) hx hb dX1_depthOf_15 hl (k := 3) rfl (nI_add acc 1) (by decide) rfl (fun ls hl => ?_)
        refine lv_goto (tgt := 4) hx hb dX1_depthOf_18 (by decide) ?_
        exact ih _ _ (by omega) (by omega) (by rw [← za, ct_dp_s zp (by omega) zxn]; omega) _ _ _ hP hD hS (lv_sub hl [2, 3, 0, 1] rfl)
  refine lv_iconst (v := nI (0)) hx hb dX1_depthOf_0 (by decide) ?_
  refine lv_istore_n (lv' := [(2, .int (nI (0))), (0, .ref (ad 0)), (1, .int (nI (u)))]) hx hb dX1_depthOf_1 rfl hl (by decide) rfl (fun ls hl => ?_)
  refine lv_iload_n hx hb dX1_depthOf_2 rfl (lv_at hl 2 rfl) ?_
  refine lv_istore_n (lv' := [(3, .int (nI (u))), (2, .int (nI (0))), (0, .ref (ad 0)), (1, .int (nI (u)))]) hx hb dX1_depthOf_3 rfl hl (by decide) rfl (fun ls hl => ?_)
  exact loop (u + 1) u 0 (by omega) zu (by omega) _ _ _ hP hD hS (lv_sub hl [2, 3, 1, 0] rfl)
set_option maxHeartbeats 4000000 in
set_option maxRecDepth 100000 in
theorem mT_weakest (l : Launch) (D : va_G) (ad : Nat → Nat) (dd : Nat → ClassId) (n : Nat) (g : Nat → Nat) (f : Nat → Int) (cf qu : Nat → Nat) (R b : Nat) (po pb : Nat → Nat) (zn : n ≤ 8) (zg : ct_G g) (zT : ct_TB n g po pb) (u v : Nat) (zu : u < n) (zv : v < n) (zuv : u ≠ v) : kt_Mi l yX1_weakest cX1_weakest 8 .int 1 D (tyT dd) (wT ad dd n g f cf qu R b po pb) [.ref (ad 0), .int (nI (u)), .int (nI (v))] (fun r (_ : Unit) => r = nI (ct_lam n g u v)) (fun _ => wT ad dd n g f cf qu R b po pb) := by
  refine kt_inI (by decide) (Nat.le_of_ble_eq_true rfl) (fun r _ h => rfl) ?_
  intro p e s m args below meth c A Q H ls B hA hK hP hD hS hl hret
  have B : CallFix p m c cX1_weakest 8 s args lw_all RX1 := B
  have hx := B.1
  have hb := B.2.1
  have hl : lv_has ls 8 [(0, .ref (ad 0)), (1, .int (nI (u))), (2, .int (nI (v)))] := hl
  have zp : ∀ u, 1 ≤ u → u < n → po u < u := fun u h1 h2 => (zT.1 u h1 h2).1
  have zlam := ct_lam_bound zn zg zu zv zuv
  have loop : ∀ d x y le, ct_dp po x x + ct_dp po y y < d → x < n → y < n → le ≤ 1000 → min le (ct_LL n g x y) = ct_lam n g u v → ∀ (H : Heap) (locs : List Loc) (ls : Array Slot), va_P D vwCl (wT ad dd n g f cf qu R b po pb) H → va_D A (wT ad dd n g f cf qu R b po pb) → va_S A s.heap H locs → lv_has ls 8 [(0, .ref (ad 0)), (3, .int (nI (x))), (4, .int (nI (y))), (5, .int (nI (ct_dp po x x))), (6, .int (nI (ct_dp po y y))), (7, .int (nI (le)))] → W p l e (kt_rm 1) s m args below meth c H locs 0 0 Q (F0 m 25 ls []) := by
    intro d
    induction d with
    | zero => intro x y le h; omega
    | succ d ih =>
      intro x y le zd zx zy zle za H locs ls hP hD hS hl
      have zdx := ct_dp_le zp (x + 1) x (by omega) zx
      have zdy := ct_dp_le zp (y + 1) y (by omega) zy
      refine lv_iload_n hx hb dX1_weakest_25 rfl (lv_at hl 1 rfl) ?_
      refine lv_iload hx hb dX1_weakest_26 (lv_at hl 2 rfl) ?_
      refine kn_eq (tgt := 106) hx hb dX1_weakest_28 (by decide) (by omega) (by omega) (fun hc => ?_) (fun hc => ?_)
      · refine lv_iload hx hb dX1_weakest_106 (lv_at hl 5 rfl) ?_
        exact hret _ () _ _ _ _ (by rw [← za, hc, ct_LL, if_pos rfl]; congr 1; omega) hP hD hS dX1_weakest_108
      · refine lv_iload hx hb dX1_weakest_31 (lv_at hl 3 rfl) ?_
        refine lv_iload hx hb dX1_weakest_33 (lv_at hl 4 rfl) ?_
        refine kn_lt (tgt := 70) hx hb dX1_weakest_35 (by decide) (by omega) (by omega) (fun hd => ?_) (fun hd => ?_)
        · obtain ⟨z1, z2⟩ := ct_T_up zn zg zT.1 (x + 1) y x (by omega) zy zx (Ne.symm hc) (by omega)
          have zhb := zT.2 y z1 zy
          have zpy := zp y z1 zy
          have zb2 := ct_lam_bound zn zg zy (show po y < n by omega) (by omega)
          have zds := ct_dp_s zp z1 zy
          have za' : min le (min (ct_lam n g y (po y)) (ct_LL n g x (po y))) = ct_lam n g u v := by rw [← za, show ct_LL n g x y = ct_lam n g y x by (rw [ct_LL, if_neg hc]; exact ct_lam_symm zn zg zx zy), z2, ct_LL_symm zn zg zx (show po y < n by omega)]
          refine lv_aload_n hx hb dX1_weakest_70 rfl (lv_at hl 0 rfl) ?_
          refine kt_gT B hK hP rfl 8 (by decide) q36 rfl dX1_weakest_71 ?_
          refine lv_iload hx hb dX1_weakest_74 (lv_at hl 2 rfl) ?_
          refine kt_il (v := nI (pb y)) hx hb hK hP 6 5 rfl rfl (by omega) (by decide) rfl dX1_weakest_76 ?_
          refine lv_iload hx hb dX1_weakest_77 (lv_at hl 5 rfl) ?_
          refine kn_ge (tgt := 91) hx hb dX1_weakest_79 (by decide) (by omega) (by omega) (fun he => ?_) (fun he => ?_)
          · refine lv_aload_n hx hb dX1_weakest_91 rfl (lv_at hl 0 rfl) ?_
            refine kt_gT B hK hP rfl 7 (by decide) q35 rfl dX1_weakest_92 ?_
            refine lv_iload hx hb dX1_weakest_95 (lv_at hl 2 rfl) ?_
            refine kt_bl (v := nI (po y)) hx hb hK hP 5 4 rfl rfl (by omega) (by decide) rfl dX1_weakest_97 ?_
            refine lv_istore (lv' := [(4, .int (nI (po y))), (0, .ref (ad 0)), (3, .int (nI (x))), (5, .int (nI (ct_dp po x x))), (6, .int (nI (ct_dp po y y))), (7, .int (nI (le)))]) hx hb dX1_weakest_98 hl (by decide) rfl (fun ls hl => ?_)
            have hl : lv_has ls 8 [(4, .int (nI (po y))), (0, .ref (ad 0)), (3, .int (nI (x))), (5, .int (nI (ct_dp po x x))), (6, .int (nI (ct_dp po (po y) (po y) + 1))), (7, .int (nI (le)))] := by rw [← (show nI (ct_dp po y y) = nI (ct_dp po (po y) (po y) + 1) from by rw [zds])]; exact hl
            refine lv_iinc (v := nI (ct_dp po (po y) (po y))) (lv' := [(6, .int (nI (ct_dp po (po y) (po y)))), (4, .int (nI (po y))), (0, .ref (ad 0)), (3, .int (nI (x))), (5, .int (nI (ct_dp po x x))), (7, .int (nI (le)))]) hx hb dX1_weakest_100 hl (k := 4) rfl (pk_m1 (ct_dp po (po y) (po y))) (by decide) rfl (fun ls hl => ?_)
            refine lv_goto (tgt := 25) hx hb dX1_weakest_103 (by decide) ?_
            exact ih _ _ _ (by omega) zx (by omega) zle (ct_min_2 (by omega) za') _ _ _ hP hD hS (lv_sub hl [2, 3, 1, 4, 0, 5] rfl)
          · refine lv_aload_n hx hb dX1_weakest_82 rfl (lv_at hl 0 rfl) ?_
            refine kt_gT B hK hP rfl 8 (by decide) q36 rfl dX1_weakest_83 ?_
            refine lv_iload hx hb dX1_weakest_86 (lv_at hl 2 rfl) ?_
            refine kt_il (v := nI (pb y)) hx hb hK hP 6 5 rfl rfl (by omega) (by decide) rfl dX1_weakest_88 ?_
            refine lv_istore (lv' := [(7, .int (nI (pb y))), (0, .ref (ad 0)), (3, .int (nI (x))), (4, .int (nI (y))), (5, .int (nI (ct_dp po x x))), (6, .int (nI (ct_dp po y y)))]) hx hb dX1_weakest_89 hl (by decide) rfl (fun ls hl => ?_)
            refine lv_aload_n hx hb dX1_weakest_91 rfl (lv_at hl 1 rfl) ?_
            refine kt_gT B hK hP rfl 7 (by decide) q35 rfl dX1_weakest_92 ?_
            refine lv_iload hx hb dX1_weakest_95 (lv_at hl 3 rfl) ?_
            refine kt_bl (v := nI (po y)) hx hb hK hP 5 4 rfl rfl (by omega) (by decide) rfl dX1_weakest_97 ?_
            refine lv_istore (lv' := [(4, .int (nI (po y))), (7, .int (nI (pb y))), (0, .ref (ad 0)), (3, .int (nI (x))), (5, .int (nI (ct_dp po x x))), (6, .int (nI (ct_dp po y y)))]) hx hb dX1_weakest_98 hl (by decide) rfl (fun ls hl => ?_)
            have hl : lv_has ls 8 [(4, .int (nI (po y))), (7, .int (nI (pb y))), (0, .ref (ad 0)), (3, .int (nI (x))), (5, .int (nI (ct_dp po x x))), (6, .int (nI (ct_dp po (po y) (po y) + 1)))] := by rw [← (show nI (ct_dp po y y) = nI (ct_dp po (po y) (po y) + 1) from by rw [zds])]; exact hl
            refine lv_iinc (v := nI (ct_dp po (po y) (po y))) (lv' := [(6, .int (nI (ct_dp po (po y) (po y)))), (4, .int (nI (po y))), (7, .int (nI (pb y))), (0, .ref (ad 0)), (3, .int (nI (x))), (5, .int (nI (ct_dp po x x)))]) hx hb dX1_weakest_100 hl (k := 5) rfl (pk_m1 (ct_dp po (po y) (po y))) (by decide) rfl (fun ls hl => ?_)
            refine lv_goto (tgt := 25) hx hb dX1_weakest_103 (by decide) ?_
            exact ih _ _ _ (by omega) zx (by omega) (by omega) (by rw [zhb]; exact ct_min_1 (by omega) za') _ _ _ hP hD hS (lv_sub hl [3, 4, 1, 5, 0, 2] rfl)
        · obtain ⟨z1, z2⟩ := ct_T_up zn zg zT.1 (y + 1) x y (by omega) zx zy hc hd
          have zhb := zT.2 x z1 zx
          have zpx := zp x z1 zx
          have zb2 := ct_lam_bound zn zg zx (show po x < n by omega) (by omega)
          have zds := ct_dp_s zp z1 zx
          have za' : min le (min (ct_lam n g x (po x)) (ct_LL n g (po x) y)) = ct_lam n g u v := by rw [← za, show ct_LL n g x y = ct_lam n g x y by rw [ct_LL, if_neg hc], z2]
          refine lv_aload_n hx hb dX1_weakest_38 rfl (lv_at hl 0 rfl) ?_
          refine kt_gT B hK hP rfl 8 (by decide) q36 rfl dX1_weakest_39 ?_
          refine lv_iload_n hx hb dX1_weakest_42 rfl (lv_at hl 1 rfl) ?_
          refine kt_il (v := nI (pb x)) hx hb hK hP 6 5 rfl rfl (by omega) (by decide) rfl dX1_weakest_43 ?_
          refine lv_iload hx hb dX1_weakest_44 (lv_at hl 5 rfl) ?_
          refine kn_ge (tgt := 57) hx hb dX1_weakest_46 (by decide) (by omega) (by omega) (fun he => ?_) (fun he => ?_)
          · refine lv_aload_n hx hb dX1_weakest_57 rfl (lv_at hl 0 rfl) ?_
            refine kt_gT B hK hP rfl 7 (by decide) q35 rfl dX1_weakest_58 ?_
            refine lv_iload_n hx hb dX1_weakest_61 rfl (lv_at hl 1 rfl) ?_
            refine kt_bl (v := nI (po x)) hx hb hK hP 5 4 rfl rfl (by omega) (by decide) rfl dX1_weakest_62 ?_
            refine lv_istore_n (lv' := [(3, .int (nI (po x))), (0, .ref (ad 0)), (4, .int (nI (y))), (5, .int (nI (ct_dp po x x))), (6, .int (nI (ct_dp po y y))), (7, .int (nI (le)))]) hx hb dX1_weakest_63 rfl hl (by decide) rfl (fun ls hl => ?_)
            have hl : lv_has ls 8 [(3, .int (nI (po x))), (0, .ref (ad 0)), (4, .int (nI (y))), (5, .int (nI (ct_dp po (po x) (po x) + 1))), (6, .int (nI (ct_dp po y y))), (7, .int (nI (le)))] := by rw [← (show nI (ct_dp po x x) = nI (ct_dp po (po x) (po x) + 1) from by rw [zds])]; exact hl
            refine lv_iinc (v := nI (ct_dp po (po x) (po x))) (lv' := [(5, .int (nI (ct_dp po (po x) (po x)))), (3, .int (nI (po x))), (0, .ref (ad 0)), (4, .int (nI (y))), (6, .int (nI (ct_dp po y y))), (7, .int (nI (le)))]) hx hb dX1_weakest_64 hl (k := 3) rfl (pk_m1 (ct_dp po (po x) (po x))) (by decide) rfl (fun ls hl => ?_)
            refine lv_goto (tgt := 25) hx hb dX1_weakest_67 (by decide) ?_
            exact ih _ _ _ (by omega) (by omega) zy zle (ct_min_2 (by omega) za') _ _ _ hP hD hS (lv_sub hl [2, 1, 3, 0, 4, 5] rfl)
          · refine lv_aload_n hx hb dX1_weakest_49 rfl (lv_at hl 0 rfl) ?_
            refine kt_gT B hK hP rfl 8 (by decide) q36 rfl dX1_weakest_50 ?_
            refine lv_iload_n hx hb dX1_weakest_53 rfl (lv_at hl 1 rfl) ?_
            refine kt_il (v := nI (pb x)) hx hb hK hP 6 5 rfl rfl (by omega) (by decide) rfl dX1_weakest_54 ?_
            refine lv_istore (lv' := [(7, .int (nI (pb x))), (0, .ref (ad 0)), (3, .int (nI (x))), (4, .int (nI (y))), (5, .int (nI (ct_dp po x x))), (6, .int (nI (ct_dp po y y)))]) hx hb dX1_weakest_55 hl (by decide) rfl (fun ls hl => ?_)
            refine lv_aload_n hx hb dX1_weakest_57 rfl (lv_at hl 1 rfl) ?_
            refine kt_gT B hK hP rfl 7 (by decide) q35 rfl dX1_weakest_58 ?_
            refine lv_iload_n hx hb dX1_weakest_61 rfl (lv_at hl 2 rfl) ?_
            refine kt_bl (v := nI (po x)) hx hb hK hP 5 4 rfl rfl (by omega) (by decide) rfl dX1_weakest_62 ?_
            refine lv_istore_n (lv' := [(3, .int (nI (po x))), (7, .int (nI (pb x))), (0, .ref (ad 0)), (4, .int (nI (y))), (5, .int (nI (ct_dp po x x))), (6, .int (nI (ct_dp po y y)))]) hx hb dX1_weakest_63 rfl hl (by decide) rfl (fun ls hl => ?_)
            have hl : lv_has ls 8 [(3, .int (nI (po x))), (7, .int (nI (pb x))), (0, .ref (ad 0)), (4, .int (nI (y))), (5, .int (nI (ct_dp po (po x) (po x) + 1))), (6, .int (nI (ct_dp po y y)))] := by rw [← (show nI (ct_dp po x x) = nI (ct_dp po (po x) (po x) + 1) from by rw [zds])]; exact hl
            refine lv_iinc (v := nI (ct_dp po (po x) (po x))) (lv' := [(5, .int (nI (ct_dp po (po x) (po x)))), (3, .int (nI (po x))), (7, .int (nI (pb x))), (0, .ref (ad 0)), (4, .int (nI (y))), (6, .int (nI (ct_dp po y y)))]) hx hb dX1_weakest_64 hl (k := 4) rfl (pk_m1 (ct_dp po (po x) (po x))) (by decide) rfl (fun ls hl => ?_)
            refine lv_goto (tgt := 25) hx hb dX1_weakest_67 (by decide) ?_
            exact ih _ _ _ (by omega) (by omega) zy (by omega) (by rw [zhb]; exact ct_min_1 (by omega) za') _ _ _ hP hD hS (lv_sub hl [3, 1, 4, 0, 5, 2] rfl)
  refine lv_iload_n hx hb dX1_weakest_0 rfl (lv_at hl 1 rfl) ?_
  refine lv_istore_n (lv' := [(3, .int (nI (u))), (0, .ref (ad 0)), (1, .int (nI (u))), (2, .int (nI (v)))]) hx hb dX1_weakest_1 rfl hl (by decide) rfl (fun ls hl => ?_)
  refine lv_iload_n hx hb dX1_weakest_2 rfl (lv_at hl 3 rfl) ?_
  refine lv_istore (lv' := [(4, .int (nI (v))), (3, .int (nI (u))), (0, .ref (ad 0)), (1, .int (nI (u))), (2, .int (nI (v)))]) hx hb dX1_weakest_3 hl (by decide) rfl (fun ls hl => ?_)
  refine lv_aload_n hx hb dX1_weakest_5 rfl (lv_at hl 2 rfl) ?_
  refine lv_iload_n hx hb dX1_weakest_6 rfl (lv_at hl 1 rfl) ?_
  refine kt_callI (wr := []) (rest := []) B (mT_depthOf l D ad dd n g f cf qu R b po pb zn zp u zu) (cwV 1 B.2.2.2.2 (lw_V q102 q104 qs8 q18 q105) rfl rfl rfl (by decide +kernel) ⟨Nat.le_of_ble_eq_true rfl, Nat.le_of_ble_eq_true rfl⟩) [0, 1, 2, 3, 4, 5, 6] [] [0, 1, 2, 3, 4, 5] rfl rfl rfl rfl rfl (fun _ h _ => absurd h List.not_mem_nil) rfl hA hK hP hD hS (ci := 0) rfl rfl rfl rfl hl.1 rfl (Nat.le_of_ble_eq_true rfl) dX1_weakest_7 ⟨Nat.le_refl _, Nat.le_refl _⟩ (fun rx ux H locs hw hP hD hS => ?_)
  have hP : va_P D vwCl (wT ad dd n g f cf qu R b po pb) H := hP
  have hD : va_D A (wT ad dd n g f cf qu R b po pb) := hD
  have hw : rx = nI (ct_dp po u u) := hw
  subst hw
  refine lv_istore (lv' := [(5, .int (nI (ct_dp po u u))), (4, .int (nI (v))), (3, .int (nI (u))), (0, .ref (ad 0)), (1, .int (nI (u))), (2, .int (nI (v)))]) hx hb dX1_weakest_10 hl (by decide) rfl (fun ls hl => ?_)
  refine lv_aload_n hx hb dX1_weakest_12 rfl (lv_at hl 3 rfl) ?_
  refine lv_iload hx hb dX1_weakest_13 (lv_at hl 1 rfl) ?_
  refine kt_callI (wr := []) (rest := []) B (mT_depthOf l D ad dd n g f cf qu R b po pb zn zp v zv) (cwV 1 B.2.2.2.2 (lw_V q102 q104 qs8 q18 q105) rfl rfl rfl (by decide +kernel) ⟨Nat.le_of_ble_eq_true rfl, Nat.le_of_ble_eq_true rfl⟩) [0, 1, 2, 3, 4, 5, 6] [] [0, 1, 2, 3, 4, 5] rfl rfl rfl rfl rfl (fun _ h _ => absurd h List.not_mem_nil) rfl hA hK hP hD hS (ci := 0) rfl rfl rfl rfl hl.1 rfl (Nat.le_of_ble_eq_true rfl) dX1_weakest_15 ⟨Nat.le_refl _, Nat.le_refl _⟩ (fun rx ux H locs hw hP hD hS => ?_)
  have hP : va_P D vwCl (wT ad dd n g f cf qu R b po pb) H := hP
  have hD : va_D A (wT ad dd n g f cf qu R b po pb) := hD
  have hw : rx = nI (ct_dp po v v) := hw
  subst hw
  refine lv_istore (lv' := [(6, .int (nI (ct_dp po v v))), (5, .int (nI (ct_dp po u u))), (4, .int (nI (v))), (3, .int (nI (u))), (0, .ref (ad 0)), (1, .int (nI (u))), (2, .int (nI (v)))]) hx hb dX1_weakest_18 hl (by decide) rfl (fun ls hl => ?_)
  refine lv_sipush (v := nI (1000)) hx hb dX1_weakest_20 (by decide) ?_
  refine lv_istore (lv' := [(7, .int (nI (1000))), (6, .int (nI (ct_dp po v v))), (5, .int (nI (ct_dp po u u))), (4, .int (nI (v))), (3, .int (nI (u))), (0, .ref (ad 0)), (1, .int (nI (u))), (2, .int (nI (v)))]) hx hb dX1_weakest_23 hl (by decide) rfl (fun ls hl => ?_)
  exact loop _ u v 1000 (Nat.lt_succ_self _) zu zv (Nat.le_refl _) (by rw [ct_LL, if_neg zuv]; omega) _ _ _ hP hD hS (lv_sub hl [5, 4, 3, 2, 1, 0] rfl)
end
section
/-! ===== the search ===== -/
theorem ct_pc_lt {n R v : Nat} (hv : v < n) (h : R.testBit v = false) : ct_pc n R < n := by
  have h1 := fb_ct_le R.testBit n
  rcases Nat.lt_or_ge (ct_pc n R) n with q | q
  · exact q
  · have e : fb_ct R.testBit n = n := by unfold ct_pc at q; omega
    have := fb_ct_all.mp e v hv
    rw [h] at this
    cases this
theorem ct_or_bit (R v i : Nat) : (R ||| 2 ^ v).testBit i = if i = v then true else R.testBit i := by
  rw [Nat.testBit_or, Nat.testBit_two_pow]
  by_cases e : i = v
  · rw [if_pos e, e]; simp
  · rw [if_neg e, decide_eq_false (fun q => e q.symm)]; simp
theorem ct_pc_add {n R v : Nat} (hv : v < n) (h : R.testBit v = false) : ct_pc n (R ||| 2 ^ v) = ct_pc n R + 1 := by
  unfold ct_pc
  have h1 := fb_ct_upd R.testBit true hv
  rw [h] at h1
  have h2 : fb_ct (R ||| 2 ^ v).testBit n = fb_ct (fun k => if k = v then true else R.testBit k) n := fb_ct_cong (fun k _ => ct_or_bit R v k)
  rw [h2]
  simpa using h1
theorem ct_pc_one {n s : Nat} (hs : s < n) : ct_pc n (2 ^ s) = 1 := by
  have h := ct_pc_add (n := n) (R := 0) hs (by simp)
  have h0 : ct_pc n 0 = 0 := by
    unfold ct_pc
    rw [fb_ct_zero]
    intro k _
    simp
  rw [h0, Nat.zero_or] at h
  exact h
/-- the search under way: e points in the queue, the first 'at' of them looked at -/
def ct_SI (n : Nat) (g : Nat → Nat) (f : Nat → Int) (s ct e : Nat) (cf qu ord : Nat → Nat) (R : Nat) : Prop :=
  R < 2 ^ n ∧ R.testBit s = true ∧ e = ct_pc n R ∧ (∀ j, j < e → qu j < n ∧ R.testBit (qu j) = true) ∧ (∀ x, x < n → R.testBit x = true → ∃ j, j < e ∧ qu j = x) ∧ (∀ x, x < n → R.testBit x = true → ord x < e) ∧
  ct_S n g f s R cf ord ∧ (∀ j, j < ct → ∀ v, v < n → R.testBit v = true ∨ (g (8 * qu j + v) : Int) ≤ f (8 * qu j + v))
/-- and of the point u the ways to those below v -/
def ct_SR (n : Nat) (g : Nat → Nat) (f : Nat → Int) (u v R : Nat) : Prop := ∀ w, w < v → w < n → R.testBit w = true ∨ (g (8 * u + w) : Int) ≤ f (8 * u + w)
theorem ct_SI_0 {n : Nat} (g : Nat → Nat) (f : Nat → Int) {s : Nat} (hs : s < n) (cf qu : Nat → Nat) : ct_SI n g f s 0 1 cf (ct_up qu 0 s) (fun _ => 0) (2 ^ s) := by
  have b : ∀ x, (2 ^ s).testBit x = true ↔ x = s := fun x => by
    rw [Nat.testBit_two_pow, decide_eq_true_eq]
    exact ⟨fun h => h.symm, fun h => h.symm⟩
  refine ⟨Nat.pow_lt_pow_right (by decide) hs, (b s).mpr rfl, (ct_pc_one hs).symm, fun j hj => ?_, fun x _ hx => ⟨0, by omega, ?_⟩, fun x _ _ => Nat.zero_lt_one, fun x _ hx hne => absurd ((b x).mp hx) hne, fun j hj => by omega⟩
  · have e : ct_up qu 0 s j = s := by unfold ct_up; rw [if_pos (by omega)]
    rw [e]
    exact ⟨hs, (b s).mpr rfl⟩
  · unfold ct_up
    rw [if_pos rfl, (b x).mp hx]
theorem ct_SI_add {n : Nat} {g : Nat → Nat} {f : Nat → Int} {s ct e : Nat} {cf qu ord : Nat → Nat} {R u v : Nat} (h : ct_SI n g f s ct e cf qu ord R) (hct : ct < e) (hu : qu ct = u) (hv : v < n) (hR : R.testBit v = false) (hf : f (8 * u + v) < (g (8 * u + v) : Int)) :
    ct_SI n g f s ct (e + 1) (ct_up cf v u) (ct_up qu e v) (ct_up ord v e) (R ||| 2 ^ v) := by
  obtain ⟨a1, a2, a3, a4, a5, a6, a7, a8⟩ := h
  have bit := ct_or_bit R v
  have old : ∀ x, R.testBit x = true → (R ||| 2 ^ v).testBit x = true := fun x hx => by rw [bit]; split; rfl; exact hx
  have qold : ∀ j, j < e → ct_up qu e v j = qu j := fun j hj => by unfold ct_up; rw [if_neg (by omega)]
  refine ⟨Nat.or_lt_two_pow a1 (Nat.pow_lt_pow_right (by decide) hv), old s a2, by rw [ct_pc_add hv hR, a3], fun j hj => ?_, fun x hx hb => ?_, fun x hx hb => ?_, fun x hx hb hne => ?_, fun j hj w hw => ?_⟩
  · by_cases ej : j = e
    · have : ct_up qu e v j = v := by unfold ct_up; rw [if_pos ej]
      rw [this]
      exact ⟨hv, by rw [bit, if_pos rfl]⟩
    · rw [qold j (by omega)]
      exact ⟨(a4 j (by omega)).1, old _ (a4 j (by omega)).2⟩
  · by_cases ex : x = v
    · exact ⟨e, by omega, by unfold ct_up; rw [if_pos rfl, ex]⟩
    · rw [bit, if_neg ex] at hb
      obtain ⟨j, hj, rfl⟩ := a5 x hx hb
      exact ⟨j, by omega, qold j hj⟩
  · unfold ct_up
    by_cases ex : x = v
    · rw [if_pos ex]; omega
    · rw [if_neg ex]
      rw [bit, if_neg ex] at hb
      have := a6 x hx hb
      omega
  · by_cases ex : x = v
    · subst ex
      have hu2 := a4 ct hct
      rw [hu] at hu2
      have hne2 : u ≠ x := fun q => by rw [q, hR] at hu2; exact absurd hu2.2 (by decide)
      have ou := a6 u hu2.1 hu2.2
      have e1 : ct_up cf x u x = u := by unfold ct_up; rw [if_pos rfl]
      rw [e1]
      refine ⟨hu2.1, old u hu2.2, ?_, hf⟩
      unfold ct_up
      rw [if_neg hne2, if_pos rfl]
      exact ou
    · rw [bit, if_neg ex] at hb
      obtain ⟨b1, b2, b3, b4⟩ := a7 x hx hb hne
      have e1 : ct_up cf v u x = cf x := by unfold ct_up; rw [if_neg ex]
      have hne3 : cf x ≠ v := fun q => by rw [q, hR] at b2; exact absurd b2 (by decide)
      rw [e1]
      refine ⟨b1, old _ b2, ?_, b4⟩
      unfold ct_up
      rw [if_neg hne3, if_neg ex]
      exact b3
  · rw [qold j (by omega)]
    rcases a8 j hj w hw with q | q
    · exact Or.inl (old w q)
    · exact Or.inr q
theorem ct_SR_add {n : Nat} {g : Nat → Nat} {f : Nat → Int} {u v R : Nat} (h : ct_SR n g f u v R) : ct_SR n g f u (v + 1) (R ||| 2 ^ v) := by
  intro w hw hn
  rw [ct_or_bit]
  by_cases e : w = v
  · rw [if_pos e]; exact Or.inl rfl
  · rw [if_neg e]; exact h w (by omega) hn
theorem ct_SR_skip {n : Nat} {g : Nat → Nat} {f : Nat → Int} {u v R : Nat} (h : ct_SR n g f u v R) (hv : R.testBit v = true ∨ (g (8 * u + v) : Int) ≤ f (8 * u + v)) : ct_SR n g f u (v + 1) R := by
  intro w hw hn
  by_cases e : w = v
  · rw [e]; exact hv
  · exact h w (by omega) hn
theorem ct_SI_row {n : Nat} {g : Nat → Nat} {f : Nat → Int} {s ct e : Nat} {cf qu ord : Nat → Nat} {R u : Nat} (h : ct_SI n g f s ct e cf qu ord R) (hu : qu ct = u) (hr : ct_SR n g f u n R) : ct_SI n g f s (ct + 1) e cf qu ord R := by
  obtain ⟨a1, a2, a3, a4, a5, a6, a7, a8⟩ := h
  refine ⟨a1, a2, a3, a4, a5, a6, a7, fun j hj v hv => ?_⟩
  by_cases e : j = ct
  · rw [e, hu]; exact hr v hv hv
  · exact a8 j (by omega) v hv
theorem ct_SI_end {n : Nat} {g : Nat → Nat} {f : Nat → Int} {s e : Nat} {cf qu ord : Nat → Nat} {R : Nat} (h : ct_SI n g f s e e cf qu ord R) : ct_sat n g f R := by
  obtain ⟨a1, a2, a3, a4, a5, a6, a7, a8⟩ := h
  intro u v hu hv h1 h2
  obtain ⟨j, hj, rfl⟩ := a5 u hu h1
  rcases a8 j hj v hv with q | q
  · rw [h2] at q; cases q
  · exact q
/-! ===== the way ===== -/
def ct_way (n : Nat) (g : Nat → Nat) (f : Nat → Int) (s t : Nat) (cf : Nat → Nat) (K : Nat) (m : Int) : Prop :=
  1 ≤ m ∧ m ≤ 1000 ∧ ct_it cf t K = s ∧ ∀ j, j < K → ct_it cf t j ≠ s ∧ m ≤ (g (8 * cf (ct_it cf t j) + ct_it cf t j) : Int) - f (8 * cf (ct_it cf t j) + ct_it cf t j)
/-- the largest flow's answer -/
def ct_MF (n : Nat) (g : Nat → Nat) (s t R : Nat) : Prop := R < 2 ^ n ∧ R.testBit s = true ∧ R.testBit t = false ∧ ct_wt n g R = ct_lam n g s t ∧ ∀ X : Nat → Bool, X s = true → X t = false → ct_cut n g X = ct_lam n g s t → ∀ x, x < n → R.testBit x = true → X x = true
theorem ct_MF_of {n : Nat} {g : Nat → Nat} {f : Nat → Int} {s t R : Nat} {val : Int} {cf ord : Nat → Nat} (hF : ct_F n g f s t val) (hs : s < n) (hR : R < 2 ^ n) (hsR : R.testBit s = true) (htR : R.testBit t = false) (hS : ct_S n g f s R cf ord) (hsat : ct_sat n g f R) : ct_MF n g s t R ∧ ct_z val = nI (ct_lam n g s t) := by
  obtain ⟨e1, e2⟩ := ct_mf hF hs hR hsR htR hsat
  refine ⟨⟨hR, hsR, htR, e2.symm, fun X h1 h2 h3 => ct_mf_min hF hs hS h1 h2 ?_⟩, ?_⟩
  · rw [h3, e1, e2]
    exact Int.le_refl _
  · rw [e1, e2, ct_z_nat]
end
section
/-! ===== the tree, flows ===== -/
set_option maxHeartbeats 4000000 in
set_option maxRecDepth 100000 in
theorem mT_search (l : Launch) (D : va_G) (ad : Nat → Nat) (dd : Nat → ClassId) (n : Nat) (g : Nat → Nat) (f : Nat → Int) (cf qu : Nat → Nat) (R b : Nat) (po pb : Nat → Nat) (zn : n ≤ 8) (zg : ct_G g) (zf : ∀ u v, u < n → v < n → -50 ≤ f (8 * u + v) ∧ f (8 * u + v) ≤ 50) (sv tv : Nat) (zs : sv < n) (zt : tv < n) : kt_Mi l yX1_search cX1_search 7 .boolean 0 D (tyT dd) (wT ad dd n g f cf qu R b po pb) [.ref (ad 0), .int (nI (sv)), .int (nI (tv))] (fun r (u : (Nat → Nat) × (Nat → Nat) × Nat) => r = nI (ct_bn (u.2.2.testBit tv)) ∧ u.2.2 < 2 ^ n ∧ u.2.2.testBit sv = true ∧ (∃ ord, ct_S n g f sv u.2.2 u.1 ord) ∧ ct_sat n g f u.2.2) (fun u => wT ad dd n g f u.1 u.2.1 u.2.2 b po pb) := by
  refine kt_inI (by decide) (Nat.le_of_ble_eq_true rfl) (fun r _ h => ct_bn_narrow h.1) ?_
  intro p e s m args below meth c A Q H ls B hA hK hP hD hS hl hret
  have B : CallFix p m c cX1_search 7 s args lw_all RX1 := B
  have hx := B.1
  have hb := B.2.1
  have hl : lv_has ls 7 [(0, .ref (ad 0)), (1, .int (nI (sv))), (2, .int (nI (tv)))] := hl
  have zp8 := ct_pow8 zn
  have fin : ∀ (k : Nat) (cf qu ord : Nat → Nat) (R : Nat), ct_SI n g f sv k k cf qu ord R → ∀ (H : Heap) (locs : List Loc) (ls : Array Slot), va_P D vwCl (wT ad dd n g f cf qu R b po pb) H → va_D A (wT ad dd n g f cf qu R b po pb) → va_S A s.heap H locs → lv_has ls 7 [(0, .ref (ad 0)), (1, .int (nI (sv))), (2, .int (nI (tv)))] → W p l e (kt_rm 0) s m args below meth c H locs 0 0 Q (F0 m 138 ls []) := by
      intro k cf qu ord R zI H locs ls hP hD hS hl
      have zR := zI.1
      refine lv_aload_n hx hb dX1_search_138 rfl (lv_at hl 0 rfl) ?_
      refine kt_gT B hK hP rfl 5 (by decide) q33 rfl dX1_search_139 ?_
      refine lv_iload_n hx hb dX1_search_142 rfl (lv_at hl 2 rfl) ?_
      refine kn_shr hx hb (by omega) (by omega) dX1_search_143 ?_
      refine lv_iconst (v := nI (1)) hx hb dX1_search_144 (by decide) ?_
      refine kn_iand1 hx hb dX1_search_145 ?_
      cases hc : R.testBit tv
      · have hbit := ct_bit_f hc
        refine kn_if_eq (tgt := 153) hx hb dX1_search_146 (by decide) (by omega) (fun hq => ?_) (fun hq => absurd hq (by omega))
        refine lv_iconst (v := nI (0)) hx hb dX1_search_153 (by decide) ?_
        exact hret _ ((cf, qu, R)) _ _ _ _ (⟨by rw [hc]; rfl, zR, zI.2.1, ⟨ord, zI.2.2.2.2.2.2.1⟩, ct_SI_end zI⟩) hP hD hS dX1_search_154
      · have hbit := ct_bit_t hc
        refine kn_if_eq (tgt := 153) hx hb dX1_search_146 (by decide) (by omega) (fun hq => absurd hq (by omega)) (fun hq => ?_)
        refine lv_iconst (v := nI (1)) hx hb dX1_search_149 (by decide) ?_
        refine lv_goto (tgt := 154) hx hb dX1_search_150 (by decide) ?_
        exact hret _ ((cf, qu, R)) _ _ _ _ (⟨by rw [hc]; rfl, zR, zI.2.1, ⟨ord, zI.2.2.2.2.2.2.1⟩, ct_SI_end zI⟩) hP hD hS dX1_search_154
  have outer : ∀ k, k ≤ n → ∀ (en : Nat) (cf qu ord : Nat → Nat) (R : Nat), ct_SI n g f sv k en cf qu ord R → k ≤ en → ∀ (H : Heap) (locs : List Loc) (ls : Array Slot), va_P D vwCl (wT ad dd n g f cf qu R b po pb) H → va_D A (wT ad dd n g f cf qu R b po pb) → va_S A s.heap H locs → lv_has ls 7 [(0, .ref (ad 0)), (1, .int (nI (sv))), (2, .int (nI (tv))), (3, .int (nI (en))), (4, .int (nI (k)))] → W p l e (kt_rm 0) s m args below meth c H locs 0 0 Q (F0 m 20 ls []) := by
    refine kt_up ?_ ?_
    · intro en cf qu ord R zI zk H locs ls hP hD hS hl
      have zen : en = n := by have := ct_pc_le n R; have := zI.2.2.1; omega
      subst zen
      refine lv_iload hx hb dX1_search_20 (lv_at hl 4 rfl) ?_
      refine lv_iload_n hx hb dX1_search_22 rfl (lv_at hl 3 rfl) ?_
      refine kn_ge (tgt := 138) hx hb dX1_search_23 (by decide) (by omega) (by omega) (fun hq => ?_) (fun hq => absurd hq (by omega))
      exact fin _ _ _ _ _ zI _ _ _ hP hD hS (lv_sub hl [0, 1, 2] rfl)
    · intro k zk1 ih en cf qu ord R zI zk H locs ls hP hD hS hl
      have zen : en ≤ n := by have := ct_pc_le n R; have := zI.2.2.1; omega
      refine lv_iload hx hb dX1_search_20 (lv_at hl 4 rfl) ?_
      refine lv_iload_n hx hb dX1_search_22 rfl (lv_at hl 3 rfl) ?_
      refine kn_ge (tgt := 138) hx hb dX1_search_23 (by decide) (by omega) (by omega) (fun hc => ?_) (fun hc => ?_)
      · have zke : k = en := by omega
        subst zke
        exact fin _ _ _ _ _ zI _ _ _ hP hD hS (lv_sub hl [0, 1, 2] rfl)
      · obtain ⟨u, zu⟩ : ∃ u, qu k = u := ⟨_, rfl⟩
        have zun : u < n := by have := (zI.2.2.2.1 k hc).1; omega
        refine lv_aload_n hx hb dX1_search_26 rfl (lv_at hl 0 rfl) ?_
        refine kt_gT B hK hP rfl 4 (by decide) q32 rfl dX1_search_27 ?_
        refine lv_iload hx hb dX1_search_30 (lv_at hl 4 rfl) ?_
        refine kt_bl (v := nI (qu k)) hx hb hK hP 4 3 rfl rfl (by omega) (by decide) rfl dX1_search_32 ?_
        refine kt_e (show nI (qu k) = nI (u) from by rw [zu]) ?_
        refine lv_istore (lv' := [(5, .int (nI (u))), (0, .ref (ad 0)), (1, .int (nI (sv))), (2, .int (nI (tv))), (3, .int (nI (en))), (4, .int (nI (k)))]) hx hb dX1_search_33 hl (by decide) rfl (fun ls hl => ?_)
        refine lv_iconst (v := nI (0)) hx hb dX1_search_35 (by decide) ?_
        refine lv_istore (lv' := [(6, .int (nI (0))), (5, .int (nI (u))), (0, .ref (ad 0)), (1, .int (nI (sv))), (2, .int (nI (tv))), (3, .int (nI (en))), (4, .int (nI (k)))]) hx hb dX1_search_36 hl (by decide) rfl (fun ls hl => ?_)
        have inner : ∀ v, v ≤ n → ∀ (en : Nat) (cf qu ord : Nat → Nat) (R : Nat), ct_SI n g f sv k en cf qu ord R → k < en → qu k = u → ct_SR n g f u v R → ∀ (H : Heap) (locs : List Loc) (ls : Array Slot), va_P D vwCl (wT ad dd n g f cf qu R b po pb) H → va_D A (wT ad dd n g f cf qu R b po pb) → va_S A s.heap H locs → lv_has ls 7 [(0, .ref (ad 0)), (1, .int (nI (sv))), (2, .int (nI (tv))), (3, .int (nI (en))), (4, .int (nI (k))), (5, .int (nI (u))), (6, .int (nI (v)))] → W p l e (kt_rm 0) s m args below meth c H locs 0 0 Q (F0 m 38 ls []) := by
          refine kt_up ?_ ?_
          · intro en cf qu ord R zI zk zu zr H locs ls hP hD hS hl
            refine lv_iload hx hb dX1_search_38 (lv_at hl 6 rfl) ?_
            refine lv_aload_n hx hb dX1_search_40 rfl (lv_at hl 0 rfl) ?_
            refine kt_gT B hK hP rfl 0 (by decide) q28 rfl dX1_search_41 ?_
            refine kn_ge (tgt := 132) hx hb dX1_search_44 (by decide) (by omega) (by omega) (fun hq => ?_) (fun hq => absurd hq (by omega))
            refine lv_iinc (v := nI (k + 1)) (lv' := [(4, .int (nI (k + 1))), (0, .ref (ad 0)), (1, .int (nI (sv))), (2, .int (nI (tv))), (3, .int (nI (en))), (5, .int (nI (u))), (6, .int (nI ((n))))]) hx hb dX1_search_132 hl (k := 4) rfl (nI_add k 1) (by decide) rfl (fun ls hl => ?_)
            refine lv_goto (tgt := 20) hx hb dX1_search_135 (by decide) ?_
            exact ih _ _ _ _ _ (ct_SI_row zI zu zr) (by omega) _ _ _ hP hD hS (lv_sub hl [1, 2, 3, 4, 0] rfl)
          · intro v zv ih2 en cf qu ord R zI zk zu zr H locs ls hP hD hS hl
            have zR := zI.1
            have zfr := zf u v zun zv
            have zgr := zg.2.2 (8 * u + v)
            refine lv_iload hx hb dX1_search_38 (lv_at hl 6 rfl) ?_
            refine lv_aload_n hx hb dX1_search_40 rfl (lv_at hl 0 rfl) ?_
            refine kt_gT B hK hP rfl 0 (by decide) q28 rfl dX1_search_41 ?_
            refine kn_ge (tgt := 132) hx hb dX1_search_44 (by decide) (by omega) (by omega) (fun hq => absurd hq (by omega)) (fun hq => ?_)
            refine lv_aload_n hx hb dX1_search_47 rfl (lv_at hl 0 rfl) ?_
            refine kt_gT B hK hP rfl 5 (by decide) q33 rfl dX1_search_48 ?_
            refine lv_iload hx hb dX1_search_51 (lv_at hl 6 rfl) ?_
            refine kn_shr hx hb (by omega) (by omega) dX1_search_53 ?_
            refine lv_iconst (v := nI (1)) hx hb dX1_search_54 (by decide) ?_
            refine kn_iand1 hx hb dX1_search_55 ?_
            cases hd : R.testBit v
            · have hbit := ct_bit_f hd
              have zen : en < n := by have := ct_pc_lt zv hd; have := zI.2.2.1; omega
              refine kn_if_ne (tgt := 126) hx hb dX1_search_56 (by decide) (by omega) (fun hq => absurd hq (by omega)) (fun hq => ?_)
              refine lv_aload_n hx hb dX1_search_59 rfl (lv_at hl 0 rfl) ?_
              refine kt_gT B hK hP rfl 2 (by decide) q30 rfl dX1_search_60 ?_
              refine lv_bipush (v := nI (8)) hx hb dX1_search_63 (by decide) ?_
              refine lv_iload hx hb dX1_search_65 (lv_at hl 5 rfl) ?_
              refine kn_imul hx hb dX1_search_67 ?_
              refine lv_iload hx hb dX1_search_68 (lv_at hl 6 rfl) ?_
              refine kn_iadd hx hb dX1_search_70 ?_
              refine kt_il (v := ct_z (f ((8 * u) + v))) hx hb hK hP 2 1 rfl rfl (by omega) (by decide) rfl dX1_search_71 ?_
              refine lv_aload_n hx hb dX1_search_72 rfl (lv_at hl 0 rfl) ?_
              refine kt_gT B hK hP rfl 1 (by decide) q29 rfl dX1_search_73 ?_
              refine lv_bipush (v := nI (8)) hx hb dX1_search_76 (by decide) ?_
              refine lv_iload hx hb dX1_search_78 (lv_at hl 5 rfl) ?_
              refine kn_imul hx hb dX1_search_80 ?_
              refine lv_iload hx hb dX1_search_81 (lv_at hl 6 rfl) ?_
              refine kn_iadd hx hb dX1_search_83 ?_
              refine kt_bl (v := nI (g ((8 * u) + v))) hx hb hK hP 1 0 rfl rfl (by omega) (by decide) rfl dX1_search_84 ?_
              rw [← ct_z_nat (g ((8 * u) + v))]
              refine kz_lt (tgt := 91) hx hb dX1_search_85 (by decide) (by omega) (by omega) (fun he => ?_) (fun he => ?_)
              · refine lv_aload_n hx hb dX1_search_91 rfl (lv_at hl 0 rfl) ?_
                refine lv_dup hx hb dX1_search_92 rfl ?_
                refine kt_gT B hK hP rfl 5 (by decide) q33 rfl dX1_search_93 ?_
                refine lv_iconst (v := nI (1)) hx hb dX1_search_96 (by decide) ?_
                refine lv_iload hx hb dX1_search_97 (lv_at hl 6 rfl) ?_
                refine kn_shl1 hx hb (by omega) dX1_search_99 ?_
                refine kn_ior hx hb dX1_search_100 ?_
                refine kt_pT (ty := .int) B hK hP hD hS rfl 5 (by decide) q33 rfl (by decide +kernel) rfl rfl (Nat.le_of_ble_eq_true rfl) dX1_search_101 (fun H locs hP hD hS => ?_)
                have hP : va_P D vwCl (wT ad dd n g f cf qu (R ||| (2 ^ v)) b po pb) H := hP
                have hD : va_D A (wT ad dd n g f cf qu (R ||| (2 ^ v)) b po pb) := hD
                refine lv_aload_n hx hb dX1_search_104 rfl (lv_at hl 0 rfl) ?_
                refine kt_gT B hK hP rfl 3 (by decide) q31 rfl dX1_search_105 ?_
                refine lv_iload hx hb dX1_search_108 (lv_at hl 6 rfl) ?_
                refine lv_iload hx hb dX1_search_110 (lv_at hl 5 rfl) ?_
                refine kn_i2b hx hb (by omega) dX1_search_112 ?_
                refine kt_bs (f' := fun iq => nI ((ct_up cf v u) iq)) hx hb hK hP hD hS 3 2 rfl rfl (by omega) (by decide) (ct_updB _ _ (by omega)) dX1_search_113 (fun H locs hP hD hS => ?_)
                have hP : va_P D vwCl (wT ad dd n g f (ct_up cf v u) qu (R ||| (2 ^ v)) b po pb) H := hP
                have hD : va_D A (wT ad dd n g f (ct_up cf v u) qu (R ||| (2 ^ v)) b po pb) := hD
                refine lv_aload_n hx hb dX1_search_114 rfl (lv_at hl 0 rfl) ?_
                refine kt_gT B hK hP rfl 4 (by decide) q32 rfl dX1_search_115 ?_
                refine lv_iload_n hx hb dX1_search_118 rfl (lv_at hl 3 rfl) ?_
                refine lv_iload hx hb dX1_search_119 (lv_at hl 6 rfl) ?_
                refine kn_i2b hx hb (by omega) dX1_search_121 ?_
                refine kt_bs (f' := fun iq => nI ((ct_up qu en v) iq)) hx hb hK hP hD hS 4 3 rfl rfl (by omega) (by decide) (ct_updB _ _ (by omega)) dX1_search_122 (fun H locs hP hD hS => ?_)
                have hP : va_P D vwCl (wT ad dd n g f (ct_up cf v u) (ct_up qu en v) (R ||| (2 ^ v)) b po pb) H := hP
                have hD : va_D A (wT ad dd n g f (ct_up cf v u) (ct_up qu en v) (R ||| (2 ^ v)) b po pb) := hD
                refine lv_iinc (v := nI (en + 1)) (lv' := [(3, .int (nI (en + 1))), (0, .ref (ad 0)), (1, .int (nI (sv))), (2, .int (nI (tv))), (4, .int (nI (k))), (5, .int (nI (u))), (6, .int (nI (v)))]) hx hb dX1_search_123 hl (k := 3) rfl (nI_add en 1) (by decide) rfl (fun ls hl => ?_)
                refine lv_iinc (v := nI (v + 1)) (lv' := [(6, .int (nI (v + 1))), (3, .int (nI (en + 1))), (0, .ref (ad 0)), (1, .int (nI (sv))), (2, .int (nI (tv))), (4, .int (nI (k))), (5, .int (nI (u)))]) hx hb dX1_search_126 hl (k := 6) rfl (nI_add v 1) (by decide) rfl (fun ls hl => ?_)
                refine lv_goto (tgt := 38) hx hb dX1_search_129 (by decide) ?_
                exact ih2 _ _ _ _ _ (ct_SI_add zI zk zu zv hd he) (by omega) (by unfold ct_up; rw [if_neg (by omega)]; exact zu) (ct_SR_add zr) _ _ _ hP hD hS (lv_sub hl [2, 3, 4, 1, 5, 6, 0] rfl)
              · refine lv_goto (tgt := 126) hx hb dX1_search_88 (by decide) ?_
                refine lv_iinc (v := nI (v + 1)) (lv' := [(6, .int (nI (v + 1))), (0, .ref (ad 0)), (1, .int (nI (sv))), (2, .int (nI (tv))), (3, .int (nI (en))), (4, .int (nI (k))), (5, .int (nI (u)))]) hx hb dX1_search_126 hl (k := 6) rfl (nI_add v 1) (by decide) rfl (fun ls hl => ?_)
                refine lv_goto (tgt := 38) hx hb dX1_search_129 (by decide) ?_
                exact ih2 _ _ _ _ _ zI zk zu (ct_SR_skip zr (Or.inr he)) _ _ _ hP hD hS (lv_sub hl [1, 2, 3, 4, 5, 6, 0] rfl)
            · have hbit := ct_bit_t hd
              refine kn_if_ne (tgt := 126) hx hb dX1_search_56 (by decide) (by omega) (fun hq => ?_) (fun hq => absurd hq (by omega))
              refine lv_iinc (v := nI (v + 1)) (lv' := [(6, .int (nI (v + 1))), (0, .ref (ad 0)), (1, .int (nI (sv))), (2, .int (nI (tv))), (3, .int (nI (en))), (4, .int (nI (k))), (5, .int (nI (u)))]) hx hb dX1_search_126 hl (k := 6) rfl (nI_add v 1) (by decide) rfl (fun ls hl => ?_)
              refine lv_goto (tgt := 38) hx hb dX1_search_129 (by decide) ?_
              exact ih2 _ _ _ _ _ zI zk zu (ct_SR_skip zr (Or.inl hd)) _ _ _ hP hD hS (lv_sub hl [1, 2, 3, 4, 5, 6, 0] rfl)
        exact inner 0 (Nat.zero_le _) _ _ _ _ _ zI hc zu (fun w hw => by omega) _ _ _ hP hD hS (lv_sub hl [2, 3, 4, 5, 6, 1, 0] rfl)
  refine lv_iconst (v := nI (1)) hx hb dX1_search_0 (by decide) ?_
  refine lv_istore_n (lv' := [(3, .int (nI (1))), (0, .ref (ad 0)), (1, .int (nI (sv))), (2, .int (nI (tv)))]) hx hb dX1_search_1 rfl hl (by decide) rfl (fun ls hl => ?_)
  refine lv_aload_n hx hb dX1_search_2 rfl (lv_at hl 1 rfl) ?_
  refine kt_gT B hK hP rfl 4 (by decide) q32 rfl dX1_search_3 ?_
  refine lv_iconst (v := nI (0)) hx hb dX1_search_6 (by decide) ?_
  refine lv_iload_n hx hb dX1_search_7 rfl (lv_at hl 2 rfl) ?_
  refine kn_i2b hx hb (by omega) dX1_search_8 ?_
  refine kt_bs (f' := fun iq => nI ((ct_up qu 0 sv) iq)) hx hb hK hP hD hS 4 3 rfl rfl (by omega) (by decide) (ct_updB _ _ (by omega)) dX1_search_9 (fun H locs hP hD hS => ?_)
  have hP : va_P D vwCl (wT ad dd n g f cf (ct_up qu 0 sv) R b po pb) H := hP
  have hD : va_D A (wT ad dd n g f cf (ct_up qu 0 sv) R b po pb) := hD
  refine lv_aload_n hx hb dX1_search_10 rfl (lv_at hl 1 rfl) ?_
  refine lv_iconst (v := nI (1)) hx hb dX1_search_11 (by decide) ?_
  refine lv_iload_n hx hb dX1_search_12 rfl (lv_at hl 2 rfl) ?_
  refine kn_shl1 hx hb (by omega) dX1_search_13 ?_
  refine kt_pT (ty := .int) B hK hP hD hS rfl 5 (by decide) q33 rfl (by decide +kernel) rfl rfl (Nat.le_of_ble_eq_true rfl) dX1_search_14 (fun H locs hP hD hS => ?_)
  have hP : va_P D vwCl (wT ad dd n g f cf (ct_up qu 0 sv) (2 ^ sv) b po pb) H := hP
  have hD : va_D A (wT ad dd n g f cf (ct_up qu 0 sv) (2 ^ sv) b po pb) := hD
  refine lv_iconst (v := nI (0)) hx hb dX1_search_17 (by decide) ?_
  refine lv_istore (lv' := [(4, .int (nI (0))), (3, .int (nI (1))), (0, .ref (ad 0)), (1, .int (nI (sv))), (2, .int (nI (tv)))]) hx hb dX1_search_18 hl (by decide) rfl (fun ls hl => ?_)
  exact outer 0 (Nat.zero_le _) _ _ _ _ _ (ct_SI_0 g f zs cf qu) (by omega) _ _ _ hP hD hS (lv_sub hl [2, 3, 4, 1, 0] rfl)
set_option maxHeartbeats 4000000 in
set_option maxRecDepth 100000 in
theorem mT_room (l : Launch) (D : va_G) (ad : Nat → Nat) (dd : Nat → ClassId) (n : Nat) (g : Nat → Nat) (f : Nat → Int) (cf qu : Nat → Nat) (R b : Nat) (po pb : Nat → Nat) (zn : n ≤ 8) (zg : ct_G g) (zf : ∀ u v, u < n → v < n → -50 ≤ f (8 * u + v) ∧ f (8 * u + v) ≤ 50) (sv tv : Nat) (zs : sv < n) (zt : tv < n) (ord : Nat → Nat) (zS : ct_S n g f sv R cf ord) (ztR : R.testBit tv = true) : kt_Mi l yX1_roomOnWay cX1_roomOnWay 7 .int 0 D (tyT dd) (wT ad dd n g f cf qu R b po pb) [.ref (ad 0), .int (nI (sv)), .int (nI (tv))] (fun r (_ : Unit) => ∃ (K : Nat) (mm : Int), r = ct_z mm ∧ ct_way n g f sv tv cf K mm) (fun _ => wT ad dd n g f cf qu R b po pb) := by
  refine kt_inI (by decide) (Nat.le_of_ble_eq_true rfl) (fun r _ h => rfl) ?_
  intro p e s m args below meth c A Q H ls B hA hK hP hD hS hl hret
  have B : CallFix p m c cX1_roomOnWay 7 s args lw_all RX1 := B
  have hx := B.1
  have hb := B.2.1
  have hl : lv_has ls 7 [(0, .ref (ad 0)), (1, .int (nI (sv))), (2, .int (nI (tv)))] := hl
  have loop : ∀ (d v j : Nat) (rm : Int), ord v < d → v = ct_it cf tv j → v < n → R.testBit v = true → 1 ≤ rm → rm ≤ 1000 → (∀ i, i < j → ct_it cf tv i ≠ sv ∧ rm ≤ (g (8 * cf (ct_it cf tv i) + ct_it cf tv i) : Int) - f (8 * cf (ct_it cf tv i) + ct_it cf tv i)) → ∀ (H : Heap) (locs : List Loc) (ls : Array Slot), va_P D vwCl (wT ad dd n g f cf qu R b po pb) H → va_D A (wT ad dd n g f cf qu R b po pb) → va_S A s.heap H locs → lv_has ls 7 [(0, .ref (ad 0)), (1, .int (nI (sv))), (3, .int (ct_z (rm))), (4, .int (nI (v)))] → W p l e (kt_rm 0) s m args below meth c H locs 0 0 Q (F0 m 7 ls []) := by
    intro d
    induction d with
    | zero => intro v j rm h; omega
    | succ d ih =>
      intro v j rm zd zj zv zvR zr1 zr2 zw H locs ls hP hD hS hl
      refine lv_iload hx hb dX1_roomOnWay_7 (lv_at hl 3 rfl) ?_
      refine lv_iload_n hx hb dX1_roomOnWay_9 rfl (lv_at hl 1 rfl) ?_
      refine kn_eq (tgt := 67) hx hb dX1_roomOnWay_10 (by decide) (by omega) (by omega) (fun hc => ?_) (fun hc => ?_)
      · refine lv_iload_n hx hb dX1_roomOnWay_67 rfl (lv_at hl 2 rfl) ?_
        exact hret _ () _ _ _ _ (⟨j, rm, rfl, zr1, zr2, by rw [← zj]; exact hc, zw⟩) hP hD hS dX1_roomOnWay_68
      · obtain ⟨b1, b2, b3, b4⟩ := zS v zv zvR hc
        obtain ⟨u, zu⟩ : ∃ u, cf v = u := ⟨_, rfl⟩
        rw [zu] at b1 b2 b3 b4
        have zfr := zf u v b1 zv
        have zgr := zg.2.2 (8 * u + v)
        have zall : ∀ rm2 : Int, rm2 ≤ rm → rm2 ≤ (g (8 * u + v) : Int) - f (8 * u + v) → ∀ i, i < j + 1 → ct_it cf tv i ≠ sv ∧ rm2 ≤ (g (8 * cf (ct_it cf tv i) + ct_it cf tv i) : Int) - f (8 * cf (ct_it cf tv i) + ct_it cf tv i) := by
          intro rm2 q1 q2 i hi
          by_cases ei : i = j
          · rw [ei, ← zj, zu]; exact ⟨hc, q2⟩
          · have := zw i (by omega); exact ⟨this.1, by omega⟩
        refine lv_aload_n hx hb dX1_roomOnWay_13 rfl (lv_at hl 0 rfl) ?_
        refine kt_gT B hK hP rfl 3 (by decide) q31 rfl dX1_roomOnWay_14 ?_
        refine lv_iload hx hb dX1_roomOnWay_17 (lv_at hl 3 rfl) ?_
        refine kt_bl (v := nI (cf v)) hx hb hK hP 3 2 rfl rfl (by omega) (by decide) rfl dX1_roomOnWay_19 ?_
        refine kt_e (show nI (cf v) = nI (u) from by rw [zu]) ?_
        refine lv_istore (lv' := [(5, .int (nI (u))), (0, .ref (ad 0)), (1, .int (nI (sv))), (3, .int (ct_z (rm))), (4, .int (nI (v)))]) hx hb dX1_roomOnWay_20 hl (by decide) rfl (fun ls hl => ?_)
        refine lv_aload_n hx hb dX1_roomOnWay_22 rfl (lv_at hl 1 rfl) ?_
        refine kt_gT B hK hP rfl 1 (by decide) q29 rfl dX1_roomOnWay_23 ?_
        refine lv_bipush (v := nI (8)) hx hb dX1_roomOnWay_26 (by decide) ?_
        refine lv_iload hx hb dX1_roomOnWay_28 (lv_at hl 0 rfl) ?_
        refine kn_imul hx hb dX1_roomOnWay_30 ?_
        refine lv_iload hx hb dX1_roomOnWay_31 (lv_at hl 4 rfl) ?_
        refine kn_iadd hx hb dX1_roomOnWay_33 ?_
        refine kt_bl (v := nI (g ((8 * u) + v))) hx hb hK hP 1 0 rfl rfl (by omega) (by decide) rfl dX1_roomOnWay_34 ?_
        refine lv_aload_n hx hb dX1_roomOnWay_35 rfl (lv_at hl 1 rfl) ?_
        refine kt_gT B hK hP rfl 2 (by decide) q30 rfl dX1_roomOnWay_36 ?_
        refine lv_bipush (v := nI (8)) hx hb dX1_roomOnWay_39 (by decide) ?_
        refine lv_iload hx hb dX1_roomOnWay_41 (lv_at hl 0 rfl) ?_
        refine kn_imul hx hb dX1_roomOnWay_43 ?_
        refine lv_iload hx hb dX1_roomOnWay_44 (lv_at hl 4 rfl) ?_
        refine kn_iadd hx hb dX1_roomOnWay_46 ?_
        refine kt_il (v := ct_z (f ((8 * u) + v))) hx hb hK hP 2 1 rfl rfl (by omega) (by decide) rfl dX1_roomOnWay_47 ?_
        refine lv_isub hx hb dX1_roomOnWay_48 (kt_e (show nI (g ((8 * u) + v)) - ct_z (f ((8 * u) + v)) = ct_z ((g ((8 * u) + v) : Nat) - (f ((8 * u) + v))) by rw [← ct_z_nat]; exact ct_z_sub _ _) ?_)
        refine lv_istore (lv' := [(6, .int (ct_z (((g ((8 * u) + v) : Nat) : Int) - (f ((8 * u) + v))))), (5, .int (nI (u))), (0, .ref (ad 0)), (1, .int (nI (sv))), (3, .int (ct_z (rm))), (4, .int (nI (v)))]) hx hb dX1_roomOnWay_49 hl (by decide) rfl (fun ls hl => ?_)
        refine lv_iload hx hb dX1_roomOnWay_51 (lv_at hl 0 rfl) ?_
        refine lv_iload_n hx hb dX1_roomOnWay_53 rfl (lv_at hl 4 rfl) ?_
        refine kz_ge (tgt := 60) hx hb dX1_roomOnWay_54 (by decide) (by omega) (by omega) (fun he => ?_) (fun he => ?_)
        · refine lv_iload hx hb dX1_roomOnWay_60 (lv_at hl 1 rfl) ?_
          refine lv_istore (lv' := [(4, .int (nI (u))), (6, .int (ct_z (((g ((8 * u) + v) : Nat) : Int) - (f ((8 * u) + v))))), (5, .int (nI (u))), (0, .ref (ad 0)), (1, .int (nI (sv))), (3, .int (ct_z (rm)))]) hx hb dX1_roomOnWay_62 hl (by decide) rfl (fun ls hl => ?_)
          refine lv_goto (tgt := 7) hx hb dX1_roomOnWay_64 (by decide) ?_
          exact ih _ (j + 1) _ (by omega) (by rw [ct_it, ← zj]; exact zu.symm) b1 b2 zr1 zr2 (zall _ (Int.le_refl _) he) _ _ _ hP hD hS (lv_sub hl [3, 4, 5, 0] rfl)
        · refine lv_iload hx hb dX1_roomOnWay_57 (lv_at hl 0 rfl) ?_
          refine lv_istore_n (lv' := [(3, .int (ct_z (((g ((8 * u) + v) : Nat) : Int) - (f ((8 * u) + v))))), (6, .int (ct_z (((g ((8 * u) + v) : Nat) : Int) - (f ((8 * u) + v))))), (5, .int (nI (u))), (0, .ref (ad 0)), (1, .int (nI (sv))), (4, .int (nI (v)))]) hx hb dX1_roomOnWay_59 rfl hl (by decide) rfl (fun ls hl => ?_)
          refine lv_iload hx hb dX1_roomOnWay_60 (lv_at hl 2 rfl) ?_
          refine lv_istore (lv' := [(4, .int (nI (u))), (3, .int (ct_z (((g ((8 * u) + v) : Nat) : Int) - (f ((8 * u) + v))))), (6, .int (ct_z (((g ((8 * u) + v) : Nat) : Int) - (f ((8 * u) + v))))), (5, .int (nI (u))), (0, .ref (ad 0)), (1, .int (nI (sv)))]) hx hb dX1_roomOnWay_62 hl (by decide) rfl (fun ls hl => ?_)
          refine lv_goto (tgt := 7) hx hb dX1_roomOnWay_64 (by decide) ?_
          exact ih _ (j + 1) _ (by omega) (by rw [ct_it, ← zj]; exact zu.symm) b1 b2 (by omega) (by omega) (zall _ (by omega) (Int.le_refl _)) _ _ _ hP hD hS (lv_sub hl [4, 5, 1, 0] rfl)
  refine lv_sipush (v := nI (1000)) hx hb dX1_roomOnWay_0 (by decide) ?_
  refine lv_istore_n (lv' := [(3, .int (nI (1000))), (0, .ref (ad 0)), (1, .int (nI (sv))), (2, .int (nI (tv)))]) hx hb dX1_roomOnWay_3 rfl hl (by decide) rfl (fun ls hl => ?_)
  refine lv_iload_n hx hb dX1_roomOnWay_4 rfl (lv_at hl 3 rfl) ?_
  refine lv_istore (lv' := [(4, .int (nI (tv))), (3, .int (nI (1000))), (0, .ref (ad 0)), (1, .int (nI (sv))), (2, .int (nI (tv)))]) hx hb dX1_roomOnWay_5 hl (by decide) rfl (fun ls hl => ?_)
  have hl : lv_has ls 7 [(4, .int (nI (tv))), (3, .int (ct_z (1000))), (0, .ref (ad 0)), (1, .int (nI (sv))), (2, .int (nI (tv)))] := by rw [← (show nI (1000) = ct_z (1000) from (ct_z_nat 1000).symm)]; exact hl
  exact loop (ord tv + 1) tv 0 1000 (by omega) rfl zt ztR (by omega) (by omega) (fun i hi => by omega) _ _ _ hP hD hS (lv_sub hl [2, 3, 1, 0] rfl)
set_option maxHeartbeats 4000000 in
set_option maxRecDepth 100000 in
theorem mT_push (l : Launch) (D : va_G) (ad : Nat → Nat) (dd : Nat → ClassId) (n : Nat) (g : Nat → Nat) (f : Nat → Int) (cf qu : Nat → Nat) (R b : Nat) (po pb : Nat → Nat) (zn : n ≤ 8) (zg : ct_G g) (sv tv : Nat) (zs : sv < n) (zt : tv < n) (zst : sv ≠ tv) (ord : Nat → Nat) (val : Int) (zF : ct_F n g f sv tv val) (zS : ct_S n g f sv R cf ord) (ztR : R.testBit tv = true) (K : Nat) (mm : Int) (zw : ct_way n g f sv tv cf K mm) : kt_Mv l yX1_push cX1_push 6 0 D (tyT dd) (wT ad dd n g f cf qu R b po pb) [.ref (ad 0), .int (nI (sv)), .int (nI (tv)), .int (ct_z (mm))] (fun (f2 : Nat → Int) => ct_F n g f2 sv tv (val + mm)) (fun f2 => wT ad dd n g f2 cf qu R b po pb) := by
  refine kt_inV (by decide) (Nat.le_of_ble_eq_true rfl) ?_
  intro p e s m args below meth c A Q H ls B hA hK hP hD hS hl hret
  have B : CallFix p m c cX1_push 6 s args lw_all RX1 := B
  have hx := B.1
  have hb := B.2.1
  have hl : lv_has ls 6 [(0, .ref (ad 0)), (1, .int (nI (sv))), (2, .int (nI (tv))), (3, .int (ct_z (mm)))] := hl
  have loop : ∀ j, j ≤ K → ∀ (v : Nat) (f2 : Nat → Int), v = ct_it cf tv j → v < n → R.testBit v = true → ct_PI n g f f2 ord v tv mm → ∀ (H : Heap) (locs : List Loc) (ls : Array Slot), va_P D vwCl (wT ad dd n g f2 cf qu R b po pb) H → va_D A (wT ad dd n g f2 cf qu R b po pb) → va_S A s.heap H locs → lv_has ls 6 [(0, .ref (ad 0)), (1, .int (nI (sv))), (3, .int (ct_z (mm))), (4, .int (nI (v)))] → W p l e (kt_rm 0) s m args below meth c H locs 0 0 Q (F0 m 3 ls []) := by
    refine kt_up ?_ ?_
    · intro v f2 zj zv zvR zP H locs ls hP hD hS hl
      have hc : v = sv := by rw [zj]; exact zw.2.2.1
      subst hc
      refine lv_iload hx hb dX1_push_3 (lv_at hl 3 rfl) ?_
      refine lv_iload_n hx hb dX1_push_5 rfl (lv_at hl 1 rfl) ?_
      refine kn_eq (tgt := 59) hx hb dX1_push_6 (by decide) (by omega) (by omega) (fun hq => ?_) (fun hq => absurd hq (by omega))
      exact hret f2 _ _ _ _ (ct_PI_end zF zs zst zP) hP hD hS dX1_push_59
    · intro j zjK ih v f2 zj zv zvR zP H locs ls hP hD hS hl
      have zw2 := zw.2.2.2 j zjK
      rw [← zj] at zw2
      obtain ⟨hc, zw2⟩ := zw2
      obtain ⟨b1, b2, b3, b4⟩ := zS v zv zvR hc
      obtain ⟨u, zu⟩ : ∃ u, cf v = u := ⟨_, rfl⟩
      rw [zu] at b1 b2 b3 b4 zw2
      refine lv_iload hx hb dX1_push_3 (lv_at hl 3 rfl) ?_
      refine lv_iload_n hx hb dX1_push_5 rfl (lv_at hl 1 rfl) ?_
      refine kn_eq (tgt := 59) hx hb dX1_push_6 (by decide) (by omega) (by omega) (fun hq => absurd hq (by omega)) (fun hq => ?_)
      refine lv_aload_n hx hb dX1_push_9 rfl (lv_at hl 0 rfl) ?_
      refine kt_gT B hK hP rfl 3 (by decide) q31 rfl dX1_push_10 ?_
      refine lv_iload hx hb dX1_push_13 (lv_at hl 3 rfl) ?_
      refine kt_bl (v := nI (cf v)) hx hb hK hP 3 2 rfl rfl (by omega) (by decide) rfl dX1_push_15 ?_
      refine kt_e (show nI (cf v) = nI (u) from by rw [zu]) ?_
      refine lv_istore (lv' := [(5, .int (nI (u))), (0, .ref (ad 0)), (1, .int (nI (sv))), (3, .int (ct_z (mm))), (4, .int (nI (v)))]) hx hb dX1_push_16 hl (by decide) rfl (fun ls hl => ?_)
      refine lv_aload_n hx hb dX1_push_18 rfl (lv_at hl 1 rfl) ?_
      refine kt_gT B hK hP rfl 2 (by decide) q30 rfl dX1_push_19 ?_
      refine lv_bipush (v := nI (8)) hx hb dX1_push_22 (by decide) ?_
      refine lv_iload hx hb dX1_push_24 (lv_at hl 0 rfl) ?_
      refine kn_imul hx hb dX1_push_26 ?_
      refine lv_iload hx hb dX1_push_27 (lv_at hl 4 rfl) ?_
      refine kn_iadd hx hb dX1_push_29 ?_
      refine lv_dup2_11 hx hb dX1_push_30 rfl rfl ?_
      refine kt_il (v := ct_z (f2 ((8 * u) + v))) hx hb hK hP 2 1 rfl rfl (by omega) (by decide) rfl dX1_push_31 ?_
      refine lv_iload_n hx hb dX1_push_32 rfl (lv_at hl 3 rfl) ?_
      refine lv_iadd hx hb dX1_push_33 (kt_e (ct_z_add _ _) ?_)
      refine kt_is (f' := fun iq => ct_z ((ct_upz f2 ((8 * u) + v) ((f2 ((8 * u) + v)) + mm)) iq)) hx hb hK hP hD hS 2 1 rfl rfl (by omega) (by decide) (ct_updZ _ _ _) dX1_push_34 (fun H locs hP hD hS => ?_)
      have hP : va_P D vwCl (wT ad dd n g (ct_upz f2 ((8 * u) + v) ((f2 ((8 * u) + v)) + mm)) cf qu R b po pb) H := hP
      have hD : va_D A (wT ad dd n g (ct_upz f2 ((8 * u) + v) ((f2 ((8 * u) + v)) + mm)) cf qu R b po pb) := hD
      refine lv_aload_n hx hb dX1_push_35 rfl (lv_at hl 1 rfl) ?_
      refine kt_gT B hK hP rfl 2 (by decide) q30 rfl dX1_push_36 ?_
      refine lv_bipush (v := nI (8)) hx hb dX1_push_39 (by decide) ?_
      refine lv_iload hx hb dX1_push_41 (lv_at hl 4 rfl) ?_
      refine kn_imul hx hb dX1_push_43 ?_
      refine lv_iload hx hb dX1_push_44 (lv_at hl 0 rfl) ?_
      refine kn_iadd hx hb dX1_push_46 ?_
      refine lv_dup2_11 hx hb dX1_push_47 rfl rfl ?_
      refine kt_il (v := ct_z ((ct_upz f2 ((8 * u) + v) ((f2 ((8 * u) + v)) + mm)) ((8 * v) + u))) hx hb hK hP 2 1 rfl rfl (by omega) (by decide) rfl dX1_push_48 ?_
      refine lv_iload_n hx hb dX1_push_49 rfl (lv_at hl 3 rfl) ?_
      refine lv_isub hx hb dX1_push_50 (kt_e (ct_z_sub _ _) ?_)
      refine kt_is (f' := fun iq => ct_z ((ct_upz (ct_upz f2 ((8 * u) + v) ((f2 ((8 * u) + v)) + mm)) ((8 * v) + u) (((ct_upz f2 ((8 * u) + v) ((f2 ((8 * u) + v)) + mm)) ((8 * v) + u)) - mm)) iq)) hx hb hK hP hD hS 2 1 rfl rfl (by omega) (by decide) (ct_updZ _ _ _) dX1_push_51 (fun H locs hP hD hS => ?_)
      have hP : va_P D vwCl (wT ad dd n g (ct_upz (ct_upz f2 ((8 * u) + v) ((f2 ((8 * u) + v)) + mm)) ((8 * v) + u) (((ct_upz f2 ((8 * u) + v) ((f2 ((8 * u) + v)) + mm)) ((8 * v) + u)) - mm)) cf qu R b po pb) H := hP
      have hD : va_D A (wT ad dd n g (ct_upz (ct_upz f2 ((8 * u) + v) ((f2 ((8 * u) + v)) + mm)) ((8 * v) + u) (((ct_upz f2 ((8 * u) + v) ((f2 ((8 * u) + v)) + mm)) ((8 * v) + u)) - mm)) cf qu R b po pb) := hD
      refine lv_iload hx hb dX1_push_52 (lv_at hl 0 rfl) ?_
      refine lv_istore (lv' := [(4, .int (nI (u))), (5, .int (nI (u))), (0, .ref (ad 0)), (1, .int (nI (sv))), (3, .int (ct_z (mm)))]) hx hb dX1_push_54 hl (by decide) rfl (fun ls hl => ?_)
      refine lv_goto (tgt := 3) hx hb dX1_push_56 (by decide) ?_
      have hwe : ct_upz (ct_upz f2 ((8 * u) + v) ((f2 ((8 * u) + v)) + mm)) ((8 * v) + u) (((ct_upz f2 ((8 * u) + v) ((f2 ((8 * u) + v)) + mm)) ((8 * v) + u)) - mm) = ct_push f2 u v mm := rfl
      have hP : va_P D vwCl (wT ad dd n g (ct_push f2 u v mm) cf qu R b po pb) H := by rw [← hwe]; exact hP
      have hD : va_D A (wT ad dd n g (ct_push f2 u v mm) cf qu R b po pb) := by rw [← hwe]; exact hD
      clear hwe
      exact ih u (ct_push f2 u v mm) (by rw [ct_it, ← zj]; exact zu.symm) b1 b2 (ct_PI_step zn (by have := zw.1; omega) b1 zv b3 zw2 zP) _ _ _ hP hD hS (lv_sub hl [2, 3, 4, 0] rfl)
  refine lv_iload_n hx hb dX1_push_0 rfl (lv_at hl 2 rfl) ?_
  refine lv_istore (lv' := [(4, .int (nI (tv))), (0, .ref (ad 0)), (1, .int (nI (sv))), (2, .int (nI (tv))), (3, .int (ct_z (mm)))]) hx hb dX1_push_1 hl (by decide) rfl (fun ls hl => ?_)
  exact loop 0 (Nat.zero_le _) tv f rfl zt ztR (ct_PI_0 zF ord mm) _ _ _ hP hD hS (lv_sub hl [1, 2, 4, 0] rfl)
end
section
/-! ===== while the tree is built ===== -/
/-- point u being parted: the later points below v have been looked at -/
def ct_HI (n : Nat) (R : Nat) (p q : Nat → Nat) (u v : Nat) : Prop := ∀ w, w < n → q w = if w < v then ct_hang R.testBit p u w else p w
theorem ct_HI_0 {n R : Nat} {p : Nat → Nat} {u : Nat} : ct_HI n R p p u (u + 1) := by
  intro w _
  split
  · unfold ct_hang
    rw [if_neg (by omega)]
  · rfl
theorem ct_HI_hit {n R : Nat} {p q : Nat → Nat} {u v : Nat} (h : ct_HI n R p q u v) (hv : v < n) (huv : u < v) (h1 : R.testBit v = true) (h2 : q v = q u) : ct_HI n R p (ct_up q v u) u (v + 1) := by
  have ev : q v = p v := by rw [h v hv, if_neg (by omega)]
  have eu : q u = p u := by
    rw [h u (by omega), if_pos (by omega)]
    unfold ct_hang
    rw [if_neg (by omega)]
  intro w hw
  unfold ct_up
  by_cases e : w = v
  · subst e
    rw [if_pos rfl, if_pos (by omega)]
    unfold ct_hang
    rw [if_pos ⟨huv, h1, by rw [← ev, ← eu]; exact h2⟩]
  · rw [if_neg e, h w hw]
    by_cases c : w < v
    · rw [if_pos c, if_pos (by omega)]
    · rw [if_neg c, if_neg (by omega)]
theorem ct_HI_miss {n R : Nat} {p q : Nat → Nat} {u v : Nat} (h : ct_HI n R p q u v) (hv : v < n) (huv : u < v) (h1 : R.testBit v = false ∨ ¬ q v = q u) : ct_HI n R p q u (v + 1) := by
  have ev : q v = p v := by rw [h v hv, if_neg (by omega)]
  have eu : q u = p u := by
    rw [h u (by omega), if_pos (by omega)]
    unfold ct_hang
    rw [if_neg (by omega)]
  intro w hw
  by_cases e : w = v
  · subst e
    rw [if_pos (by omega), ev]
    unfold ct_hang
    rw [if_neg (fun z => by
      rcases h1 with q1 | q1
      · rw [q1] at z; exact absurd z.2.1 (by decide)
      · exact q1 (by rw [ev, eu]; exact z.2.2))]
  · rw [h w hw]
    by_cases c : w < v
    · rw [if_pos c, if_pos (by omega)]
    · rw [if_neg c, if_neg (by omega)]
theorem ct_HI_rng {n R : Nat} {g p q : Nat → Nat} {u v : Nat} (h : ct_HI n R p q u v) (hI : ct_I n g p u) (h1 : 1 ≤ u) (hu : u < n) : ∀ w, w < n → 1 ≤ w → q w < n := by
  intro w hw hw1
  have hp : p w < n := by
    rcases Nat.lt_or_ge w u with q | q
    · have := (hI.1 w hw1 q hw).1; omega
    · have := (hI.2.1 w q hw).1; omega
  rw [h w hw]
  split
  · unfold ct_hang
    split
    · exact hu
    · exact hp
  · exact hp
/-- what each point of those below u hangs by -/
def ct_HB (n : Nat) (g po pb : Nat → Nat) (u : Nat) : Prop := ∀ w, 1 ≤ w → w < u → pb w = ct_lam n g w (po w)
theorem ct_step {n : Nat} {g po pb q : Nat → Nat} {u R : Nat} (hn : n ≤ 8) (hg : ct_G g) (h1 : 1 ≤ u) (hu : u < n) (hI : ct_I n g po u) (hB : ct_HB n g po pb u) (hM : ct_MF n g u (po u) R) (hH : ct_HI n R po q u n) : ct_I n g q (u + 1) ∧ ct_HB n g q (ct_up pb u (ct_lam n g u (po u))) (u + 1) := by
  have hq : ∀ v, v < n → q v = ct_hang R.testBit po u v := fun v hv => by rw [hH v hv, if_pos hv]
  have hq2 : ∀ v, v ≤ u → q v = po v := fun v hv => by
    rw [hq v (by omega)]
    unfold ct_hang
    rw [if_neg (by omega)]
  refine ⟨ct_I_step hn hg h1 hu hI hM.2.1 hM.2.2.1 hM.2.2.2.1 hq, fun w a b => ?_⟩
  rw [hq2 w (by omega)]
  unfold ct_up
  by_cases e : w = u
  · rw [if_pos e, e]
  · rw [if_neg e]
    exact hB w a (by omega)
end
section
/-! ===== the tree, the largest flow ===== -/
set_option maxHeartbeats 4000000 in
set_option maxRecDepth 100000 in
theorem mT_flow (l : Launch) (D : va_G) (ad : Nat → Nat) (dd : Nat → ClassId) (n : Nat) (g : Nat → Nat) (f : Nat → Int) (cf qu : Nat → Nat) (R b : Nat) (po pb : Nat → Nat) (zn : n ≤ 8) (zg : ct_G g) (sv tv : Nat) (zs : sv < n) (zt : tv < n) (zst : sv ≠ tv) : kt_Mi l yX1_largestFlow cX1_largestFlow 5 .int 1 D (tyT dd) (wT ad dd n g f cf qu R b po pb) [.ref (ad 0), .int (nI (sv)), .int (nI (tv))] (fun r (q : (Nat → Int) × (Nat → Nat) × (Nat → Nat) × Nat) => r = nI (ct_lam n g sv tv) ∧ ct_MF n g sv tv q.2.2.2) (fun q => wT ad dd n g q.1 q.2.1 q.2.2.1 q.2.2.2 b po pb) := by
  refine kt_inI (by decide) (Nat.le_of_ble_eq_true rfl) (fun r _ h => rfl) ?_
  intro p e s m args below meth c A Q H ls B hA hK hP hD hS hl hret
  have B : CallFix p m c cX1_largestFlow 5 s args lw_all RX1 := B
  have hx := B.1
  have hb := B.2.1
  have hl : lv_has ls 5 [(0, .ref (ad 0)), (1, .int (nI (sv))), (2, .int (nI (tv)))] := hl
  have ways : ∀ (d : Nat) (val : Int) (f : Nat → Int) (cf qu : Nat → Nat) (R : Nat), ct_F n g f sv tv val → (ct_cut n g (fun i => decide (i = sv)) : Int) - val < d → ∀ (H : Heap) (locs : List Loc) (ls : Array Slot), va_P D vwCl (wT ad dd n g f cf qu R b po pb) H → va_D A (wT ad dd n g f cf qu R b po pb) → va_S A s.heap H locs → lv_has ls 5 [(0, .ref (ad 0)), (1, .int (nI (sv))), (2, .int (nI (tv))), (3, .int (ct_z (val)))] → W p l e (kt_rm 1) s m args below meth c H locs 0 0 Q (F0 m 23 ls []) := by
    intro d
    induction d with
    | zero =>
      intro val f cf qu R zF zd
      have := ct_F_le zF zs (X := fun i => decide (i = sv)) (by simp) (by simp [Ne.symm zst])
      omega
    | succ d ih =>
      intro val f cf qu R zF zd H locs ls hP hD hS hl
      have zf : ∀ u v, u < n → v < n → -50 ≤ f (8 * u + v) ∧ f (8 * u + v) ≤ 50 := fun u v hu hv => ct_F_rng zF zg hu hv
      refine lv_aload_n hx hb dX1_largestFlow_23 rfl (lv_at hl 0 rfl) ?_
      refine lv_iload_n hx hb dX1_largestFlow_24 rfl (lv_at hl 1 rfl) ?_
      refine lv_iload_n hx hb dX1_largestFlow_25 rfl (lv_at hl 2 rfl) ?_
      refine kt_callI (wr := []) (rest := []) B (mT_search l D ad dd n g f cf qu R b po pb zn zg zf sv tv zs zt) (cwV 2 B.2.2.2.2 (lw_V q86 q88 qs4 q18 q89) rfl rfl rfl (by decide +kernel) ⟨Nat.le_of_ble_eq_true rfl, Nat.le_of_ble_eq_true rfl⟩) [0, 1, 2, 3, 4, 5, 6] [] [0, 1, 2, 3, 4, 5] rfl rfl rfl rfl rfl (fun _ h _ => absurd h List.not_mem_nil) rfl hA hK hP hD hS (ci := 0) rfl rfl rfl rfl hl.1 rfl (Nat.le_of_ble_eq_true rfl) dX1_largestFlow_26 ⟨Nat.le_refl _, Nat.le_refl _⟩ (fun rx ux H locs hw hP hD hS => ?_)
      obtain ⟨cf2, qu2, R2⟩ := ux
      dsimp only at hw
      have hP : va_P D vwCl (wT ad dd n g f cf2 qu2 R2 b po pb) H := hP
      have hD : va_D A (wT ad dd n g f cf2 qu2 R2 b po pb) := hD
      obtain ⟨hw, zR, zsR, ⟨ord, zS⟩, zsat⟩ := hw
      have hw : rx = nI (ct_bn (R2.testBit tv)) := hw
      subst hw
      refine kn_if_eq (tgt := 56) hx hb dX1_largestFlow_29 (by decide) (ct_bn_lt _) (fun hc => ?_) (fun hc => ?_)
      · have zend := ct_MF_of zF zs zR zsR (ct_bn_0 hc) zS zsat
        refine lv_iload_n hx hb dX1_largestFlow_56 rfl (lv_at hl 3 rfl) ?_
        refine kt_e (show ct_z (val) = nI (ct_lam n g sv tv) from zend.2) ?_
        exact hret _ ((f, cf2, qu2, R2)) _ _ _ _ (⟨rfl, zend.1⟩) hP hD hS dX1_largestFlow_57
      · refine lv_aload_n hx hb dX1_largestFlow_32 rfl (lv_at hl 0 rfl) ?_
        refine lv_iload_n hx hb dX1_largestFlow_33 rfl (lv_at hl 1 rfl) ?_
        refine lv_iload_n hx hb dX1_largestFlow_34 rfl (lv_at hl 2 rfl) ?_
        refine kt_callI (wr := []) (rest := []) B (mT_room l D ad dd n g f cf2 qu2 R2 b po pb zn zg zf sv tv zs zt ord zS (ct_bn_1 hc)) (cwV 2 B.2.2.2.2 (lw_V q90 q92 qs5 q18 q93) rfl rfl rfl (by decide +kernel) ⟨Nat.le_of_ble_eq_true rfl, Nat.le_of_ble_eq_true rfl⟩) [0, 1, 2, 3, 4, 5, 6] [] [0, 1, 2, 3, 4, 5] rfl rfl rfl rfl rfl (fun _ h _ => absurd h List.not_mem_nil) rfl hA hK hP hD hS (ci := 0) rfl rfl rfl rfl hl.1 rfl (Nat.le_of_ble_eq_true rfl) dX1_largestFlow_35 ⟨Nat.le_refl _, Nat.le_refl _⟩ (fun rx ux H locs hw hP hD hS => ?_)
        have hP : va_P D vwCl (wT ad dd n g f cf2 qu2 R2 b po pb) H := hP
        have hD : va_D A (wT ad dd n g f cf2 qu2 R2 b po pb) := hD
        obtain ⟨K, mm, hw, zw⟩ := hw
        have hw : rx = ct_z (mm) := hw
        subst hw
        refine lv_istore (lv' := [(4, .int (ct_z (mm))), (0, .ref (ad 0)), (1, .int (nI (sv))), (2, .int (nI (tv))), (3, .int (ct_z (val)))]) hx hb dX1_largestFlow_38 hl (by decide) rfl (fun ls hl => ?_)
        refine lv_aload_n hx hb dX1_largestFlow_40 rfl (lv_at hl 1 rfl) ?_
        refine lv_iload_n hx hb dX1_largestFlow_41 rfl (lv_at hl 2 rfl) ?_
        refine lv_iload_n hx hb dX1_largestFlow_42 rfl (lv_at hl 3 rfl) ?_
        refine lv_iload hx hb dX1_largestFlow_43 (lv_at hl 0 rfl) ?_
        refine kt_callV (wr := []) (rest := []) B (mT_push l D ad dd n g f cf2 qu2 R2 b po pb zn zg sv tv zs zt zst ord val zF zS (ct_bn_1 hc) K mm zw) (cwV 3 B.2.2.2.2 (lw_V q94 q96 qs6 q18 q97) rfl rfl rfl (by decide +kernel) ⟨Nat.le_of_ble_eq_true rfl, Nat.le_of_ble_eq_true rfl⟩) [0, 1, 2, 3, 4, 5, 6] [] [0, 1, 2, 3, 4, 5] rfl rfl rfl rfl rfl (fun _ h _ => absurd h List.not_mem_nil) rfl hA hK hP hD hS (ci := 0) rfl rfl rfl rfl hl.1 rfl (Nat.le_of_ble_eq_true rfl) dX1_largestFlow_45 ⟨Nat.le_refl _, Nat.le_refl _⟩ (fun ux H locs hw hP hD hS => ?_)
        obtain ⟨f3, rfl⟩ : ∃ z, z = ux := ⟨_, rfl⟩
        have hP : va_P D vwCl (wT ad dd n g f3 cf2 qu2 R2 b po pb) H := hP
        have hD : va_D A (wT ad dd n g f3 cf2 qu2 R2 b po pb) := hD
        refine lv_iload_n hx hb dX1_largestFlow_48 rfl (lv_at hl 4 rfl) ?_
        refine lv_iload hx hb dX1_largestFlow_49 (lv_at hl 0 rfl) ?_
        refine lv_iadd hx hb dX1_largestFlow_51 (kt_e (ct_z_add _ _) ?_)
        refine lv_istore_n (lv' := [(3, .int (ct_z (val + mm))), (4, .int (ct_z (mm))), (0, .ref (ad 0)), (1, .int (nI (sv))), (2, .int (nI (tv)))]) hx hb dX1_largestFlow_52 rfl hl (by decide) rfl (fun ls hl => ?_)
        refine lv_goto (tgt := 23) hx hb dX1_largestFlow_53 (by decide) ?_
        exact ih _ _ _ _ _ hw (by have := zw.1; omega) _ _ _ hP hD hS (lv_sub hl [2, 3, 4, 0] rfl)
  have zero : ∀ k, k ≤ 64 → ∀ f1 : Nat → Int, (∀ i, i < k → f1 i = 0) → ∀ (H : Heap) (locs : List Loc) (ls : Array Slot), va_P D vwCl (wT ad dd n g f1 cf qu R b po pb) H → va_D A (wT ad dd n g f1 cf qu R b po pb) → va_S A s.heap H locs → lv_has ls 5 [(0, .ref (ad 0)), (1, .int (nI (sv))), (2, .int (nI (tv))), (3, .int (nI (k)))] → W p l e (kt_rm 1) s m args below meth c H locs 0 0 Q (F0 m 2 ls []) := by
    refine kt_up ?_ ?_
    · intro f1 z0 H locs ls hP hD hS hl
      refine lv_iload_n hx hb dX1_largestFlow_2 rfl (lv_at hl 3 rfl) ?_
      refine lv_bipush (v := nI (64)) hx hb dX1_largestFlow_3 (by decide) ?_
      refine kn_ge (tgt := 21) hx hb dX1_largestFlow_5 (by decide) (by omega) (by omega) (fun hq => ?_) (fun hq => absurd hq (by omega))
      refine lv_iconst (v := nI (0)) hx hb dX1_largestFlow_21 (by decide) ?_
      refine lv_istore_n (lv' := [(3, .int (nI (0))), (0, .ref (ad 0)), (1, .int (nI (sv))), (2, .int (nI (tv)))]) hx hb dX1_largestFlow_22 rfl hl (by decide) rfl (fun ls hl => ?_)
      have hl : lv_has ls 5 [(3, .int (ct_z (0))), (0, .ref (ad 0)), (1, .int (nI (sv))), (2, .int (nI (tv)))] := by rw [← (show nI (0) = ct_z (0) from (ct_z_nat 0).symm)]; exact hl
      exact ways ((ct_cut n g (fun i => decide (i = sv))) + 1) 0 _ _ _ _ (ct_F_0 n g sv tv z0 zn zs) (by omega) _ _ _ hP hD hS (lv_sub hl [1, 2, 3, 0] rfl)
    · intro k zk ih f1 z0 H locs ls hP hD hS hl
      refine lv_iload_n hx hb dX1_largestFlow_2 rfl (lv_at hl 3 rfl) ?_
      refine lv_bipush (v := nI (64)) hx hb dX1_largestFlow_3 (by decide) ?_
      refine kn_ge (tgt := 21) hx hb dX1_largestFlow_5 (by decide) (by omega) (by omega) (fun hq => absurd hq (by omega)) (fun hq => ?_)
      refine lv_aload_n hx hb dX1_largestFlow_8 rfl (lv_at hl 0 rfl) ?_
      refine kt_gT B hK hP rfl 2 (by decide) q30 rfl dX1_largestFlow_9 ?_
      refine lv_iload_n hx hb dX1_largestFlow_12 rfl (lv_at hl 3 rfl) ?_
      refine lv_iconst (v := nI (0)) hx hb dX1_largestFlow_13 (by decide) ?_
      refine kt_is (f' := fun iq => ct_z ((ct_upz f1 k 0) iq)) hx hb hK hP hD hS 2 1 rfl rfl (by omega) (by decide) (ct_updZ _ _ 0) dX1_largestFlow_14 (fun H locs hP hD hS => ?_)
      have hP : va_P D vwCl (wT ad dd n g (ct_upz f1 k 0) cf qu R b po pb) H := hP
      have hD : va_D A (wT ad dd n g (ct_upz f1 k 0) cf qu R b po pb) := hD
      refine lv_iinc (v := nI (k + 1)) (lv' := [(3, .int (nI (k + 1))), (0, .ref (ad 0)), (1, .int (nI (sv))), (2, .int (nI (tv)))]) hx hb dX1_largestFlow_15 hl (k := 3) rfl (nI_add k 1) (by decide) rfl (fun ls hl => ?_)
      refine lv_goto (tgt := 2) hx hb dX1_largestFlow_18 (by decide) ?_
      exact ih _ (fun i hi => by unfold ct_upz; by_cases e : i = k; rw [if_pos e]; rw [if_neg e]; exact z0 i (by omega)) _ _ _ hP hD hS (lv_sub hl [1, 2, 3, 0] rfl)
  refine lv_iconst (v := nI (0)) hx hb dX1_largestFlow_0 (by decide) ?_
  refine lv_istore_n (lv' := [(3, .int (nI (0))), (0, .ref (ad 0)), (1, .int (nI (sv))), (2, .int (nI (tv)))]) hx hb dX1_largestFlow_1 rfl hl (by decide) rfl (fun ls hl => ?_)
  exact zero 0 (Nat.zero_le _) f (fun i hi => by omega) _ _ _ hP hD hS (lv_sub hl [1, 2, 3, 0] rfl)
set_option maxHeartbeats 4000000 in
set_option maxRecDepth 100000 in
theorem mT_side (l : Launch) (D : va_G) (ad : Nat → Nat) (dd : Nat → ClassId) (n : Nat) (g : Nat → Nat) (f : Nat → Int) (cf qu : Nat → Nat) (R b : Nat) (po pb : Nat → Nat) (zn : n ≤ 8) (zg : ct_G g) (u v : Int32) : kt_Mi l yX1_side cX1_side 3 .int 2 D (tyT dd) (wT ad dd n g f cf qu R b po pb) [.ref (ad 0), .int (u), .int (v)] (fun r (q : (Nat → Int) × (Nat → Nat) × (Nat → Nat) × Nat) => (ct_ic n u v = false ∧ r = -1) ∨ ∃ i j, i < n ∧ j < n ∧ i ≠ j ∧ u = nI i ∧ v = nI j ∧ r = nI q.2.2.2 ∧ ct_MF n g i j q.2.2.2) (fun q => wT ad dd n g q.1 q.2.1 q.2.2.1 q.2.2.2 b po pb) := by
  refine kt_inI (by decide) (Nat.le_of_ble_eq_true rfl) (fun r _ h => rfl) ?_
  intro p e s m args below meth c A Q H ls B hA hK hP hD hS hl hret
  have B : CallFix p m c cX1_side 3 s args lw_all RX1 := B
  have hx := B.1
  have hb := B.2.1
  have hl : lv_has ls 3 [(0, .ref (ad 0)), (1, .int (u)), (2, .int (v))] := hl
  refine lv_aload_n hx hb dX1_side_0 rfl (lv_at hl 0 rfl) ?_
  refine lv_iload_n hx hb dX1_side_1 rfl (lv_at hl 1 rfl) ?_
  refine lv_iload_n hx hb dX1_side_2 rfl (lv_at hl 2 rfl) ?_
  refine kt_callI (wr := []) (rest := []) B (mT_isCouple l D ad dd n g f cf qu R b po pb u v) (cwV 2 B.2.2.2.2 (lw_V q62 q64 qs0 q18 q65) rfl rfl rfl (by decide +kernel) ⟨Nat.le_of_ble_eq_true rfl, Nat.le_of_ble_eq_true rfl⟩) [0, 1, 2, 3, 4, 5, 6] [] [0, 1, 2, 3, 4, 5] rfl rfl rfl rfl rfl (fun _ h _ => absurd h List.not_mem_nil) rfl hA hK hP hD hS (ci := 0) rfl rfl rfl rfl hl.1 rfl (Nat.le_of_ble_eq_true rfl) dX1_side_3 ⟨Nat.le_refl _, Nat.le_refl _⟩ (fun rx ux H locs hw hP hD hS => ?_)
  have hP : va_P D vwCl (wT ad dd n g f cf qu R b po pb) H := hP
  have hD : va_D A (wT ad dd n g f cf qu R b po pb) := hD
  have hw : rx = nI (ct_bn (ct_ic n u v)) := hw
  subst hw
  refine kn_if_ne (tgt := 11) hx hb dX1_side_6 (by decide) (ct_bn_lt _) (fun hc => ?_) (fun hc => ?_)
  · have hok := ct_bn_1 hc
    obtain ⟨i, j, zi, zj, zij, rfl, rfl⟩ := ct_ic_of zn hok
    refine lv_aload_n hx hb dX1_side_11 rfl (lv_at hl 0 rfl) ?_
    refine lv_iload_n hx hb dX1_side_12 rfl (lv_at hl 1 rfl) ?_
    refine lv_iload_n hx hb dX1_side_13 rfl (lv_at hl 2 rfl) ?_
    refine kt_callI (wr := []) (rest := []) B (mT_flow l D ad dd n g f cf qu R b po pb zn zg i j zi zj zij) (cwV 2 B.2.2.2.2 (lw_V q82 q84 qs3 q18 q85) rfl rfl rfl (by decide +kernel) ⟨Nat.le_of_ble_eq_true rfl, Nat.le_of_ble_eq_true rfl⟩) [0, 1, 2, 3, 4, 5, 6] [] [0, 1, 2, 3, 4, 5] rfl rfl rfl rfl rfl (fun _ h _ => absurd h List.not_mem_nil) rfl hA hK hP hD hS (ci := 0) rfl rfl rfl rfl hl.1 rfl (Nat.le_of_ble_eq_true rfl) dX1_side_14 ⟨Nat.le_refl _, Nat.le_refl _⟩ (fun rx ux H locs hw hP hD hS => ?_)
    obtain ⟨f2, cf2, qu2, R2⟩ := ux
    dsimp only at hw
    have hP : va_P D vwCl (wT ad dd n g f2 cf2 qu2 R2 b po pb) H := hP
    have hD : va_D A (wT ad dd n g f2 cf2 qu2 R2 b po pb) := hD
    obtain ⟨hw, zM⟩ := hw
    have hw : rx = nI (ct_lam n g i j) := hw
    subst hw
    refine lv_pop hx hb dX1_side_17 rfl ?_
    refine lv_aload_n hx hb dX1_side_18 rfl (lv_at hl 0 rfl) ?_
    refine kt_gT B hK hP rfl 5 (by decide) q33 rfl dX1_side_19 ?_
    exact hret _ ((f2, cf2, qu2, R2)) _ _ _ _ (Or.inr ⟨i, j, zi, zj, zij, rfl, rfl, rfl, zM⟩) hP hD hS dX1_side_22
  · refine lv_iconst (v := (-1)) hx hb dX1_side_9 (by decide) ?_
    exact hret _ ((f, cf, qu, R)) _ _ _ _ (Or.inl ⟨ct_bn_0 hc, rfl⟩) hP hD hS dX1_side_10
set_option maxHeartbeats 4000000 in
set_option maxRecDepth 100000 in
theorem mT_build (l : Launch) (D : va_G) (ad : Nat → Nat) (dd : Nat → ClassId) (n : Nat) (g : Nat → Nat) (f : Nat → Int) (cf qu : Nat → Nat) (R b : Nat) (po pb : Nat → Nat) (zn : n ≤ 8) (zn2 : 2 ≤ n) (zg : ct_G g) (zb : b = 0 ∨ (b = 1 ∧ ct_TB n g po pb)) : kt_Mv l yX1_build cX1_build 3 2 D (tyT dd) (wT ad dd n g f cf qu R b po pb) [.ref (ad 0)] (fun (q : (Nat → Int) × (Nat → Nat) × (Nat → Nat) × Nat × (Nat → Nat) × (Nat → Nat)) => ct_TB n g q.2.2.2.2.1 q.2.2.2.2.2) (fun q => wT ad dd n g q.1 q.2.1 q.2.2.1 q.2.2.2.1 1 q.2.2.2.2.1 q.2.2.2.2.2) := by
  refine kt_inV (by decide) (Nat.le_of_ble_eq_true rfl) ?_
  intro p e s m args below meth c A Q H ls B hA hK hP hD hS hl hret
  have B : CallFix p m c cX1_build 3 s args lw_all RX1 := B
  have hx := B.1
  have hb := B.2.1
  have hl : lv_has ls 3 [(0, .ref (ad 0))] := hl
  have zp8 := ct_pow8 zn
  refine lv_aload_n hx hb dX1_build_0 rfl (lv_at hl 0 rfl) ?_
  refine kt_gT B hK hP rfl 6 (by decide) q34 rfl dX1_build_1 ?_
  rcases zb with zb | ⟨zb, zT⟩
  · subst zb
    refine kn_if_eq (tgt := 8) hx hb dX1_build_4 (by decide) (by omega) (fun hq => ?_) (fun hq => absurd hq (by omega))
    refine lv_aload_n hx hb dX1_build_8 rfl (lv_at hl 0 rfl) ?_
    refine lv_iconst (v := nI (1)) hx hb dX1_build_9 (by decide) ?_
    refine kt_pT (ty := .boolean) B hK hP hD hS rfl 6 (by decide) q34 rfl (by decide +kernel) rfl rfl (Nat.le_of_ble_eq_true rfl) dX1_build_10 (fun H locs hP hD hS => ?_)
    have hP : va_P D vwCl (wT ad dd n g f cf qu R 1 po pb) H := hP
    have hD : va_D A (wT ad dd n g f cf qu R 1 po pb) := hD
    have outer : ∀ u, u ≤ n → 1 ≤ u → ∀ (f : Nat → Int) (cf qu : Nat → Nat) (R : Nat) (po pb : Nat → Nat), ct_I n g po u → ct_HB n g po pb u → ∀ (H : Heap) (locs : List Loc) (ls : Array Slot), va_P D vwCl (wT ad dd n g f cf qu R 1 po pb) H → va_D A (wT ad dd n g f cf qu R 1 po pb) → va_S A s.heap H locs → lv_has ls 3 [(0, .ref (ad 0)), (1, .int (nI (u)))] → W p l e (kt_rm 2) s m args below meth c H locs 0 0 Q (F0 m 43 ls []) := by
      refine kt_up ?_ ?_
      · intro zu1 f cf qu R po pb zI zB H locs ls hP hD hS hl
        refine lv_iload_n hx hb dX1_build_43 rfl (lv_at hl 1 rfl) ?_
        refine lv_aload_n hx hb dX1_build_44 rfl (lv_at hl 0 rfl) ?_
        refine kt_gT B hK hP rfl 0 (by decide) q28 rfl dX1_build_45 ?_
        refine kn_ge (tgt := 126) hx hb dX1_build_48 (by decide) (by omega) (by omega) (fun hq => ?_) (fun hq => absurd hq (by omega))
        exact hret ((f, cf, qu, R, po, pb)) _ _ _ _ (⟨ct_I_T zI, fun w a b => zB w a b⟩) hP hD hS dX1_build_126
      · intro u zu ih zu1 f cf qu R po pb zI zB H locs ls hP hD hS hl
        have zpu := (zI.2.1 u (Nat.le_refl _) zu).1
        refine lv_iload_n hx hb dX1_build_43 rfl (lv_at hl 1 rfl) ?_
        refine lv_aload_n hx hb dX1_build_44 rfl (lv_at hl 0 rfl) ?_
        refine kt_gT B hK hP rfl 0 (by decide) q28 rfl dX1_build_45 ?_
        refine kn_ge (tgt := 126) hx hb dX1_build_48 (by decide) (by omega) (by omega) (fun hq => absurd hq (by omega)) (fun hq => ?_)
        refine lv_aload_n hx hb dX1_build_51 rfl (lv_at hl 0 rfl) ?_
        refine kt_gT B hK hP rfl 8 (by decide) q36 rfl dX1_build_52 ?_
        refine lv_iload_n hx hb dX1_build_55 rfl (lv_at hl 1 rfl) ?_
        refine lv_aload_n hx hb dX1_build_56 rfl (lv_at hl 0 rfl) ?_
        refine lv_iload_n hx hb dX1_build_57 rfl (lv_at hl 1 rfl) ?_
        refine lv_aload_n hx hb dX1_build_58 rfl (lv_at hl 0 rfl) ?_
        refine kt_gT B hK hP rfl 7 (by decide) q35 rfl dX1_build_59 ?_
        refine lv_iload_n hx hb dX1_build_62 rfl (lv_at hl 1 rfl) ?_
        refine kt_bl (v := nI (po u)) hx hb hK hP 5 4 rfl rfl (by omega) (by decide) rfl dX1_build_63 ?_
        refine kt_callI (wr := []) (rest := [.int (nI (u)), .ref (ad 6)]) B (mT_flow l D ad dd n g f cf qu R 1 po pb zn zg u (po u) zu (by omega) (by omega)) (cwV 2 B.2.2.2.2 (lw_V q82 q84 qs3 q18 q85) rfl rfl rfl (by decide +kernel) ⟨Nat.le_of_ble_eq_true rfl, Nat.le_of_ble_eq_true rfl⟩) [0, 1, 2, 3, 4, 5, 6] [] [0, 1, 2, 3, 4, 5] rfl rfl rfl rfl rfl (fun _ h _ => absurd h List.not_mem_nil) rfl hA hK hP hD hS (ci := 0) rfl rfl rfl rfl hl.1 rfl (Nat.le_of_ble_eq_true rfl) dX1_build_64 ⟨Nat.le_refl _, Nat.le_refl _⟩ (fun rx ux H locs hw hP hD hS => ?_)
        obtain ⟨f2, cf2, qu2, R2⟩ := ux
        dsimp only at hw
        have hP : va_P D vwCl (wT ad dd n g f2 cf2 qu2 R2 1 po pb) H := hP
        have hD : va_D A (wT ad dd n g f2 cf2 qu2 R2 1 po pb) := hD
        obtain ⟨hw, zM⟩ := hw
        have hw : rx = nI (ct_lam n g u (po u)) := hw
        subst hw
        have zR2 := zM.1
        refine kt_is (f' := fun iq => nI ((ct_up pb u (ct_lam n g u (po u))) iq)) hx hb hK hP hD hS 6 5 rfl rfl (by omega) (by decide) (ct_updN _ _ _) dX1_build_67 (fun H locs hP hD hS => ?_)
        have hP : va_P D vwCl (wT ad dd n g f2 cf2 qu2 R2 1 po (ct_up pb u (ct_lam n g u (po u)))) H := hP
        have hD : va_D A (wT ad dd n g f2 cf2 qu2 R2 1 po (ct_up pb u (ct_lam n g u (po u)))) := hD
        refine lv_iload_n hx hb dX1_build_68 rfl (lv_at hl 1 rfl) ?_
        refine lv_iconst (v := nI (1)) hx hb dX1_build_69 (by decide) ?_
        refine kn_iadd hx hb dX1_build_70 ?_
        refine lv_istore_n (lv' := [(2, .int (nI (u + 1))), (0, .ref (ad 0)), (1, .int (nI (u)))]) hx hb dX1_build_71 rfl hl (by decide) rfl (fun ls hl => ?_)
        have inner : ∀ v, v ≤ n → u < v → ∀ po2 : Nat → Nat, ct_HI n R2 po po2 u v → ∀ (H : Heap) (locs : List Loc) (ls : Array Slot), va_P D vwCl (wT ad dd n g f2 cf2 qu2 R2 1 po2 (ct_up pb u (ct_lam n g u (po u)))) H → va_D A (wT ad dd n g f2 cf2 qu2 R2 1 po2 (ct_up pb u (ct_lam n g u (po u)))) → va_S A s.heap H locs → lv_has ls 3 [(0, .ref (ad 0)), (1, .int (nI (u))), (2, .int (nI (v)))] → W p l e (kt_rm 2) s m args below meth c H locs 0 0 Q (F0 m 72 ls []) := by
          refine kt_up ?_ ?_
          · intro zuv po2 zH H locs ls hP hD hS hl
            have zst := ct_step zn zg zu1 zu zI zB zM zH
            refine lv_iload_n hx hb dX1_build_72 rfl (lv_at hl 2 rfl) ?_
            refine lv_aload_n hx hb dX1_build_73 rfl (lv_at hl 0 rfl) ?_
            refine kt_gT B hK hP rfl 0 (by decide) q28 rfl dX1_build_74 ?_
            refine kn_ge (tgt := 120) hx hb dX1_build_77 (by decide) (by omega) (by omega) (fun hq => ?_) (fun hq => absurd hq (by omega))
            refine lv_iinc (v := nI (u + 1)) (lv' := [(1, .int (nI (u + 1))), (0, .ref (ad 0)), (2, .int (nI ((n))))]) hx hb dX1_build_120 hl (k := 1) rfl (nI_add u 1) (by decide) rfl (fun ls hl => ?_)
            refine lv_goto (tgt := 43) hx hb dX1_build_123 (by decide) ?_
            exact ih (by omega) _ _ _ _ _ _ zst.1 zst.2 _ _ _ hP hD hS (lv_sub hl [1, 0] rfl)
          · intro v zv ih2 zuv po2 zH H locs ls hP hD hS hl
            have zrg := ct_HI_rng zH zI zu1 zu
            have zrv := zrg v zv (by omega)
            have zru := zrg u zu zu1
            refine lv_iload_n hx hb dX1_build_72 rfl (lv_at hl 2 rfl) ?_
            refine lv_aload_n hx hb dX1_build_73 rfl (lv_at hl 0 rfl) ?_
            refine kt_gT B hK hP rfl 0 (by decide) q28 rfl dX1_build_74 ?_
            refine kn_ge (tgt := 120) hx hb dX1_build_77 (by decide) (by omega) (by omega) (fun hq => absurd hq (by omega)) (fun hq => ?_)
            refine lv_aload_n hx hb dX1_build_80 rfl (lv_at hl 0 rfl) ?_
            refine kt_gT B hK hP rfl 5 (by decide) q33 rfl dX1_build_81 ?_
            refine lv_iload_n hx hb dX1_build_84 rfl (lv_at hl 2 rfl) ?_
            refine kn_shr hx hb (by omega) (by omega) dX1_build_85 ?_
            refine lv_iconst (v := nI (1)) hx hb dX1_build_86 (by decide) ?_
            refine kn_iand1 hx hb dX1_build_87 ?_
            cases hc : R2.testBit v
            · have hbit := ct_bit_f hc
              refine kn_if_eq (tgt := 114) hx hb dX1_build_88 (by decide) (by omega) (fun hq => ?_) (fun hq => absurd hq (by omega))
              refine lv_iinc (v := nI (v + 1)) (lv' := [(2, .int (nI (v + 1))), (0, .ref (ad 0)), (1, .int (nI (u)))]) hx hb dX1_build_114 hl (k := 2) rfl (nI_add v 1) (by decide) rfl (fun ls hl => ?_)
              refine lv_goto (tgt := 72) hx hb dX1_build_117 (by decide) ?_
              exact ih2 (by omega) _ (ct_HI_miss zH zv zuv (Or.inl hc)) _ _ _ hP hD hS (lv_sub hl [1, 2, 0] rfl)
            · have hbit := ct_bit_t hc
              refine kn_if_eq (tgt := 114) hx hb dX1_build_88 (by decide) (by omega) (fun hq => absurd hq (by omega)) (fun hq => ?_)
              refine lv_aload_n hx hb dX1_build_91 rfl (lv_at hl 0 rfl) ?_
              refine kt_gT B hK hP rfl 7 (by decide) q35 rfl dX1_build_92 ?_
              refine lv_iload_n hx hb dX1_build_95 rfl (lv_at hl 2 rfl) ?_
              refine kt_bl (v := nI (po2 v)) hx hb hK hP 5 4 rfl rfl (by omega) (by decide) rfl dX1_build_96 ?_
              refine lv_aload_n hx hb dX1_build_97 rfl (lv_at hl 0 rfl) ?_
              refine kt_gT B hK hP rfl 7 (by decide) q35 rfl dX1_build_98 ?_
              refine lv_iload_n hx hb dX1_build_101 rfl (lv_at hl 1 rfl) ?_
              refine kt_bl (v := nI (po2 u)) hx hb hK hP 5 4 rfl rfl (by omega) (by decide) rfl dX1_build_102 ?_
              refine kn_ne (tgt := 114) hx hb dX1_build_103 (by decide) (by omega) (by omega) (fun hd => ?_) (fun hd => ?_)
              · refine lv_iinc (v := nI (v + 1)) (lv' := [(2, .int (nI (v + 1))), (0, .ref (ad 0)), (1, .int (nI (u)))]) hx hb dX1_build_114 hl (k := 2) rfl (nI_add v 1) (by decide) rfl (fun ls hl => ?_)
                refine lv_goto (tgt := 72) hx hb dX1_build_117 (by decide) ?_
                exact ih2 (by omega) _ (ct_HI_miss zH zv zuv (Or.inr hd)) _ _ _ hP hD hS (lv_sub hl [1, 2, 0] rfl)
              · refine lv_aload_n hx hb dX1_build_106 rfl (lv_at hl 0 rfl) ?_
                refine kt_gT B hK hP rfl 7 (by decide) q35 rfl dX1_build_107 ?_
                refine lv_iload_n hx hb dX1_build_110 rfl (lv_at hl 2 rfl) ?_
                refine lv_iload_n hx hb dX1_build_111 rfl (lv_at hl 1 rfl) ?_
                refine kn_i2b hx hb (by omega) dX1_build_112 ?_
                refine kt_bs (f' := fun iq => nI ((ct_up po2 v u) iq)) hx hb hK hP hD hS 5 4 rfl rfl (by omega) (by decide) (ct_updB _ _ (by omega)) dX1_build_113 (fun H locs hP hD hS => ?_)
                have hP : va_P D vwCl (wT ad dd n g f2 cf2 qu2 R2 1 (ct_up po2 v u) (ct_up pb u (ct_lam n g u (po u)))) H := hP
                have hD : va_D A (wT ad dd n g f2 cf2 qu2 R2 1 (ct_up po2 v u) (ct_up pb u (ct_lam n g u (po u)))) := hD
                refine lv_iinc (v := nI (v + 1)) (lv' := [(2, .int (nI (v + 1))), (0, .ref (ad 0)), (1, .int (nI (u)))]) hx hb dX1_build_114 hl (k := 2) rfl (nI_add v 1) (by decide) rfl (fun ls hl => ?_)
                refine lv_goto (tgt := 72) hx hb dX1_build_117 (by decide) ?_
                exact ih2 (by omega) _ (ct_HI_hit zH zv zuv hc hd) _ _ _ hP hD hS (lv_sub hl [1, 2, 0] rfl)
        exact inner (u + 1) (by omega) (by omega) po ct_HI_0 _ _ _ hP hD hS (lv_sub hl [1, 2, 0] rfl)
    have zero : ∀ k, k ≤ 8 → ∀ (po pb : Nat → Nat), (∀ i, i < k → po i = 0) → ∀ (H : Heap) (locs : List Loc) (ls : Array Slot), va_P D vwCl (wT ad dd n g f cf qu R 1 po pb) H → va_D A (wT ad dd n g f cf qu R 1 po pb) → va_S A s.heap H locs → lv_has ls 3 [(0, .ref (ad 0)), (1, .int (nI (k)))] → W p l e (kt_rm 2) s m args below meth c H locs 0 0 Q (F0 m 15 ls []) := by
      refine kt_up ?_ ?_
      · intro po pb z0 H locs ls hP hD hS hl
        refine lv_iload_n hx hb dX1_build_15 rfl (lv_at hl 1 rfl) ?_
        refine lv_bipush (v := nI (8)) hx hb dX1_build_16 (by decide) ?_
        refine kn_ge (tgt := 41) hx hb dX1_build_18 (by decide) (by omega) (by omega) (fun hq => ?_) (fun hq => absurd hq (by omega))
        refine lv_iconst (v := nI (1)) hx hb dX1_build_41 (by decide) ?_
        refine lv_istore_n (lv' := [(1, .int (nI (1))), (0, .ref (ad 0))]) hx hb dX1_build_42 rfl hl (by decide) rfl (fun ls hl => ?_)
        exact outer 1 (by omega) (Nat.le_refl 1) _ _ _ _ _ _ (ct_I_1 (fun u hu => z0 u (by omega))) (fun w a b => by omega) _ _ _ hP hD hS (lv_sub hl [1, 0] rfl)
      · intro k zk ih po pb z0 H locs ls hP hD hS hl
        refine lv_iload_n hx hb dX1_build_15 rfl (lv_at hl 1 rfl) ?_
        refine lv_bipush (v := nI (8)) hx hb dX1_build_16 (by decide) ?_
        refine kn_ge (tgt := 41) hx hb dX1_build_18 (by decide) (by omega) (by omega) (fun hq => absurd hq (by omega)) (fun hq => ?_)
        refine lv_aload_n hx hb dX1_build_21 rfl (lv_at hl 0 rfl) ?_
        refine kt_gT B hK hP rfl 7 (by decide) q35 rfl dX1_build_22 ?_
        refine lv_iload_n hx hb dX1_build_25 rfl (lv_at hl 1 rfl) ?_
        refine lv_iconst (v := nI (0)) hx hb dX1_build_26 (by decide) ?_
        refine kt_bs (f' := fun iq => nI ((ct_up po k 0) iq)) hx hb hK hP hD hS 5 4 rfl rfl (by omega) (by decide) (ct_updB _ _ (by omega)) dX1_build_27 (fun H locs hP hD hS => ?_)
        have hP : va_P D vwCl (wT ad dd n g f cf qu R 1 (ct_up po k 0) pb) H := hP
        have hD : va_D A (wT ad dd n g f cf qu R 1 (ct_up po k 0) pb) := hD
        refine lv_aload_n hx hb dX1_build_28 rfl (lv_at hl 0 rfl) ?_
        refine kt_gT B hK hP rfl 8 (by decide) q36 rfl dX1_build_29 ?_
        refine lv_iload_n hx hb dX1_build_32 rfl (lv_at hl 1 rfl) ?_
        refine lv_iconst (v := nI (0)) hx hb dX1_build_33 (by decide) ?_
        refine kt_is (f' := fun iq => nI ((ct_up pb k 0) iq)) hx hb hK hP hD hS 6 5 rfl rfl (by omega) (by decide) (ct_updN _ _ _) dX1_build_34 (fun H locs hP hD hS => ?_)
        have hP : va_P D vwCl (wT ad dd n g f cf qu R 1 (ct_up po k 0) (ct_up pb k 0)) H := hP
        have hD : va_D A (wT ad dd n g f cf qu R 1 (ct_up po k 0) (ct_up pb k 0)) := hD
        refine lv_iinc (v := nI (k + 1)) (lv' := [(1, .int (nI (k + 1))), (0, .ref (ad 0))]) hx hb dX1_build_35 hl (k := 1) rfl (nI_add k 1) (by decide) rfl (fun ls hl => ?_)
        refine lv_goto (tgt := 15) hx hb dX1_build_38 (by decide) ?_
        exact ih _ _ (fun i hi => by unfold ct_up; by_cases e : i = k; rw [if_pos e]; rw [if_neg e]; exact z0 i (by omega)) _ _ _ hP hD hS (lv_sub hl [1, 0] rfl)
    refine lv_iconst (v := nI (0)) hx hb dX1_build_13 (by decide) ?_
    refine lv_istore_n (lv' := [(1, .int (nI (0))), (0, .ref (ad 0))]) hx hb dX1_build_14 rfl hl (by decide) rfl (fun ls hl => ?_)
    exact zero 0 (Nat.zero_le _) _ _ (fun i hi => by omega) _ _ _ hP hD hS (lv_sub hl [1, 0] rfl)
  · subst zb
    refine kn_if_eq (tgt := 8) hx hb dX1_build_4 (by decide) (by omega) (fun hq => absurd hq (by omega)) (fun hq => ?_)
    exact hret ((f, cf, qu, R, po, pb)) _ _ _ _ (zT) hP hD hS dX1_build_7
end
section
/-! ===== what the tree answers ===== -/
/-- the tree that is kept: not built, or right -/
def ct_BI (n : Nat) (g : Nat → Nat) (b : Nat) (po pb : Nat → Nat) : Prop := b = 0 ∨ (b = 1 ∧ ct_TB n g po pb)
/-- what a method leaves in the tree beside the capacities -/
abbrev ct_St : Type := (Nat → Int) × (Nat → Nat) × (Nat → Nat) × Nat × Nat × (Nat → Nat) × (Nat → Nat)
abbrev wS (ad : Nat → Nat) (dd : Nat → ClassId) (n : Nat) (g : Nat → Nat) (q : ct_St) : va_W := wT ad dd n g q.1 q.2.1 q.2.2.1 q.2.2.2.1 q.2.2.2.2.1 q.2.2.2.2.2.1 q.2.2.2.2.2.2
def ct_BS (n : Nat) (g : Nat → Nat) (q : ct_St) : Prop := ct_BI n g q.2.2.2.2.1 q.2.2.2.2.2.1 q.2.2.2.2.2.2
theorem ct_BS_1 {n : Nat} {g : Nat → Nat} {f : Nat → Int} {cf qu : Nat → Nat} {R : Nat} {po pb : Nat → Nat} (h : ct_TB n g po pb) : ct_BS n g (f, cf, qu, R, 1, po, pb) := Or.inr ⟨rfl, h⟩
/-! ===== sums over couples ===== -/
theorem ct_sm_below (G : Nat → Nat) (u : Nat) : ∀ n, u ≤ n → fb_sm (fun v => if v < u then G v else 0) n = fb_sm G u := by
  intro n
  induction n with
  | zero => intro h; rw [show u = 0 by omega]; rfl
  | succ n ih =>
    intro h
    by_cases e : u = n + 1
    · subst e
      exact fb_sm_cong (fun k hk => if_pos hk)
    · rw [fb_sm_succ, ih (by omega), if_neg (by omega), Nat.add_zero]
theorem ct_sm_none (G : Nat → Nat) (u : Nat) : fb_sm (fun v => if u < v then G v else 0) (u + 1) = 0 := by
  rw [fb_sm_cong (g := fun _ => 0) (fun k hk => if_neg (by omega)), fb_sm_const, Nat.mul_zero]
theorem ct_tri (F : Nat → Nat → Nat) (n : Nat) (hF : ∀ u v, u < n → v < n → F u v = F v u) : fb_sm (fun u => fb_sm (fun v => if u < v then F u v else 0) n) n = fb_sm (fun u => fb_sm (fun v => F u v) u) n := by
  rw [ct_sm_swap (fun u v => if u < v then F u v else 0) n n]
  refine fb_sm_cong (fun u hu => ?_)
  show fb_sm (fun w => if w < u then F w u else 0) n = fb_sm (F u) u
  rw [← ct_sm_below (F u) u n (by omega)]
  exact fb_sm_cong (fun v hv => by rw [hF v u hv hu])
theorem ct_tri_co {n : Nat} {g : Nat → Nat} (hn : n ≤ 8) (hg : ct_G g) (k : Int32) : fb_sm (fun u => fb_sm (fun v => if u < v then ct_bn (decide (k ≤ nI (ct_lam n g u v))) else 0) n) n = fb_sm (fun u => fb_sm (fun v => ct_bn (decide (k ≤ nI (ct_lam n g u v)))) u) n := by
  refine ct_tri (fun u v => ct_bn (decide (k ≤ nI (ct_lam n g u v)))) n (fun u v hu hv => ?_)
  show ct_bn (decide (k ≤ nI (ct_lam n g u v))) = ct_bn (decide (k ≤ nI (ct_lam n g v u)))
  rw [ct_lam_symm hn hg hu hv]
theorem ct_tri_la {n : Nat} {g : Nat → Nat} (hn : n ≤ 8) (hg : ct_G g) : fb_sm (fun u => fb_sm (fun v => if u < v then ct_lam n g u v else 0) n) n = fb_sm (fun u => fb_sm (fun v => ct_lam n g u v) u) n :=
  ct_tri (fun u v => ct_lam n g u v) n (fun _ _ hu hv => ct_lam_symm hn hg hu hv)
theorem ct_tri_cc {n : Nat} {g : Nat → Nat} (hn : n ≤ 8) (hg : ct_G g) (t : Nat) : fb_sm (fun u => fb_sm (fun v => if u < v then ct_cc g t u v else 0) n) n = fb_sm (fun u => fb_sm (fun v => ct_cc g t u v) u) n := by
  refine ct_tri (fun u v => ct_cc g t u v) n (fun u v hu hv => ?_)
  show ct_cc g t u v = ct_cc g t v u
  unfold ct_cc
  rw [hg.1 u v (by omega) (by omega)]
/-! ===== the smallest ===== -/
theorem ct_min_one {n : Nat} {g : Nat → Nat} {L L' : Nat} (h : ct_min n g L) (h' : ct_min n g L') : L = L' := by
  obtain ⟨⟨S, a1, a2, a3⟩, a4⟩ := h
  obtain ⟨⟨S', b1, b2, b3⟩, b4⟩ := h'
  have := a4 S' b1 b2
  have := b4 S a1 a2
  omega
theorem ct_bit_out {n S i : Nat} (h : S < 2 ^ n) (hi : n ≤ i) : S.testBit i = false := Nat.testBit_lt_two_pow (Nat.lt_of_lt_of_le h (Nat.pow_le_pow_right (by decide) hi))
theorem ct_bits {n S : Nat} (h1 : 1 ≤ S) (h2 : S < 2 ^ n - 1) : (∃ a, a < n ∧ S.testBit a = true) ∧ ∃ b, b < n ∧ S.testBit b = false := by
  have hS : S < 2 ^ n := by omega
  constructor
  · rcases Nat.eq_zero_or_pos (fb_ct S.testBit n) with q | q
    · exfalso
      have z := fb_ct_zero.mp q
      have e : S = 0 := Nat.eq_of_testBit_eq (fun i => by
        rw [Nat.zero_testBit]
        rcases Nat.lt_or_ge i n with r | r
        · exact z i r
        · exact ct_bit_out hS r)
      omega
    · exact fb_ct_pos.mp q
  · by_cases e : fb_ct S.testBit n = n
    · exfalso
      have z := fb_ct_all.mp e
      have e2 : S = 2 ^ n - 1 := Nat.eq_of_testBit_eq (fun i => by
        rw [Nat.testBit_two_pow_sub_one]
        rcases Nat.lt_or_ge i n with r | r
        · rw [z i r, decide_eq_true r]
        · rw [ct_bit_out hS r, decide_eq_false (by omega)])
      omega
    · have h := fb_ct_not S.testBit n
      have h3 := fb_ct_le S.testBit n
      obtain ⟨k, hk, hb⟩ := fb_ct_pos.mp (show 0 < fb_ct (fun k => !S.testBit k) n by omega)
      exact ⟨k, hk, by simpa using hb⟩
theorem ct_T_small {n : Nat} {g po pb : Nat → Nat} (hn : n ≤ 8) (hg : ct_G g) (hT : ct_TB n g po pb) {L : Nat} (h1 : ∃ w, 1 ≤ w ∧ w < n ∧ pb w = L) (h2 : ∀ w, 1 ≤ w → w < n → L ≤ pb w) : ct_min n g L := by
  obtain ⟨w, a1, a2, a3⟩ := h1
  have e := hT.2 w a1 a2
  have hp := (hT.1 w a1 a2).1
  obtain ⟨⟨S, s1, s2, s3, s4⟩, -⟩ := ct_lam_spec (g := g) (u := w) (v := po w) a2 (by omega)
  refine ⟨⟨S, ?_, ct_full s1 (show po w < n by omega) s3, by omega⟩, fun S t1 t2 => ?_⟩
  · rcases Nat.eq_zero_or_pos S with q | q
    · rw [q] at s2; simp at s2
    · exact q
  · obtain ⟨⟨a, ha, hSa⟩, ⟨b, hb, hSb⟩⟩ := ct_bits t1 t2
    obtain ⟨u, u1, u2, u3⟩ := ct_T_cut hT.1 (X := S.testBit) ha hb hSa hSb
    have hpu := (hT.1 u u1 u2).1
    have sy := ct_lam_symm hn hg u2 (show po u < n by omega)
    have z := h2 u u1 u2
    rw [hT.2 u u1 u2] at z
    unfold ct_wt
    omega
theorem ct_sm_hit {pb : Nat → Nat} {le u : Nat} (z : ∀ w, 1 ≤ w → w < u → le ≤ pb w) (h : le ≤ pb u) : ∀ w, 1 ≤ w → w < u + 1 → le ≤ pb w := by
  intro w a b
  by_cases e : w = u
  · rw [e]; exact h
  · exact z w a (by omega)
theorem ct_sm_new {pb : Nat → Nat} {le u : Nat} (z : ∀ w, 1 ≤ w → w < u → le ≤ pb w) (h : pb u < le) : ∀ w, 1 ≤ w → w < u + 1 → pb u ≤ pb w := by
  intro w a b
  by_cases e : w = u
  · subst e; exact Nat.le_refl _
  · exact Nat.le_trans (Nat.le_of_lt h) (z w a (by omega))
theorem ct_sm_ex {pb : Nat → Nat} {le u : Nat} (z : ∃ w, 1 ≤ w ∧ w < u ∧ pb w = le) : ∃ w, 1 ≤ w ∧ w < u + 1 ∧ pb w = le := by
  obtain ⟨w, a, b, c⟩ := z
  exact ⟨w, a, by omega, c⟩
theorem ct_sm_first (pb : Nat → Nat) : ∀ w, 1 ≤ w → w < 2 → pb 1 ≤ pb w := by
  intro w a b
  obtain rfl : w = 1 := by omega
  exact Nat.le_refl _
theorem ct_pb_le {n : Nat} {g po pb : Nat → Nat} (hn : n ≤ 8) (hg : ct_G g) (hT : ct_TB n g po pb) {w : Nat} (h1 : 1 ≤ w) (h2 : w < n) : pb w ≤ 400 := by
  have hp := (hT.1 w h1 h2).1
  rw [hT.2 w h1 h2]
  exact ct_lam_bound hn hg h2 (by omega) (by omega)
/-! ===== groups ===== -/
theorem ct_kle {k : Int32} {L : Nat} (h : L < 2 ^ 31) : k ≤ nI L ↔ k.toInt ≤ (L : Int) := by rw [fa_le, nI_toInt h]
theorem ct_gr_bit (n : Nat) (g : Nat → Nat) (u : Nat) (k : Int32) (i : Nat) : (ct_gr n g u k).testBit i = true ↔ i < n ∧ (i = u ∨ k ≤ nI (ct_lam n g u i)) := by
  unfold ct_gr
  rw [ct_mk_bit]
  simp only [Bool.and_eq_true, Bool.or_eq_true, decide_eq_true_eq]
theorem ct_and_low (S u : Nat) : S &&& (2 ^ u - 1) = 0 ↔ ∀ j, j < u → S.testBit j = false := by
  constructor
  · intro h j hj
    have e : (S &&& (2 ^ u - 1)).testBit j = false := by rw [h, Nat.zero_testBit]
    rw [Nat.testBit_and, Nat.testBit_two_pow_sub_one, decide_eq_true hj, Bool.and_true] at e
    exact e
  · intro h
    refine Nat.eq_of_testBit_eq (fun j => ?_)
    rw [Nat.zero_testBit, Nat.testBit_and, Nat.testBit_two_pow_sub_one]
    by_cases hj : j < u
    · rw [h j hj, Bool.false_and]
    · rw [decide_eq_false hj, Bool.and_false]
theorem ct_T_groups {n : Nat} {g po pb : Nat → Nat} (hn : n ≤ 8) (hg : ct_G g) (hT : ct_TB n g po pb) (k : Int32) {u : Nat} (h1 : 1 ≤ u) (h2 : u < n) : (ct_gr n g u k &&& (2 ^ u - 1) = 0) ↔ ¬ k ≤ nI (pb u) := by
  have hp := (hT.1 u h1 h2).1
  have b : ∀ j, j < n → u ≠ j → (k ≤ nI (ct_lam n g u j) ↔ k.toInt ≤ (ct_lam n g u j : Int)) := fun j hj hne => ct_kle (by have := ct_lam_bound hn hg h2 hj hne; omega)
  have key : k.toInt ≤ (ct_lam n g u (po u) : Int) ↔ ∃ j, j < u ∧ k.toInt ≤ (ct_lam n g u j : Int) := ct_T_group hT.1 h1 h2 (fun L => k.toInt ≤ (L : Int)) (fun a b h (z : k.toInt ≤ (a : Int)) => show k.toInt ≤ (b : Int) by omega)
  rw [ct_and_low, hT.2 u h1 h2, b (po u) (by omega) (by omega), key]
  constructor
  · intro h ⟨j, hj, z⟩
    have e := h j hj
    have t := (ct_gr_bit n g u k j).mpr ⟨by omega, Or.inr ((b j (by omega) (by omega)).mpr z)⟩
    rw [e] at t; cases t
  · intro h j hj
    cases e : (ct_gr n g u k).testBit j with
    | false => rfl
    | true =>
      have t := (ct_gr_bit n g u k j).mp e
      rcases t.2 with z | z
      · omega
      · exact absurd ⟨j, hj, (b j (by omega) (by omega)).mp z⟩ h
theorem ct_groups_1 (n : Nat) (g : Nat → Nat) (k : Int32) : 1 = fb_ct (fun u => decide (ct_gr n g u k &&& (2 ^ u - 1) = 0)) 1 := by
  rw [fb_ct_succ, if_pos (by rw [decide_eq_true_eq, ct_and_low]; intro j hj; omega)]
  rfl
/-! ===== a group ===== -/
theorem ct_ct_lt {p q : Nat → Bool} {n i : Nat} (h : ∀ k, k < n → p k = true → q k = true) (hi : i < n) (h1 : p i = false) (h2 : q i = true) : fb_ct p n < fb_ct q n := by
  have h3 := fb_ct_upd p true hi
  have h4 : fb_ct (fun k => if k = i then true else p k) n ≤ fb_ct q n := by
    refine fb_ct_sub (fun k hk => ?_)
    by_cases e : k = i
    · intro _; rw [e]; exact h2
    · rw [if_neg e]; exact h k hk
  rw [h1] at h3
  simp only [Bool.false_eq_true, if_false, if_true, Nat.add_zero] at h3
  omega
theorem ct_edge_bit (v p i : Nat) : (2 ^ v ||| 2 ^ p).testBit i = (decide (v = i) || decide (p = i)) := by
  rw [Nat.testBit_or, Nat.testBit_two_pow, Nat.testBit_two_pow]
theorem ct_edge_and (S v p : Nat) : S &&& (2 ^ v ||| 2 ^ p) = 0 ↔ S.testBit v = false ∧ S.testBit p = false := by
  constructor
  · intro h
    have e : ∀ i, (S.testBit i && (decide (v = i) || decide (p = i))) = false := fun i => by
      rw [← ct_edge_bit, ← Nat.testBit_and, h, Nat.zero_testBit]
    exact ⟨by simpa using e v, by simpa using e p⟩
  · intro ⟨h1, h2⟩
    refine Nat.eq_of_testBit_eq (fun i => ?_)
    rw [Nat.zero_testBit, Nat.testBit_and, ct_edge_bit]
    by_cases c1 : v = i
    · rw [← c1, h1, Bool.false_and]
    · by_cases c2 : p = i
      · rw [← c2, h2, Bool.false_and]
      · rw [decide_eq_false c1, decide_eq_false c2]; simp
/-- closed along the strong edges of the points below v -/
def ct_cl (n : Nat) (po pb : Nat → Nat) (k : Int32) (S v : Nat) : Prop := ∀ w, 1 ≤ w → w < v → w < n → k ≤ nI (pb w) → S.testBit w = S.testBit (po w)
/-- no point that is not linked as strongly -/
def ct_so (n : Nat) (g : Nat → Nat) (u : Nat) (k : Int32) (S : Nat) : Prop := S < 2 ^ n ∧ S.testBit u = true ∧ ∀ i, S.testBit i = true → u = i ∨ k.toInt ≤ (ct_lam n g u i : Int)
def ct_GO (n : Nat) (g po pb : Nat → Nat) (u : Nat) (k : Int32) (S r : Nat) : Prop := ct_so n g u k S ∧ (ct_cl n po pb k S n ∨ r + 1 ≤ ct_pc n S)
def ct_GI (n : Nat) (g po pb : Nat → Nat) (u : Nat) (k : Int32) (S0 S v : Nat) : Prop := ct_so n g u k S ∧ (ct_cl n po pb k S0 n → S = S0) ∧ ((S = S0 ∧ ct_cl n po pb k S0 v) ∨ ct_pc n S0 < ct_pc n S)
theorem ct_GO_0 (n : Nat) (g po pb : Nat → Nat) {u : Nat} (hu : u < n) (k : Int32) : ct_GO n g po pb u k (2 ^ u) 0 := by
  refine ⟨⟨Nat.pow_lt_pow_right (by decide) hu, by rw [Nat.testBit_two_pow]; simp, fun i hi => ?_⟩, Or.inr (by rw [ct_pc_one hu]; exact Nat.le_refl 1)⟩
  rw [Nat.testBit_two_pow, decide_eq_true_eq] at hi
  exact Or.inl hi
theorem ct_GI_0 {n : Nat} {g po pb : Nat → Nat} {u : Nat} {k : Int32} {S r : Nat} (h : ct_GO n g po pb u k S r) : ct_GI n g po pb u k S S 1 :=
  ⟨h.1, fun _ => rfl, Or.inl ⟨rfl, fun w a b => by omega⟩⟩
theorem ct_GI_weak {n : Nat} {g po pb : Nat → Nat} {u : Nat} {k : Int32} {S0 S v : Nat} (h : ct_GI n g po pb u k S0 S v) (hk : ¬ k ≤ nI (pb v)) : ct_GI n g po pb u k S0 S (v + 1) := by
  obtain ⟨a, b, c⟩ := h
  refine ⟨a, b, ?_⟩
  rcases c with ⟨c1, c2⟩ | c
  · refine Or.inl ⟨c1, fun w w1 w2 w3 w4 => ?_⟩
    by_cases e : w = v
    · rw [e] at w4; exact absurd w4 hk
    · exact c2 w w1 (by omega) w3 w4
  · exact Or.inr c
theorem ct_GI_none {n : Nat} {g po pb : Nat → Nat} {u : Nat} {k : Int32} {S0 S v : Nat} (h : ct_GI n g po pb u k S0 S v) (hk : S &&& (2 ^ v ||| 2 ^ po v) = 0) : ct_GI n g po pb u k S0 S (v + 1) := by
  obtain ⟨a, b, c⟩ := h
  refine ⟨a, b, ?_⟩
  rcases c with ⟨c1, c2⟩ | c
  · refine Or.inl ⟨c1, fun w w1 w2 w3 w4 => ?_⟩
    by_cases e : w = v
    · have z := (ct_edge_and S v (po v)).mp hk
      rw [e, ← c1, z.1, z.2]
    · exact c2 w w1 (by omega) w3 w4
  · exact Or.inr c
theorem ct_GI_add {n : Nat} {g po pb : Nat → Nat} (hn : n ≤ 8) (hg : ct_G g) (hT : ct_TB n g po pb) {u : Nat} {k : Int32} {S0 S v : Nat} (hu : u < n) (h1 : 1 ≤ v) (h2 : v < n) (h : ct_GI n g po pb u k S0 S v) (hk : k ≤ nI (pb v)) (hne : ¬ S &&& (2 ^ v ||| 2 ^ po v) = 0) : ct_GI n g po pb u k S0 (S ||| (2 ^ v ||| 2 ^ po v)) (v + 1) := by
  obtain ⟨⟨a1, a2, a3⟩, b, c⟩ := h
  have hp := (hT.1 v h1 h2).1
  have hpn : po v < n := by omega
  have hkL : k.toInt ≤ (ct_lam n g v (po v) : Int) := by
    rw [← hT.2 v h1 h2]
    exact (ct_kle (by have := ct_pb_le hn hg hT h1 h2; omega)).mp hk
  have hsd : (u = v ∨ k.toInt ≤ (ct_lam n g u v : Int)) ↔ (u = po v ∨ k.toInt ≤ (ct_lam n g u (po v) : Int)) := ct_T_sound hT.1 hn hg (fun L => k.toInt ≤ (L : Int)) (fun a b h (z : k.toInt ≤ (a : Int)) => show k.toInt ≤ (b : Int) by omega) hu h1 h2 hkL
  have hone : S.testBit v = true ∨ S.testBit (po v) = true := by
    cases e1 : S.testBit v with
    | true => exact Or.inl rfl
    | false =>
      cases e2 : S.testBit (po v) with
      | true => exact Or.inr rfl
      | false => exact absurd ((ct_edge_and S v (po v)).mpr ⟨e1, e2⟩) hne
  have hv : u = v ∨ k.toInt ≤ (ct_lam n g u v : Int) := by
    rcases hone with q | q
    · exact a3 v q
    · exact hsd.mpr (a3 _ q)
  have hpv := hsd.mp hv
  have bit : ∀ i, (S ||| (2 ^ v ||| 2 ^ po v)).testBit i = (S.testBit i || (decide (v = i) || decide (po v = i))) := fun i => by rw [Nat.testBit_or, ct_edge_bit]
  have so : ct_so n g u k (S ||| (2 ^ v ||| 2 ^ po v)) := by
    refine ⟨Nat.or_lt_two_pow a1 (Nat.or_lt_two_pow (Nat.pow_lt_pow_right (by decide) h2) (Nat.pow_lt_pow_right (by decide) hpn)), by rw [bit, a2, Bool.true_or], fun i hi => ?_⟩
    rw [bit, Bool.or_eq_true, Bool.or_eq_true, decide_eq_true_eq, decide_eq_true_eq] at hi
    rcases hi with q | q | q
    · exact a3 i q
    · rw [← q]; exact hv
    · rw [← q]; exact hpv
  by_cases both : S.testBit v = true ∧ S.testBit (po v) = true
  · have same : S ||| (2 ^ v ||| 2 ^ po v) = S := Nat.eq_of_testBit_eq (fun i => by
      rw [bit]
      by_cases c1 : v = i
      · rw [← c1, both.1, Bool.true_or]
      · by_cases c2 : po v = i
        · rw [← c2, both.2, Bool.true_or]
        · rw [decide_eq_false c1, decide_eq_false c2, Bool.or_self, Bool.or_false])
    rw [same] at so ⊢
    refine ⟨so, b, ?_⟩
    rcases c with ⟨c1, c2⟩ | c
    · refine Or.inl ⟨c1, fun w w1 w2 w3 w4 => ?_⟩
      by_cases e : w = v
      · rw [e, ← c1, both.1, both.2]
      · exact c2 w w1 (by omega) w3 w4
    · exact Or.inr c
  · have grow : ct_pc n S < ct_pc n (S ||| (2 ^ v ||| 2 ^ po v)) := by
      unfold ct_pc
      have sub : ∀ i, i < n → S.testBit i = true → (S ||| (2 ^ v ||| 2 ^ po v)).testBit i = true := fun i _ hi => by rw [bit, hi, Bool.true_or]
      cases e1 : S.testBit v with
      | false => exact ct_ct_lt sub h2 e1 (by rw [bit]; simp)
      | true =>
        cases e2 : S.testBit (po v) with
        | false => exact ct_ct_lt sub hpn e2 (by rw [bit]; simp)
        | true => exact absurd ⟨e1, e2⟩ both
    refine ⟨so, fun q => ?_, Or.inr ?_⟩
    · exfalso
      have e := b q
      have z := q v h1 h2 h2 hk
      rw [← e] at z
      refine both ?_
      rcases hone with q | q
      · exact ⟨q, by rw [← z]; exact q⟩
      · exact ⟨by rw [z]; exact q, q⟩
    · rcases c with ⟨c1, -⟩ | c
      · rw [← c1]; exact grow
      · omega
theorem ct_GI_end {n : Nat} {g po pb : Nat → Nat} {u : Nat} {k : Int32} {S0 S r : Nat} (h0 : ct_GO n g po pb u k S0 r) (h : ct_GI n g po pb u k S0 S n) : ct_GO n g po pb u k S (r + 1) := by
  obtain ⟨a, b, c⟩ := h
  refine ⟨a, ?_⟩
  rcases c with ⟨c1, c2⟩ | c
  · rw [c1]; exact Or.inl c2
  · rcases h0.2 with q | q
    · have e := b q
      rw [e] at c; omega
    · exact Or.inr (by omega)
theorem ct_GO_end {n : Nat} {g po pb : Nat → Nat} (hn : n ≤ 8) (hg : ct_G g) (hT : ct_TB n g po pb) {u : Nat} {k : Int32} {S : Nat} (hu : u < n) (h : ct_GO n g po pb u k S 8) : S = ct_gr n g u k := by
  obtain ⟨⟨a1, a2, a3⟩, b⟩ := h
  have hcl : ct_cl n po pb k S n := by
    rcases b with q | q
    · exact q
    · have := ct_pc_le n S
      omega
  have hle : ∀ {i j : Nat}, i < n → j < n → i ≠ j → (k ≤ nI (ct_lam n g i j) ↔ k.toInt ≤ (ct_lam n g i j : Int)) := fun hi hj hne => ct_kle (by have := ct_lam_bound hn hg hi hj hne; omega)
  refine Nat.eq_of_testBit_eq (fun i => ?_)
  rw [Bool.eq_iff_iff, ct_gr_bit]
  constructor
  · intro q
    have hi : i < n := by
      rcases Nat.lt_or_ge i n with r | r
      · exact r
      · rw [ct_bit_out a1 r] at q; cases q
    refine ⟨hi, ?_⟩
    by_cases e : i = u
    · exact Or.inl e
    · rcases a3 i q with z | z
      · exact absurd z.symm e
      · exact Or.inr ((hle hu hi (Ne.symm e)).mpr z)
  · intro ⟨hi, q⟩
    refine ct_T_closed hn hg hT.1 (fun L => k.toInt ≤ (L : Int)) (fun a b h (z : k.toInt ≤ (a : Int)) => show k.toInt ≤ (b : Int) by omega) (X := S.testBit) (fun v v1 v2 (v3 : k.toInt ≤ (ct_lam n g v (po v) : Int)) => ?_) (u + i + 1) u i (by omega) hu hi ?_ a2
    · refine hcl v v1 v2 v2 ?_
      rw [hT.2 v v1 v2]
      have hp := (hT.1 v v1 v2).1
      exact (hle v2 (by omega) (by omega)).mpr v3
    · by_cases e : u = i
      · exact Or.inl e
      · rcases q with z | z
        · exact Or.inl z.symm
        · exact Or.inr ((hle hu hi e).mp z)
/-! ===== the smallest side is one ===== -/
theorem ct_sides {n : Nat} {g : Nat → Nat} {i j B R : Nat} (hB : ct_side n g i j B) (hR : ct_MF n g i j R) : R = B := by
  obtain ⟨b1, ⟨b2, b3, b4⟩, b5⟩ := hB
  obtain ⟨r1, r2, r3, r4, r5⟩ := hR
  have sub := r5 B.testBit b2 b3 b4
  have le := b5 R r1 ⟨r2, r3, r4⟩
  refine Nat.eq_of_testBit_eq (fun x => ?_)
  rcases Nat.lt_or_ge x n with q | q
  · cases hx : R.testBit x with
    | true => exact (sub x q hx).symm
    | false =>
      cases hy : B.testBit x with
      | false => rfl
      | true =>
        have := ct_ct_lt (p := R.testBit) (q := B.testBit) sub q hx hy
        unfold ct_pc at le
        omega
  · rw [ct_bit_out r1 q, ct_bit_out b1 q]
/-! ===== cap, in the tree's order ===== -/
def ct_pt (n u v i : Nat) : Bool := decide (i < 64 ∧ i / 8 ≠ i % 8 ∧ max (i / 8) (i % 8) < n ∧ (min (i / 8) (i % 8) < u ∨ (min (i / 8) (i % 8) = u ∧ max (i / 8) (i % 8) < v)))
def ct_ck (n : Nat) (g : Nat → Nat) (t u v : Nat) : Nat → Nat := fun i => if ct_pt n u v i then min (g i) t else g i
theorem ct_ck_0 (n : Nat) (g : Nat → Nat) (t : Nat) : g = ct_ck n g t 0 0 := by
  funext i
  unfold ct_ck
  rw [if_neg]
  simp only [ct_pt, decide_eq_true_eq]
  omega
theorem ct_ck_eq {n : Nat} (g : Nat → Nat) (t : Nat) {u v u' v' : Nat} (h : ∀ i, ct_pt n u v i = ct_pt n u' v' i) : ct_ck n g t u v = ct_ck n g t u' v' := by
  funext i
  unfold ct_ck
  rw [h i]
theorem ct_ck_in (n : Nat) (g : Nat → Nat) (t u : Nat) : ct_ck n g t u 0 = ct_ck n g t u (u + 1) := by
  refine ct_ck_eq g t (fun i => ?_)
  unfold ct_pt
  rw [decide_eq_decide]
  omega
theorem ct_ck_row (n : Nat) (g : Nat → Nat) (t u : Nat) : ct_ck n g t u n = ct_ck n g t (u + 1) 0 := by
  refine ct_ck_eq g t (fun i => ?_)
  unfold ct_pt
  rw [decide_eq_decide]
  omega
theorem ct_ck_at {n : Nat} {g : Nat → Nat} {t u v : Nat} (huv : u < v) (hv : v < n) (hn : n ≤ 8) : ct_ck n g t u v (8 * u + v) = g (8 * u + v) := by
  unfold ct_ck
  rw [if_neg]
  simp only [ct_pt, decide_eq_true_eq]
  omega
theorem ct_ck_keep {n : Nat} {g : Nat → Nat} (hg : ct_G g) {t u v : Nat} (huv : u < v) (hv : v < n) (hn : n ≤ 8) (h : g (8 * u + v) ≤ t) : ct_ck n g t u v = ct_ck n g t u (v + 1) := by
  funext i
  unfold ct_ck
  have sy := hg.1 u v (by omega) (by omega)
  by_cases c : ct_pt n u v i = true
  · have c2 : ct_pt n u (v + 1) i = true := by
      simp only [ct_pt, decide_eq_true_eq] at c ⊢
      omega
    rw [if_pos c, if_pos c2]
  · rw [if_neg c]
    by_cases c2 : ct_pt n u (v + 1) i = true
    · rw [if_pos c2]
      simp only [ct_pt, decide_eq_true_eq] at c c2
      have e : i = 8 * u + v ∨ i = 8 * v + u := by omega
      rcases e with e | e <;> subst e <;> omega
    · rw [if_neg c2]
theorem ct_ck_put {n : Nat} {g : Nat → Nat} (hg : ct_G g) {t u v : Nat} (huv : u < v) (hv : v < n) (hn : n ≤ 8) (h : t < g (8 * u + v)) : ct_con (ct_ck n g t u v) u v t = ct_ck n g t u (v + 1) := by
  funext i
  have sy := hg.1 u v (by omega) (by omega)
  unfold ct_con ct_up ct_ck
  by_cases c1 : i = 8 * v + u
  · rw [if_pos c1, if_pos]
    · subst c1; omega
    · simp only [ct_pt, decide_eq_true_eq]
      omega
  · rw [if_neg c1]
    by_cases c2 : i = 8 * u + v
    · rw [if_pos c2, if_pos]
      · subst c2; omega
      · simp only [ct_pt, decide_eq_true_eq]
        omega
    · rw [if_neg c2]
      have e : ct_pt n u v i = ct_pt n u (v + 1) i := by
        unfold ct_pt
        rw [decide_eq_decide]
        omega
      rw [e]
theorem ct_ck_end {n : Nat} (g : Nat → Nat) (t : Nat) : ct_ck n g t n 0 = ct_cm g t n 0 := by
  funext i
  unfold ct_ck ct_cm
  have e : ct_pt n n 0 i = ct_pm n 0 i := by
    unfold ct_pt ct_pm
    rw [decide_eq_decide]
    omega
  rw [e]
end
section
/-! ===== the tree, what it answers ===== -/
set_option maxHeartbeats 4000000 in
set_option maxRecDepth 100000 in
theorem mT_link (l : Launch) (D : va_G) (ad : Nat → Nat) (dd : Nat → ClassId) (n : Nat) (g : Nat → Nat) (f : Nat → Int) (cf qu : Nat → Nat) (R b : Nat) (po pb : Nat → Nat) (zn : n ≤ 8) (zn2 : 2 ≤ n) (zg : ct_G g) (zb : ct_BI n g b po pb) (u v : Int32) : kt_Mi l yX1_link cX1_link 3 .int 3 D (tyT dd) (wT ad dd n g f cf qu R b po pb) [.ref (ad 0), .int (u), .int (v)] (fun r (q : ct_St) => r = ct_lk n g u v ∧ ct_BS n g q) (fun q => wS ad dd n g q) := by
  refine kt_inI (by decide) (Nat.le_of_ble_eq_true rfl) (fun r _ h => rfl) ?_
  intro p e s m args below meth c A Q H ls B hA hK hP hD hS hl hret
  have B : CallFix p m c cX1_link 3 s args lw_all RX1 := B
  have hx := B.1
  have hb := B.2.1
  have hl : lv_has ls 3 [(0, .ref (ad 0)), (1, .int (u)), (2, .int (v))] := hl
  refine lv_aload_n hx hb dX1_link_0 rfl (lv_at hl 0 rfl) ?_
  refine lv_iload_n hx hb dX1_link_1 rfl (lv_at hl 1 rfl) ?_
  refine lv_iload_n hx hb dX1_link_2 rfl (lv_at hl 2 rfl) ?_
  refine kt_callI (wr := []) (rest := []) B (mT_isCouple l D ad dd n g f cf qu R b po pb u v) (cwV 2 B.2.2.2.2 (lw_V q62 q64 qs0 q18 q65) rfl rfl rfl (by decide +kernel) ⟨Nat.le_of_ble_eq_true rfl, Nat.le_of_ble_eq_true rfl⟩) [0, 1, 2, 3, 4, 5, 6] [] [0, 1, 2, 3, 4, 5] rfl rfl rfl rfl rfl (fun _ h _ => absurd h List.not_mem_nil) rfl hA hK hP hD hS (ci := 0) rfl rfl rfl rfl hl.1 rfl (Nat.le_of_ble_eq_true rfl) dX1_link_3 ⟨Nat.le_refl _, Nat.le_refl _⟩ (fun rx ux H locs hw hP hD hS => ?_)
  have hP : va_P D vwCl (wT ad dd n g f cf qu R b po pb) H := hP
  have hD : va_D A (wT ad dd n g f cf qu R b po pb) := hD
  have hw : rx = nI (ct_bn (ct_ic n u v)) := hw
  subst hw
  refine kn_if_ne (tgt := 11) hx hb dX1_link_6 (by decide) (ct_bn_lt _) (fun hc => ?_) (fun hc => ?_)
  · have hok := ct_bn_1 hc
    obtain ⟨i, j, zi, zj, zij, rfl, rfl⟩ := ct_ic_of zn hok
    refine lv_aload_n hx hb dX1_link_11 rfl (lv_at hl 0 rfl) ?_
    refine kt_callV (wr := []) (rest := []) B (mT_build l D ad dd n g f cf qu R b po pb zn zn2 zg zb) (cwV 0 B.2.2.2.2 (lw_V q78 q80 qs2 q18 q81) rfl rfl rfl (by decide +kernel) ⟨Nat.le_of_ble_eq_true rfl, Nat.le_of_ble_eq_true rfl⟩) [0, 1, 2, 3, 4, 5, 6] [] [0, 1, 2, 3, 4, 5] rfl rfl rfl rfl rfl (fun _ h _ => absurd h List.not_mem_nil) rfl hA hK hP hD hS (ci := 0) rfl rfl rfl rfl hl.1 rfl (Nat.le_of_ble_eq_true rfl) dX1_link_12 ⟨Nat.le_refl _, Nat.le_refl _⟩ (fun ux H locs hw hP hD hS => ?_)
    obtain ⟨f2, cf2, qu2, R2, po2, pb2⟩ := ux
    dsimp only at hw
    have hP : va_P D vwCl (wT ad dd n g f2 cf2 qu2 R2 1 po2 pb2) H := hP
    have hD : va_D A (wT ad dd n g f2 cf2 qu2 R2 1 po2 pb2) := hD
    have zT : ct_TB n g po2 pb2 := hw
    refine lv_aload_n hx hb dX1_link_15 rfl (lv_at hl 0 rfl) ?_
    refine lv_iload_n hx hb dX1_link_16 rfl (lv_at hl 1 rfl) ?_
    refine lv_iload_n hx hb dX1_link_17 rfl (lv_at hl 2 rfl) ?_
    refine kt_callI (wr := []) (rest := []) B (mT_weakest l D ad dd n g f2 cf2 qu2 R2 1 po2 pb2 zn zg zT i j zi zj zij) (cwV 2 B.2.2.2.2 (lw_V q98 q100 qs7 q18 q101) rfl rfl rfl (by decide +kernel) ⟨Nat.le_of_ble_eq_true rfl, Nat.le_of_ble_eq_true rfl⟩) [0, 1, 2, 3, 4, 5, 6] [] [0, 1, 2, 3, 4, 5] rfl rfl rfl rfl rfl (fun _ h _ => absurd h List.not_mem_nil) rfl hA hK hP hD hS (ci := 0) rfl rfl rfl rfl hl.1 rfl (Nat.le_of_ble_eq_true rfl) dX1_link_18 ⟨Nat.le_refl _, Nat.le_refl _⟩ (fun rx ux H locs hw hP hD hS => ?_)
    have hP : va_P D vwCl (wT ad dd n g f2 cf2 qu2 R2 1 po2 pb2) H := hP
    have hD : va_D A (wT ad dd n g f2 cf2 qu2 R2 1 po2 pb2) := hD
    have hw : rx = nI (ct_lam n g i j) := hw
    subst hw
    exact hret _ ((f2, cf2, qu2, R2, 1, po2, pb2)) _ _ _ _ (⟨ct_lk_yes (by omega) (by omega) hok, ct_BS_1 zT⟩) hP hD hS dX1_link_21
  · refine lv_iconst (v := (-1)) hx hb dX1_link_9 (by decide) ?_
    exact hret _ ((f, cf, qu, R, b, po, pb)) _ _ _ _ (⟨ct_lk_no (ct_bn_0 hc), zb⟩) hP hD hS dX1_link_10
set_option maxHeartbeats 4000000 in
set_option maxRecDepth 100000 in
theorem mT_smallest (l : Launch) (D : va_G) (ad : Nat → Nat) (dd : Nat → ClassId) (n : Nat) (g : Nat → Nat) (f : Nat → Int) (cf qu : Nat → Nat) (R b : Nat) (po pb : Nat → Nat) (zn : n ≤ 8) (zn2 : 2 ≤ n) (zg : ct_G g) (zb : ct_BI n g b po pb) : kt_Mi l yX1_smallest cX1_smallest 3 .int 3 D (tyT dd) (wT ad dd n g f cf qu R b po pb) [.ref (ad 0)] (fun r (q : ct_St) => (∃ L, r = nI L ∧ ct_min n g L) ∧ ct_BS n g q) (fun q => wS ad dd n g q) := by
  refine kt_inI (by decide) (Nat.le_of_ble_eq_true rfl) (fun r _ h => rfl) ?_
  intro p e s m args below meth c A Q H ls B hA hK hP hD hS hl hret
  have B : CallFix p m c cX1_smallest 3 s args lw_all RX1 := B
  have hx := B.1
  have hb := B.2.1
  have hl : lv_has ls 3 [(0, .ref (ad 0))] := hl
  refine lv_aload_n hx hb dX1_smallest_0 rfl (lv_at hl 0 rfl) ?_
  refine kt_callV (wr := []) (rest := []) B (mT_build l D ad dd n g f cf qu R b po pb zn zn2 zg zb) (cwV 0 B.2.2.2.2 (lw_V q78 q80 qs2 q18 q81) rfl rfl rfl (by decide +kernel) ⟨Nat.le_of_ble_eq_true rfl, Nat.le_of_ble_eq_true rfl⟩) [0, 1, 2, 3, 4, 5, 6] [] [0, 1, 2, 3, 4, 5] rfl rfl rfl rfl rfl (fun _ h _ => absurd h List.not_mem_nil) rfl hA hK hP hD hS (ci := 0) rfl rfl rfl rfl hl.1 rfl (Nat.le_of_ble_eq_true rfl) dX1_smallest_1 ⟨Nat.le_refl _, Nat.le_refl _⟩ (fun ux H locs hw hP hD hS => ?_)
  obtain ⟨f2, cf2, qu2, R2, po2, pb2⟩ := ux
  dsimp only at hw
  have hP : va_P D vwCl (wT ad dd n g f2 cf2 qu2 R2 1 po2 pb2) H := hP
  have hD : va_D A (wT ad dd n g f2 cf2 qu2 R2 1 po2 pb2) := hD
  have zT : ct_TB n g po2 pb2 := hw
  have loop : ∀ u, u ≤ n → 2 ≤ u → ∀ le, (∃ w, 1 ≤ w ∧ w < u ∧ pb2 w = le) → (∀ w, 1 ≤ w → w < u → le ≤ pb2 w) → ∀ (H : Heap) (locs : List Loc) (ls : Array Slot), va_P D vwCl (wT ad dd n g f2 cf2 qu2 R2 1 po2 pb2) H → va_D A (wT ad dd n g f2 cf2 qu2 R2 1 po2 pb2) → va_S A s.heap H locs → lv_has ls 3 [(0, .ref (ad 0)), (1, .int (nI (le))), (2, .int (nI (u)))] → W p l e (kt_rm 3) s m args below meth c H locs 0 0 Q (F0 m 13 ls []) := by
    refine kt_up ?_ ?_
    · intro zu2 le z1 z2 H locs ls hP hD hS hl
      refine lv_iload_n hx hb dX1_smallest_13 rfl (lv_at hl 2 rfl) ?_
      refine lv_aload_n hx hb dX1_smallest_14 rfl (lv_at hl 0 rfl) ?_
      refine kt_gT B hK hP rfl 0 (by decide) q28 rfl dX1_smallest_15 ?_
      refine kn_ge (tgt := 44) hx hb dX1_smallest_18 (by decide) (by omega) (by omega) (fun hq => ?_) (fun hq => absurd hq (by omega))
      refine lv_iload_n hx hb dX1_smallest_44 rfl (lv_at hl 1 rfl) ?_
      exact hret _ ((f2, cf2, qu2, R2, 1, po2, pb2)) _ _ _ _ (⟨⟨le, rfl, ct_T_small zn zg zT z1 z2⟩, ct_BS_1 zT⟩) hP hD hS dX1_smallest_45
    · intro u zu ih zu2 le z1 z2 H locs ls hP hD hS hl
      have zle : le ≤ 400 := by
        obtain ⟨w, a, c, d⟩ := z1
        have := ct_pb_le zn zg zT a (show w < n by omega)
        omega
      have zpu := ct_pb_le zn zg zT (show 1 ≤ u by omega) zu
      refine lv_iload_n hx hb dX1_smallest_13 rfl (lv_at hl 2 rfl) ?_
      refine lv_aload_n hx hb dX1_smallest_14 rfl (lv_at hl 0 rfl) ?_
      refine kt_gT B hK hP rfl 0 (by decide) q28 rfl dX1_smallest_15 ?_
      refine kn_ge (tgt := 44) hx hb dX1_smallest_18 (by decide) (by omega) (by omega) (fun hq => absurd hq (by omega)) (fun hq => ?_)
      refine lv_aload_n hx hb dX1_smallest_21 rfl (lv_at hl 0 rfl) ?_
      refine kt_gT B hK hP rfl 8 (by decide) q36 rfl dX1_smallest_22 ?_
      refine lv_iload_n hx hb dX1_smallest_25 rfl (lv_at hl 2 rfl) ?_
      refine kt_il (v := nI (pb2 u)) hx hb hK hP 6 5 rfl rfl (by omega) (by decide) rfl dX1_smallest_26 ?_
      refine lv_iload_n hx hb dX1_smallest_27 rfl (lv_at hl 1 rfl) ?_
      refine kn_ge (tgt := 38) hx hb dX1_smallest_28 (by decide) (by omega) (by omega) (fun he => ?_) (fun he => ?_)
      · refine lv_iinc (v := nI (u + 1)) (lv' := [(2, .int (nI (u + 1))), (0, .ref (ad 0)), (1, .int (nI (le)))]) hx hb dX1_smallest_38 hl (k := 2) rfl (nI_add u 1) (by decide) rfl (fun ls hl => ?_)
        refine lv_goto (tgt := 13) hx hb dX1_smallest_41 (by decide) ?_
        exact ih (by omega) _ (ct_sm_ex z1) (ct_sm_hit z2 he) _ _ _ hP hD hS (lv_sub hl [1, 2, 0] rfl)
      · refine lv_aload_n hx hb dX1_smallest_31 rfl (lv_at hl 0 rfl) ?_
        refine kt_gT B hK hP rfl 8 (by decide) q36 rfl dX1_smallest_32 ?_
        refine lv_iload_n hx hb dX1_smallest_35 rfl (lv_at hl 2 rfl) ?_
        refine kt_il (v := nI (pb2 u)) hx hb hK hP 6 5 rfl rfl (by omega) (by decide) rfl dX1_smallest_36 ?_
        refine lv_istore_n (lv' := [(1, .int (nI (pb2 u))), (0, .ref (ad 0)), (2, .int (nI (u)))]) hx hb dX1_smallest_37 rfl hl (by decide) rfl (fun ls hl => ?_)
        refine lv_iinc (v := nI (u + 1)) (lv' := [(2, .int (nI (u + 1))), (1, .int (nI (pb2 u))), (0, .ref (ad 0))]) hx hb dX1_smallest_38 hl (k := 2) rfl (nI_add u 1) (by decide) rfl (fun ls hl => ?_)
        refine lv_goto (tgt := 13) hx hb dX1_smallest_41 (by decide) ?_
        exact ih (by omega) _ ⟨u, by omega, by omega, rfl⟩ (ct_sm_new z2 he) _ _ _ hP hD hS (lv_sub hl [2, 1, 0] rfl)
  refine lv_aload_n hx hb dX1_smallest_4 rfl (lv_at hl 0 rfl) ?_
  refine kt_gT B hK hP rfl 8 (by decide) q36 rfl dX1_smallest_5 ?_
  refine lv_iconst (v := nI (1)) hx hb dX1_smallest_8 (by decide) ?_
  refine kt_il (v := nI (pb2 1)) hx hb hK hP 6 5 rfl rfl (by omega) (by decide) rfl dX1_smallest_9 ?_
  refine lv_istore_n (lv' := [(1, .int (nI (pb2 1))), (0, .ref (ad 0))]) hx hb dX1_smallest_10 rfl hl (by decide) rfl (fun ls hl => ?_)
  refine lv_iconst (v := nI (2)) hx hb dX1_smallest_11 (by decide) ?_
  refine lv_istore_n (lv' := [(2, .int (nI (2))), (1, .int (nI (pb2 1))), (0, .ref (ad 0))]) hx hb dX1_smallest_12 rfl hl (by decide) rfl (fun ls hl => ?_)
  exact loop 2 zn2 (Nat.le_refl 2) _ ⟨1, by omega, by omega, rfl⟩ (ct_sm_first pb2) _ _ _ hP hD hS (lv_sub hl [2, 1, 0] rfl)
set_option maxHeartbeats 4000000 in
set_option maxRecDepth 100000 in
theorem mT_couples (l : Launch) (D : va_G) (ad : Nat → Nat) (dd : Nat → ClassId) (n : Nat) (g : Nat → Nat) (f : Nat → Int) (cf qu : Nat → Nat) (R b : Nat) (po pb : Nat → Nat) (zn : n ≤ 8) (zn2 : 2 ≤ n) (zg : ct_G g) (zb : ct_BI n g b po pb) (k : Int32) : kt_Mi l yX1_couples cX1_couples 6 .int 3 D (tyT dd) (wT ad dd n g f cf qu R b po pb) [.ref (ad 0), .int (k)] (fun r (q : ct_St) => r = nI (fb_sm (fun u => fb_sm (fun v => ct_bn (decide (k ≤ nI (ct_lam n g u v)))) u) n) ∧ ct_BS n g q) (fun q => wS ad dd n g q) := by
  refine kt_inI (by decide) (Nat.le_of_ble_eq_true rfl) (fun r _ h => rfl) ?_
  intro p e s m args below meth c A Q H ls B hA hK hP hD hS hl hret
  have B : CallFix p m c cX1_couples 6 s args lw_all RX1 := B
  have hx := B.1
  have hb := B.2.1
  have hl : lv_has ls 6 [(0, .ref (ad 0)), (1, .int (k))] := hl
  refine lv_aload_n hx hb dX1_couples_0 rfl (lv_at hl 0 rfl) ?_
  refine kt_callV (wr := []) (rest := []) B (mT_build l D ad dd n g f cf qu R b po pb zn zn2 zg zb) (cwV 0 B.2.2.2.2 (lw_V q78 q80 qs2 q18 q81) rfl rfl rfl (by decide +kernel) ⟨Nat.le_of_ble_eq_true rfl, Nat.le_of_ble_eq_true rfl⟩) [0, 1, 2, 3, 4, 5, 6] [] [0, 1, 2, 3, 4, 5] rfl rfl rfl rfl rfl (fun _ h _ => absurd h List.not_mem_nil) rfl hA hK hP hD hS (ci := 0) rfl rfl rfl rfl hl.1 rfl (Nat.le_of_ble_eq_true rfl) dX1_couples_1 ⟨Nat.le_refl _, Nat.le_refl _⟩ (fun ux H locs hw hP hD hS => ?_)
  obtain ⟨f2, cf2, qu2, R2, po2, pb2⟩ := ux
  dsimp only at hw
  have hP : va_P D vwCl (wT ad dd n g f2 cf2 qu2 R2 1 po2 pb2) H := hP
  have hD : va_D A (wT ad dd n g f2 cf2 qu2 R2 1 po2 pb2) := hD
  have zT : ct_TB n g po2 pb2 := hw
  have outer : ∀ u, u ≤ n → ∀ acc, acc = fb_sm (fun u => fb_sm (fun v => if u < v then ct_bn (decide (k ≤ nI (ct_lam n g u v))) else 0) n) u → ∀ (H : Heap) (locs : List Loc) (ls : Array Slot), va_P D vwCl (wT ad dd n g f2 cf2 qu2 R2 1 po2 pb2) H → va_D A (wT ad dd n g f2 cf2 qu2 R2 1 po2 pb2) → va_S A s.heap H locs → lv_has ls 6 [(0, .ref (ad 0)), (1, .int (k)), (2, .int (nI (acc))), (3, .int (nI (u)))] → W p l e (kt_rm 3) s m args below meth c H locs 0 0 Q (F0 m 8 ls []) := by
    refine kt_up ?_ ?_
    · intro acc za H locs ls hP hD hS hl
      refine lv_iload_n hx hb dX1_couples_8 rfl (lv_at hl 3 rfl) ?_
      refine lv_aload_n hx hb dX1_couples_9 rfl (lv_at hl 0 rfl) ?_
      refine kt_gT B hK hP rfl 0 (by decide) q28 rfl dX1_couples_10 ?_
      refine kn_ge (tgt := 60) hx hb dX1_couples_13 (by decide) (by omega) (by omega) (fun hq => ?_) (fun hq => absurd hq (by omega))
      refine lv_iload_n hx hb dX1_couples_60 rfl (lv_at hl 2 rfl) ?_
      exact hret _ ((f2, cf2, qu2, R2, 1, po2, pb2)) _ _ _ _ (⟨by rw [za, ct_tri_co zn zg], ct_BS_1 zT⟩) hP hD hS dX1_couples_61
    · intro u zu ih acc za H locs ls hP hD hS hl
      refine lv_iload_n hx hb dX1_couples_8 rfl (lv_at hl 3 rfl) ?_
      refine lv_aload_n hx hb dX1_couples_9 rfl (lv_at hl 0 rfl) ?_
      refine kt_gT B hK hP rfl 0 (by decide) q28 rfl dX1_couples_10 ?_
      refine kn_ge (tgt := 60) hx hb dX1_couples_13 (by decide) (by omega) (by omega) (fun hq => absurd hq (by omega)) (fun hq => ?_)
      refine lv_iload_n hx hb dX1_couples_16 rfl (lv_at hl 3 rfl) ?_
      refine lv_iconst (v := nI (1)) hx hb dX1_couples_17 (by decide) ?_
      refine kn_iadd hx hb dX1_couples_18 ?_
      refine lv_istore (lv' := [(4, .int (nI (u + 1))), (0, .ref (ad 0)), (1, .int (k)), (2, .int (nI (acc))), (3, .int (nI (u)))]) hx hb dX1_couples_19 hl (by decide) rfl (fun ls hl => ?_)
      have inner : ∀ v, v ≤ n → u < v → ∀ acc2, acc2 = acc + fb_sm (fun v => if u < v then ct_bn (decide (k ≤ nI (ct_lam n g u v))) else 0) v → ∀ (H : Heap) (locs : List Loc) (ls : Array Slot), va_P D vwCl (wT ad dd n g f2 cf2 qu2 R2 1 po2 pb2) H → va_D A (wT ad dd n g f2 cf2 qu2 R2 1 po2 pb2) → va_S A s.heap H locs → lv_has ls 6 [(0, .ref (ad 0)), (1, .int (k)), (2, .int (nI (acc2))), (3, .int (nI (u))), (4, .int (nI (v)))] → W p l e (kt_rm 3) s m args below meth c H locs 0 0 Q (F0 m 21 ls []) := by
        refine kt_up ?_ ?_
        · intro zuv acc2 za2 H locs ls hP hD hS hl
          refine lv_iload hx hb dX1_couples_21 (lv_at hl 4 rfl) ?_
          refine lv_aload_n hx hb dX1_couples_23 rfl (lv_at hl 0 rfl) ?_
          refine kt_gT B hK hP rfl 0 (by decide) q28 rfl dX1_couples_24 ?_
          refine kn_ge (tgt := 54) hx hb dX1_couples_27 (by decide) (by omega) (by omega) (fun hq => ?_) (fun hq => absurd hq (by omega))
          refine lv_iinc (v := nI (u + 1)) (lv' := [(3, .int (nI (u + 1))), (0, .ref (ad 0)), (1, .int (k)), (2, .int (nI (acc2))), (4, .int (nI ((n))))]) hx hb dX1_couples_54 hl (k := 3) rfl (nI_add u 1) (by decide) rfl (fun ls hl => ?_)
          refine lv_goto (tgt := 8) hx hb dX1_couples_57 (by decide) ?_
          exact ih _ (by rw [za2, za]; rfl) _ _ _ hP hD hS (lv_sub hl [1, 2, 3, 0] rfl)
        · intro v zv ih2 zuv acc2 za2 H locs ls hP hD hS hl
          refine lv_iload hx hb dX1_couples_21 (lv_at hl 4 rfl) ?_
          refine lv_aload_n hx hb dX1_couples_23 rfl (lv_at hl 0 rfl) ?_
          refine kt_gT B hK hP rfl 0 (by decide) q28 rfl dX1_couples_24 ?_
          refine kn_ge (tgt := 54) hx hb dX1_couples_27 (by decide) (by omega) (by omega) (fun hq => absurd hq (by omega)) (fun hq => ?_)
          refine lv_aload_n hx hb dX1_couples_30 rfl (lv_at hl 0 rfl) ?_
          refine lv_iload_n hx hb dX1_couples_31 rfl (lv_at hl 3 rfl) ?_
          refine lv_iload hx hb dX1_couples_32 (lv_at hl 4 rfl) ?_
          refine kt_callI (wr := []) (rest := []) B (mT_weakest l D ad dd n g f2 cf2 qu2 R2 1 po2 pb2 zn zg zT u v zu zv (by omega)) (cwV 2 B.2.2.2.2 (lw_V q98 q100 qs7 q18 q101) rfl rfl rfl (by decide +kernel) ⟨Nat.le_of_ble_eq_true rfl, Nat.le_of_ble_eq_true rfl⟩) [0, 1, 2, 3, 4, 5, 6] [] [0, 1, 2, 3, 4, 5] rfl rfl rfl rfl rfl (fun _ h _ => absurd h List.not_mem_nil) rfl hA hK hP hD hS (ci := 0) rfl rfl rfl rfl hl.1 rfl (Nat.le_of_ble_eq_true rfl) dX1_couples_34 ⟨Nat.le_refl _, Nat.le_refl _⟩ (fun rx ux H locs hw hP hD hS => ?_)
          have hP : va_P D vwCl (wT ad dd n g f2 cf2 qu2 R2 1 po2 pb2) H := hP
          have hD : va_D A (wT ad dd n g f2 cf2 qu2 R2 1 po2 pb2) := hD
          have hw : rx = nI (ct_lam n g u v) := hw
          subst hw
          refine lv_istore (lv' := [(5, .int (nI (ct_lam n g u v))), (0, .ref (ad 0)), (1, .int (k)), (2, .int (nI (acc2))), (3, .int (nI (u))), (4, .int (nI (v)))]) hx hb dX1_couples_37 hl (by decide) rfl (fun ls hl => ?_)
          refine lv_iload hx hb dX1_couples_39 (lv_at hl 0 rfl) ?_
          refine lv_iload_n hx hb dX1_couples_41 rfl (lv_at hl 2 rfl) ?_
          refine lv_icmp_lt (tgt := 48) hx hb dX1_couples_42 (by decide)  (fun hc => ?_) (fun hc => ?_)
          · refine lv_iinc (v := nI (v + 1)) (lv' := [(4, .int (nI (v + 1))), (5, .int (nI (ct_lam n g u v))), (0, .ref (ad 0)), (1, .int (k)), (2, .int (nI (acc2))), (3, .int (nI (u)))]) hx hb dX1_couples_48 hl (k := 5) rfl (nI_add v 1) (by decide) rfl (fun ls hl => ?_)
            refine lv_goto (tgt := 21) hx hb dX1_couples_51 (by decide) ?_
            exact ih2 (by omega) _ (by rw [za2, fb_sm_succ, if_pos zuv, show decide (k ≤ nI (ct_lam n g u v)) = false from decide_eq_false (fa_of_lt hc).2.1]; rfl) _ _ _ hP hD hS (lv_sub hl [2, 3, 4, 5, 0] rfl)
          · refine lv_iinc (v := nI (acc2 + 1)) (lv' := [(2, .int (nI (acc2 + 1))), (5, .int (nI (ct_lam n g u v))), (0, .ref (ad 0)), (1, .int (k)), (3, .int (nI (u))), (4, .int (nI (v)))]) hx hb dX1_couples_45 hl (k := 3) rfl (nI_add acc2 1) (by decide) rfl (fun ls hl => ?_)
            refine lv_iinc (v := nI (v + 1)) (lv' := [(4, .int (nI (v + 1))), (2, .int (nI (acc2 + 1))), (5, .int (nI (ct_lam n g u v))), (0, .ref (ad 0)), (1, .int (k)), (3, .int (nI (u)))]) hx hb dX1_couples_48 hl (k := 5) rfl (nI_add v 1) (by decide) rfl (fun ls hl => ?_)
            refine lv_goto (tgt := 21) hx hb dX1_couples_51 (by decide) ?_
            exact ih2 (by omega) _ (by rw [za2, fb_sm_succ, if_pos zuv, show decide (k ≤ nI (ct_lam n g u v)) = true from decide_eq_true (fa_of_nlt hc)]; rfl) _ _ _ hP hD hS (lv_sub hl [3, 4, 1, 5, 0] rfl)
      exact inner (u + 1) (by omega) (by omega) acc (by rw [ct_sm_none, Nat.add_zero]) _ _ _ hP hD hS (lv_sub hl [1, 2, 3, 4, 0] rfl)
  refine lv_iconst (v := nI (0)) hx hb dX1_couples_4 (by decide) ?_
  refine lv_istore_n (lv' := [(2, .int (nI (0))), (0, .ref (ad 0)), (1, .int (k))]) hx hb dX1_couples_5 rfl hl (by decide) rfl (fun ls hl => ?_)
  refine lv_iconst (v := nI (0)) hx hb dX1_couples_6 (by decide) ?_
  refine lv_istore_n (lv' := [(3, .int (nI (0))), (2, .int (nI (0))), (0, .ref (ad 0)), (1, .int (k))]) hx hb dX1_couples_7 rfl hl (by decide) rfl (fun ls hl => ?_)
  exact outer 0 (Nat.zero_le _) 0 rfl _ _ _ hP hD hS (lv_sub hl [2, 3, 1, 0] rfl)
set_option maxHeartbeats 4000000 in
set_option maxRecDepth 100000 in
theorem mT_groups (l : Launch) (D : va_G) (ad : Nat → Nat) (dd : Nat → ClassId) (n : Nat) (g : Nat → Nat) (f : Nat → Int) (cf qu : Nat → Nat) (R b : Nat) (po pb : Nat → Nat) (zn : n ≤ 8) (zn2 : 2 ≤ n) (zg : ct_G g) (zb : ct_BI n g b po pb) (k : Int32) : kt_Mi l yX1_groups cX1_groups 4 .int 3 D (tyT dd) (wT ad dd n g f cf qu R b po pb) [.ref (ad 0), .int (k)] (fun r (q : ct_St) => r = nI (fb_ct (fun u => decide (ct_gr n g u k &&& (2 ^ u - 1) = 0)) n) ∧ ct_BS n g q) (fun q => wS ad dd n g q) := by
  refine kt_inI (by decide) (Nat.le_of_ble_eq_true rfl) (fun r _ h => rfl) ?_
  intro p e s m args below meth c A Q H ls B hA hK hP hD hS hl hret
  have B : CallFix p m c cX1_groups 4 s args lw_all RX1 := B
  have hx := B.1
  have hb := B.2.1
  have hl : lv_has ls 4 [(0, .ref (ad 0)), (1, .int (k))] := hl
  refine lv_aload_n hx hb dX1_groups_0 rfl (lv_at hl 0 rfl) ?_
  refine kt_callV (wr := []) (rest := []) B (mT_build l D ad dd n g f cf qu R b po pb zn zn2 zg zb) (cwV 0 B.2.2.2.2 (lw_V q78 q80 qs2 q18 q81) rfl rfl rfl (by decide +kernel) ⟨Nat.le_of_ble_eq_true rfl, Nat.le_of_ble_eq_true rfl⟩) [0, 1, 2, 3, 4, 5, 6] [] [0, 1, 2, 3, 4, 5] rfl rfl rfl rfl rfl (fun _ h _ => absurd h List.not_mem_nil) rfl hA hK hP hD hS (ci := 0) rfl rfl rfl rfl hl.1 rfl (Nat.le_of_ble_eq_true rfl) dX1_groups_1 ⟨Nat.le_refl _, Nat.le_refl _⟩ (fun ux H locs hw hP hD hS => ?_)
  obtain ⟨f2, cf2, qu2, R2, po2, pb2⟩ := ux
  dsimp only at hw
  have hP : va_P D vwCl (wT ad dd n g f2 cf2 qu2 R2 1 po2 pb2) H := hP
  have hD : va_D A (wT ad dd n g f2 cf2 qu2 R2 1 po2 pb2) := hD
  have zT : ct_TB n g po2 pb2 := hw
  have loop : ∀ u, u ≤ n → 1 ≤ u → ∀ acc, acc = fb_ct (fun u => decide (ct_gr n g u k &&& (2 ^ u - 1) = 0)) u → ∀ (H : Heap) (locs : List Loc) (ls : Array Slot), va_P D vwCl (wT ad dd n g f2 cf2 qu2 R2 1 po2 pb2) H → va_D A (wT ad dd n g f2 cf2 qu2 R2 1 po2 pb2) → va_S A s.heap H locs → lv_has ls 4 [(0, .ref (ad 0)), (1, .int (k)), (2, .int (nI (acc))), (3, .int (nI (u)))] → W p l e (kt_rm 3) s m args below meth c H locs 0 0 Q (F0 m 8 ls []) := by
    refine kt_up ?_ ?_
    · intro zu1 acc za H locs ls hP hD hS hl
      refine lv_iload_n hx hb dX1_groups_8 rfl (lv_at hl 3 rfl) ?_
      refine lv_aload_n hx hb dX1_groups_9 rfl (lv_at hl 0 rfl) ?_
      refine kt_gT B hK hP rfl 0 (by decide) q28 rfl dX1_groups_10 ?_
      refine kn_ge (tgt := 35) hx hb dX1_groups_13 (by decide) (by omega) (by omega) (fun hq => ?_) (fun hq => absurd hq (by omega))
      refine lv_iload_n hx hb dX1_groups_35 rfl (lv_at hl 2 rfl) ?_
      exact hret _ ((f2, cf2, qu2, R2, 1, po2, pb2)) _ _ _ _ (⟨by rw [za], ct_BS_1 zT⟩) hP hD hS dX1_groups_36
    · intro u zu ih zu1 acc za H locs ls hP hD hS hl
      have zgr := ct_T_groups zn zg zT k zu1 zu
      refine lv_iload_n hx hb dX1_groups_8 rfl (lv_at hl 3 rfl) ?_
      refine lv_aload_n hx hb dX1_groups_9 rfl (lv_at hl 0 rfl) ?_
      refine kt_gT B hK hP rfl 0 (by decide) q28 rfl dX1_groups_10 ?_
      refine kn_ge (tgt := 35) hx hb dX1_groups_13 (by decide) (by omega) (by omega) (fun hq => absurd hq (by omega)) (fun hq => ?_)
      refine lv_aload_n hx hb dX1_groups_16 rfl (lv_at hl 0 rfl) ?_
      refine kt_gT B hK hP rfl 8 (by decide) q36 rfl dX1_groups_17 ?_
      refine lv_iload_n hx hb dX1_groups_20 rfl (lv_at hl 3 rfl) ?_
      refine kt_il (v := nI (pb2 u)) hx hb hK hP 6 5 rfl rfl (by omega) (by decide) rfl dX1_groups_21 ?_
      refine lv_iload_n hx hb dX1_groups_22 rfl (lv_at hl 1 rfl) ?_
      refine lv_icmp_ge (tgt := 29) hx hb dX1_groups_23 (by decide)  (fun hc => ?_) (fun hc => ?_)
      · refine lv_iinc (v := nI (u + 1)) (lv' := [(3, .int (nI (u + 1))), (0, .ref (ad 0)), (1, .int (k)), (2, .int (nI (acc)))]) hx hb dX1_groups_29 hl (k := 3) rfl (nI_add u 1) (by decide) rfl (fun ls hl => ?_)
        refine lv_goto (tgt := 8) hx hb dX1_groups_32 (by decide) ?_
        exact ih (by omega) _ (by rw [za, fb_ct_succ, if_neg (by rw [decide_eq_true_eq, zgr]; exact fun q => q hc)]; rfl) _ _ _ hP hD hS (lv_sub hl [1, 2, 3, 0] rfl)
      · refine lv_iinc (v := nI (acc + 1)) (lv' := [(2, .int (nI (acc + 1))), (0, .ref (ad 0)), (1, .int (k)), (3, .int (nI (u)))]) hx hb dX1_groups_26 hl (k := 2) rfl (nI_add acc 1) (by decide) rfl (fun ls hl => ?_)
        refine lv_iinc (v := nI (u + 1)) (lv' := [(3, .int (nI (u + 1))), (2, .int (nI (acc + 1))), (0, .ref (ad 0)), (1, .int (k))]) hx hb dX1_groups_29 hl (k := 3) rfl (nI_add u 1) (by decide) rfl (fun ls hl => ?_)
        refine lv_goto (tgt := 8) hx hb dX1_groups_32 (by decide) ?_
        exact ih (by omega) _ (by rw [za, fb_ct_succ, if_pos (by rw [decide_eq_true_eq, zgr]; exact hc)]) _ _ _ hP hD hS (lv_sub hl [2, 3, 1, 0] rfl)
  refine lv_iconst (v := nI (1)) hx hb dX1_groups_4 (by decide) ?_
  refine lv_istore_n (lv' := [(2, .int (nI (1))), (0, .ref (ad 0)), (1, .int (k))]) hx hb dX1_groups_5 rfl hl (by decide) rfl (fun ls hl => ?_)
  refine lv_iconst (v := nI (1)) hx hb dX1_groups_6 (by decide) ?_
  refine lv_istore_n (lv' := [(3, .int (nI (1))), (2, .int (nI (1))), (0, .ref (ad 0)), (1, .int (k))]) hx hb dX1_groups_7 rfl hl (by decide) rfl (fun ls hl => ?_)
  exact loop 1 (by omega) (Nat.le_refl 1) 1 (ct_groups_1 n g k) _ _ _ hP hD hS (lv_sub hl [2, 3, 1, 0] rfl)
set_option maxHeartbeats 4000000 in
set_option maxRecDepth 100000 in
theorem mT_group (l : Launch) (D : va_G) (ad : Nat → Nat) (dd : Nat → ClassId) (n : Nat) (g : Nat → Nat) (f : Nat → Int) (cf qu : Nat → Nat) (R b : Nat) (po pb : Nat → Nat) (zn : n ≤ 8) (zn2 : 2 ≤ n) (zg : ct_G g) (zb : ct_BI n g b po pb) (u k : Int32) : kt_Mi l yX1_group cX1_group 7 .int 3 D (tyT dd) (wT ad dd n g f cf qu R b po pb) [.ref (ad 0), .int (u), .int (k)] (fun r (q : ct_St) => r = ct_gq n g u k ∧ ct_BS n g q) (fun q => wS ad dd n g q) := by
  refine kt_inI (by decide) (Nat.le_of_ble_eq_true rfl) (fun r _ h => rfl) ?_
  intro p e s m args below meth c A Q H ls B hA hK hP hD hS hl hret
  have B : CallFix p m c cX1_group 7 s args lw_all RX1 := B
  have hx := B.1
  have hb := B.2.1
  have hl : lv_has ls 7 [(0, .ref (ad 0)), (1, .int (u)), (2, .int (k))] := hl
  have zp8 := ct_pow8 zn
  refine lv_aload_n hx hb dX1_group_0 rfl (lv_at hl 0 rfl) ?_
  refine lv_iload_n hx hb dX1_group_1 rfl (lv_at hl 1 rfl) ?_
  refine kt_callI (wr := []) (rest := []) B (mT_isPoint l D ad dd n g f cf qu R b po pb u) (cwV 1 B.2.2.2.2 (lw_V q66 q68 qs1 q18 q69) rfl rfl rfl (by decide +kernel) ⟨Nat.le_of_ble_eq_true rfl, Nat.le_of_ble_eq_true rfl⟩) [0, 1, 2, 3, 4, 5, 6] [] [0, 1, 2, 3, 4, 5] rfl rfl rfl rfl rfl (fun _ h _ => absurd h List.not_mem_nil) rfl hA hK hP hD hS (ci := 0) rfl rfl rfl rfl hl.1 rfl (Nat.le_of_ble_eq_true rfl) dX1_group_2 ⟨Nat.le_refl _, Nat.le_refl _⟩ (fun rx ux H locs hw hP hD hS => ?_)
  have hP : va_P D vwCl (wT ad dd n g f cf qu R b po pb) H := hP
  have hD : va_D A (wT ad dd n g f cf qu R b po pb) := hD
  have hw : rx = nI (ct_bn (ct_ip n u)) := hw
  subst hw
  refine kn_if_ne (tgt := 10) hx hb dX1_group_5 (by decide) (ct_bn_lt _) (fun hc => ?_) (fun hc => ?_)
  · have hok := ct_bn_1 hc
    obtain ⟨i, zi, rfl⟩ := ct_ip_of zn hok
    refine lv_aload_n hx hb dX1_group_10 rfl (lv_at hl 0 rfl) ?_
    refine kt_callV (wr := []) (rest := []) B (mT_build l D ad dd n g f cf qu R b po pb zn zn2 zg zb) (cwV 0 B.2.2.2.2 (lw_V q78 q80 qs2 q18 q81) rfl rfl rfl (by decide +kernel) ⟨Nat.le_of_ble_eq_true rfl, Nat.le_of_ble_eq_true rfl⟩) [0, 1, 2, 3, 4, 5, 6] [] [0, 1, 2, 3, 4, 5] rfl rfl rfl rfl rfl (fun _ h _ => absurd h List.not_mem_nil) rfl hA hK hP hD hS (ci := 0) rfl rfl rfl rfl hl.1 rfl (Nat.le_of_ble_eq_true rfl) dX1_group_11 ⟨Nat.le_refl _, Nat.le_refl _⟩ (fun ux H locs hw hP hD hS => ?_)
    obtain ⟨f2, cf2, qu2, R2, po2, pb2⟩ := ux
    dsimp only at hw
    have hP : va_P D vwCl (wT ad dd n g f2 cf2 qu2 R2 1 po2 pb2) H := hP
    have hD : va_D A (wT ad dd n g f2 cf2 qu2 R2 1 po2 pb2) := hD
    have zT : ct_TB n g po2 pb2 := hw
    have outer : ∀ r, r ≤ 8 → ∀ S, ct_GO n g po2 pb2 i k S r → ∀ (H : Heap) (locs : List Loc) (ls : Array Slot), va_P D vwCl (wT ad dd n g f2 cf2 qu2 R2 1 po2 pb2) H → va_D A (wT ad dd n g f2 cf2 qu2 R2 1 po2 pb2) → va_S A s.heap H locs → lv_has ls 7 [(0, .ref (ad 0)), (2, .int (k)), (3, .int (nI (S))), (4, .int (nI (r)))] → W p l e (kt_rm 3) s m args below meth c H locs 0 0 Q (F0 m 21 ls []) := by
      refine kt_up ?_ ?_
      · intro S zO H locs ls hP hD hS hl
        have zS := zO.1.1
        refine lv_iload hx hb dX1_group_21 (lv_at hl 3 rfl) ?_
        refine lv_bipush (v := nI (8)) hx hb dX1_group_23 (by decide) ?_
        refine kn_ge (tgt := 94) hx hb dX1_group_25 (by decide) (by omega) (by omega) (fun hq => ?_) (fun hq => absurd hq (by omega))
        refine lv_iload_n hx hb dX1_group_94 rfl (lv_at hl 2 rfl) ?_
        exact hret _ ((f2, cf2, qu2, R2, 1, po2, pb2)) _ _ _ _ (⟨by rw [ct_GO_end zn zg zT zi zO]; exact ct_gq_yes (by omega) hok, ct_BS_1 zT⟩) hP hD hS dX1_group_95
      · intro r zr ih S0 zO H locs ls hP hD hS hl
        refine lv_iload hx hb dX1_group_21 (lv_at hl 3 rfl) ?_
        refine lv_bipush (v := nI (8)) hx hb dX1_group_23 (by decide) ?_
        refine kn_ge (tgt := 94) hx hb dX1_group_25 (by decide) (by omega) (by omega) (fun hq => absurd hq (by omega)) (fun hq => ?_)
        refine lv_iconst (v := nI (1)) hx hb dX1_group_28 (by decide) ?_
        refine lv_istore (lv' := [(5, .int (nI (1))), (0, .ref (ad 0)), (2, .int (k)), (3, .int (nI ((S0)))), (4, .int (nI (r)))]) hx hb dX1_group_29 hl (by decide) rfl (fun ls hl => ?_)
        have inner : ∀ v, v ≤ n → 1 ≤ v → ∀ S, ct_GI n g po2 pb2 i k S0 S v → ∀ (H : Heap) (locs : List Loc) (ls : Array Slot), va_P D vwCl (wT ad dd n g f2 cf2 qu2 R2 1 po2 pb2) H → va_D A (wT ad dd n g f2 cf2 qu2 R2 1 po2 pb2) → va_S A s.heap H locs → lv_has ls 7 [(0, .ref (ad 0)), (2, .int (k)), (3, .int (nI (S))), (4, .int (nI (r))), (5, .int (nI (v)))] → W p l e (kt_rm 3) s m args below meth c H locs 0 0 Q (F0 m 31 ls []) := by
          refine kt_up ?_ ?_
          · intro zv1 S zI H locs ls hP hD hS hl
            refine lv_iload hx hb dX1_group_31 (lv_at hl 4 rfl) ?_
            refine lv_aload_n hx hb dX1_group_33 rfl (lv_at hl 0 rfl) ?_
            refine kt_gT B hK hP rfl 0 (by decide) q28 rfl dX1_group_34 ?_
            refine kn_ge (tgt := 88) hx hb dX1_group_37 (by decide) (by omega) (by omega) (fun hq => ?_) (fun hq => absurd hq (by omega))
            refine lv_iinc (v := nI (r + 1)) (lv' := [(4, .int (nI (r + 1))), (0, .ref (ad 0)), (2, .int (k)), (3, .int (nI (S))), (5, .int (nI ((n))))]) hx hb dX1_group_88 hl (k := 3) rfl (nI_add r 1) (by decide) rfl (fun ls hl => ?_)
            refine lv_goto (tgt := 21) hx hb dX1_group_91 (by decide) ?_
            exact ih _ (ct_GI_end zO zI) _ _ _ hP hD hS (lv_sub hl [1, 2, 3, 0] rfl)
          · intro v zv ih2 zv1 S zI H locs ls hP hD hS hl
            have zS := zI.1.1
            have zpv := (zT.1 v zv1 zv).1
            refine lv_iload hx hb dX1_group_31 (lv_at hl 4 rfl) ?_
            refine lv_aload_n hx hb dX1_group_33 rfl (lv_at hl 0 rfl) ?_
            refine kt_gT B hK hP rfl 0 (by decide) q28 rfl dX1_group_34 ?_
            refine kn_ge (tgt := 88) hx hb dX1_group_37 (by decide) (by omega) (by omega) (fun hq => absurd hq (by omega)) (fun hq => ?_)
            refine lv_aload_n hx hb dX1_group_40 rfl (lv_at hl 0 rfl) ?_
            refine kt_gT B hK hP rfl 8 (by decide) q36 rfl dX1_group_41 ?_
            refine lv_iload hx hb dX1_group_44 (lv_at hl 4 rfl) ?_
            refine kt_il (v := nI (pb2 v)) hx hb hK hP 6 5 rfl rfl (by omega) (by decide) rfl dX1_group_46 ?_
            refine lv_iload_n hx hb dX1_group_47 rfl (lv_at hl 1 rfl) ?_
            refine lv_icmp_ge (tgt := 54) hx hb dX1_group_48 (by decide)  (fun hc2 => ?_) (fun hc2 => ?_)
            · refine lv_iconst (v := nI (1)) hx hb dX1_group_54 (by decide) ?_
              refine lv_iload hx hb dX1_group_55 (lv_at hl 4 rfl) ?_
              refine kn_shl1 hx hb (by omega) dX1_group_57 ?_
              refine lv_iconst (v := nI (1)) hx hb dX1_group_58 (by decide) ?_
              refine lv_aload_n hx hb dX1_group_59 rfl (lv_at hl 0 rfl) ?_
              refine kt_gT B hK hP rfl 7 (by decide) q35 rfl dX1_group_60 ?_
              refine lv_iload hx hb dX1_group_63 (lv_at hl 4 rfl) ?_
              refine kt_bl (v := nI (po2 v)) hx hb hK hP 5 4 rfl rfl (by omega) (by decide) rfl dX1_group_65 ?_
              refine kn_shl1 hx hb (by omega) dX1_group_66 ?_
              refine kn_ior hx hb dX1_group_67 ?_
              refine lv_istore (lv' := [(6, .int (nI ((2 ^ v) ||| (2 ^ (po2 v))))), (0, .ref (ad 0)), (2, .int (k)), (3, .int (nI (S))), (4, .int (nI (r))), (5, .int (nI (v)))]) hx hb dX1_group_68 hl (by decide) rfl (fun ls hl => ?_)
              refine lv_iload_n hx hb dX1_group_70 rfl (lv_at hl 3 rfl) ?_
              refine lv_iload hx hb dX1_group_71 (lv_at hl 0 rfl) ?_
              refine kn_iand hx hb dX1_group_73 ?_
              refine kn_if_eq (tgt := 82) hx hb dX1_group_74 (by decide) (Nat.lt_of_le_of_lt Nat.and_le_left (by omega)) (fun hd => ?_) (fun hd => ?_)
              · refine lv_iinc (v := nI (v + 1)) (lv' := [(5, .int (nI (v + 1))), (6, .int (nI ((2 ^ v) ||| (2 ^ (po2 v))))), (0, .ref (ad 0)), (2, .int (k)), (3, .int (nI (S))), (4, .int (nI (r)))]) hx hb dX1_group_82 hl (k := 5) rfl (nI_add v 1) (by decide) rfl (fun ls hl => ?_)
                refine lv_goto (tgt := 31) hx hb dX1_group_85 (by decide) ?_
                exact ih2 (by omega) _ (ct_GI_none zI hd) _ _ _ hP hD hS (lv_sub hl [2, 3, 4, 5, 0] rfl)
              · refine lv_iload_n hx hb dX1_group_77 rfl (lv_at hl 3 rfl) ?_
                refine lv_iload hx hb dX1_group_78 (lv_at hl 0 rfl) ?_
                refine kn_ior hx hb dX1_group_80 ?_
                refine lv_istore_n (lv' := [(3, .int (nI (S ||| ((2 ^ v) ||| (2 ^ (po2 v)))))), (6, .int (nI ((2 ^ v) ||| (2 ^ (po2 v))))), (0, .ref (ad 0)), (2, .int (k)), (4, .int (nI (r))), (5, .int (nI (v)))]) hx hb dX1_group_81 rfl hl (by decide) rfl (fun ls hl => ?_)
                refine lv_iinc (v := nI (v + 1)) (lv' := [(5, .int (nI (v + 1))), (3, .int (nI (S ||| ((2 ^ v) ||| (2 ^ (po2 v)))))), (6, .int (nI ((2 ^ v) ||| (2 ^ (po2 v))))), (0, .ref (ad 0)), (2, .int (k)), (4, .int (nI (r)))]) hx hb dX1_group_82 hl (k := 5) rfl (nI_add v 1) (by decide) rfl (fun ls hl => ?_)
                refine lv_goto (tgt := 31) hx hb dX1_group_85 (by decide) ?_
                exact ih2 (by omega) _ (ct_GI_add zn zg zT zi zv1 zv zI hc2 hd) _ _ _ hP hD hS (lv_sub hl [3, 4, 1, 5, 0] rfl)
            · refine lv_goto (tgt := 82) hx hb dX1_group_51 (by decide) ?_
              refine lv_iinc (v := nI (v + 1)) (lv' := [(5, .int (nI (v + 1))), (0, .ref (ad 0)), (2, .int (k)), (3, .int (nI (S))), (4, .int (nI (r)))]) hx hb dX1_group_82 hl (k := 4) rfl (nI_add v 1) (by decide) rfl (fun ls hl => ?_)
              refine lv_goto (tgt := 31) hx hb dX1_group_85 (by decide) ?_
              exact ih2 (by omega) _ (ct_GI_weak zI hc2) _ _ _ hP hD hS (lv_sub hl [1, 2, 3, 4, 0] rfl)
        exact inner 1 (by omega) (Nat.le_refl 1) S0 (ct_GI_0 zO) _ _ _ hP hD hS (lv_sub hl [1, 2, 3, 4, 0] rfl)
    refine lv_iconst (v := nI (1)) hx hb dX1_group_14 (by decide) ?_
    refine lv_iload_n hx hb dX1_group_15 rfl (lv_at hl 1 rfl) ?_
    refine kn_shl1 hx hb (by omega) dX1_group_16 ?_
    refine lv_istore_n (lv' := [(3, .int (nI (2 ^ i))), (0, .ref (ad 0)), (1, .int (nI (i))), (2, .int (k))]) hx hb dX1_group_17 rfl hl (by decide) rfl (fun ls hl => ?_)
    refine lv_iconst (v := nI (0)) hx hb dX1_group_18 (by decide) ?_
    refine lv_istore (lv' := [(4, .int (nI (0))), (3, .int (nI (2 ^ i))), (0, .ref (ad 0)), (1, .int (nI (i))), (2, .int (k))]) hx hb dX1_group_19 hl (by decide) rfl (fun ls hl => ?_)
    exact outer 0 (by omega) _ (ct_GO_0 n g po2 pb2 zi k) _ _ _ hP hD hS (lv_sub hl [2, 4, 1, 0] rfl)
  · refine lv_iconst (v := (-1)) hx hb dX1_group_8 (by decide) ?_
    exact hret _ ((f, cf, qu, R, b, po, pb)) _ _ _ _ (⟨ct_gq_no (ct_bn_0 hc), zb⟩) hP hD hS dX1_group_9
set_option maxHeartbeats 4000000 in
set_option maxRecDepth 100000 in
theorem mT_total (l : Launch) (D : va_G) (ad : Nat → Nat) (dd : Nat → ClassId) (n : Nat) (g : Nat → Nat) (f : Nat → Int) (cf qu : Nat → Nat) (R b : Nat) (po pb : Nat → Nat) (zn : n ≤ 8) (zn2 : 2 ≤ n) (zg : ct_G g) (zb : ct_BI n g b po pb) : kt_Mi l yX1_total cX1_total 4 .int 3 D (tyT dd) (wT ad dd n g f cf qu R b po pb) [.ref (ad 0)] (fun r (q : ct_St) => r = nI (fb_sm (fun u => fb_sm (fun v => ct_lam n g u v) u) n) ∧ ct_BS n g q) (fun q => wS ad dd n g q) := by
  refine kt_inI (by decide) (Nat.le_of_ble_eq_true rfl) (fun r _ h => rfl) ?_
  intro p e s m args below meth c A Q H ls B hA hK hP hD hS hl hret
  have B : CallFix p m c cX1_total 4 s args lw_all RX1 := B
  have hx := B.1
  have hb := B.2.1
  have hl : lv_has ls 4 [(0, .ref (ad 0))] := hl
  refine lv_aload_n hx hb dX1_total_0 rfl (lv_at hl 0 rfl) ?_
  refine kt_callV (wr := []) (rest := []) B (mT_build l D ad dd n g f cf qu R b po pb zn zn2 zg zb) (cwV 0 B.2.2.2.2 (lw_V q78 q80 qs2 q18 q81) rfl rfl rfl (by decide +kernel) ⟨Nat.le_of_ble_eq_true rfl, Nat.le_of_ble_eq_true rfl⟩) [0, 1, 2, 3, 4, 5, 6] [] [0, 1, 2, 3, 4, 5] rfl rfl rfl rfl rfl (fun _ h _ => absurd h List.not_mem_nil) rfl hA hK hP hD hS (ci := 0) rfl rfl rfl rfl hl.1 rfl (Nat.le_of_ble_eq_true rfl) dX1_total_1 ⟨Nat.le_refl _, Nat.le_refl _⟩ (fun ux H locs hw hP hD hS => ?_)
  obtain ⟨f2, cf2, qu2, R2, po2, pb2⟩ := ux
  dsimp only at hw
  have hP : va_P D vwCl (wT ad dd n g f2 cf2 qu2 R2 1 po2 pb2) H := hP
  have hD : va_D A (wT ad dd n g f2 cf2 qu2 R2 1 po2 pb2) := hD
  have zT : ct_TB n g po2 pb2 := hw
  have outer : ∀ u, u ≤ n → ∀ acc, acc = fb_sm (fun u => fb_sm (fun v => if u < v then ct_lam n g u v else 0) n) u → ∀ (H : Heap) (locs : List Loc) (ls : Array Slot), va_P D vwCl (wT ad dd n g f2 cf2 qu2 R2 1 po2 pb2) H → va_D A (wT ad dd n g f2 cf2 qu2 R2 1 po2 pb2) → va_S A s.heap H locs → lv_has ls 4 [(0, .ref (ad 0)), (1, .int (nI (acc))), (2, .int (nI (u)))] → W p l e (kt_rm 3) s m args below meth c H locs 0 0 Q (F0 m 8 ls []) := by
    refine kt_up ?_ ?_
    · intro acc za H locs ls hP hD hS hl
      refine lv_iload_n hx hb dX1_total_8 rfl (lv_at hl 2 rfl) ?_
      refine lv_aload_n hx hb dX1_total_9 rfl (lv_at hl 0 rfl) ?_
      refine kt_gT B hK hP rfl 0 (by decide) q28 rfl dX1_total_10 ?_
      refine kn_ge (tgt := 49) hx hb dX1_total_13 (by decide) (by omega) (by omega) (fun hq => ?_) (fun hq => absurd hq (by omega))
      refine lv_iload_n hx hb dX1_total_49 rfl (lv_at hl 1 rfl) ?_
      exact hret _ ((f2, cf2, qu2, R2, 1, po2, pb2)) _ _ _ _ (⟨by rw [za, ct_tri_la zn zg], ct_BS_1 zT⟩) hP hD hS dX1_total_50
    · intro u zu ih acc za H locs ls hP hD hS hl
      refine lv_iload_n hx hb dX1_total_8 rfl (lv_at hl 2 rfl) ?_
      refine lv_aload_n hx hb dX1_total_9 rfl (lv_at hl 0 rfl) ?_
      refine kt_gT B hK hP rfl 0 (by decide) q28 rfl dX1_total_10 ?_
      refine kn_ge (tgt := 49) hx hb dX1_total_13 (by decide) (by omega) (by omega) (fun hq => absurd hq (by omega)) (fun hq => ?_)
      refine lv_iload_n hx hb dX1_total_16 rfl (lv_at hl 2 rfl) ?_
      refine lv_iconst (v := nI (1)) hx hb dX1_total_17 (by decide) ?_
      refine kn_iadd hx hb dX1_total_18 ?_
      refine lv_istore_n (lv' := [(3, .int (nI (u + 1))), (0, .ref (ad 0)), (1, .int (nI (acc))), (2, .int (nI (u)))]) hx hb dX1_total_19 rfl hl (by decide) rfl (fun ls hl => ?_)
      have inner : ∀ v, v ≤ n → u < v → ∀ acc2, acc2 = acc + fb_sm (fun v => if u < v then ct_lam n g u v else 0) v → ∀ (H : Heap) (locs : List Loc) (ls : Array Slot), va_P D vwCl (wT ad dd n g f2 cf2 qu2 R2 1 po2 pb2) H → va_D A (wT ad dd n g f2 cf2 qu2 R2 1 po2 pb2) → va_S A s.heap H locs → lv_has ls 4 [(0, .ref (ad 0)), (1, .int (nI (acc2))), (2, .int (nI (u))), (3, .int (nI (v)))] → W p l e (kt_rm 3) s m args below meth c H locs 0 0 Q (F0 m 20 ls []) := by
        refine kt_up ?_ ?_
        · intro zuv acc2 za2 H locs ls hP hD hS hl
          refine lv_iload_n hx hb dX1_total_20 rfl (lv_at hl 3 rfl) ?_
          refine lv_aload_n hx hb dX1_total_21 rfl (lv_at hl 0 rfl) ?_
          refine kt_gT B hK hP rfl 0 (by decide) q28 rfl dX1_total_22 ?_
          refine kn_ge (tgt := 43) hx hb dX1_total_25 (by decide) (by omega) (by omega) (fun hq => ?_) (fun hq => absurd hq (by omega))
          refine lv_iinc (v := nI (u + 1)) (lv' := [(2, .int (nI (u + 1))), (0, .ref (ad 0)), (1, .int (nI (acc2))), (3, .int (nI ((n))))]) hx hb dX1_total_43 hl (k := 2) rfl (nI_add u 1) (by decide) rfl (fun ls hl => ?_)
          refine lv_goto (tgt := 8) hx hb dX1_total_46 (by decide) ?_
          exact ih _ (by rw [za2, za]; rfl) _ _ _ hP hD hS (lv_sub hl [1, 2, 0] rfl)
        · intro v zv ih2 zuv acc2 za2 H locs ls hP hD hS hl
          refine lv_iload_n hx hb dX1_total_20 rfl (lv_at hl 3 rfl) ?_
          refine lv_aload_n hx hb dX1_total_21 rfl (lv_at hl 0 rfl) ?_
          refine kt_gT B hK hP rfl 0 (by decide) q28 rfl dX1_total_22 ?_
          refine kn_ge (tgt := 43) hx hb dX1_total_25 (by decide) (by omega) (by omega) (fun hq => absurd hq (by omega)) (fun hq => ?_)
          refine lv_iload_n hx hb dX1_total_28 rfl (lv_at hl 1 rfl) ?_
          refine lv_aload_n hx hb dX1_total_29 rfl (lv_at hl 0 rfl) ?_
          refine lv_iload_n hx hb dX1_total_30 rfl (lv_at hl 2 rfl) ?_
          refine lv_iload_n hx hb dX1_total_31 rfl (lv_at hl 3 rfl) ?_
          refine kt_callI (wr := []) (rest := [.int (nI (acc2))]) B (mT_weakest l D ad dd n g f2 cf2 qu2 R2 1 po2 pb2 zn zg zT u v zu zv (by omega)) (cwV 2 B.2.2.2.2 (lw_V q98 q100 qs7 q18 q101) rfl rfl rfl (by decide +kernel) ⟨Nat.le_of_ble_eq_true rfl, Nat.le_of_ble_eq_true rfl⟩) [0, 1, 2, 3, 4, 5, 6] [] [0, 1, 2, 3, 4, 5] rfl rfl rfl rfl rfl (fun _ h _ => absurd h List.not_mem_nil) rfl hA hK hP hD hS (ci := 0) rfl rfl rfl rfl hl.1 rfl (Nat.le_of_ble_eq_true rfl) dX1_total_32 ⟨Nat.le_refl _, Nat.le_refl _⟩ (fun rx ux H locs hw hP hD hS => ?_)
          have hP : va_P D vwCl (wT ad dd n g f2 cf2 qu2 R2 1 po2 pb2) H := hP
          have hD : va_D A (wT ad dd n g f2 cf2 qu2 R2 1 po2 pb2) := hD
          have hw : rx = nI (ct_lam n g u v) := hw
          subst hw
          refine kn_iadd hx hb dX1_total_35 ?_
          refine lv_istore_n (lv' := [(1, .int (nI (acc2 + (ct_lam n g u v)))), (0, .ref (ad 0)), (2, .int (nI (u))), (3, .int (nI (v)))]) hx hb dX1_total_36 rfl hl (by decide) rfl (fun ls hl => ?_)
          refine lv_iinc (v := nI (v + 1)) (lv' := [(3, .int (nI (v + 1))), (1, .int (nI (acc2 + (ct_lam n g u v)))), (0, .ref (ad 0)), (2, .int (nI (u)))]) hx hb dX1_total_37 hl (k := 3) rfl (nI_add v 1) (by decide) rfl (fun ls hl => ?_)
          refine lv_goto (tgt := 20) hx hb dX1_total_40 (by decide) ?_
          exact ih2 (by omega) _ (by rw [za2, fb_sm_succ, if_pos zuv, Nat.add_assoc]) _ _ _ hP hD hS (lv_sub hl [2, 1, 3, 0] rfl)
      exact inner (u + 1) (by omega) (by omega) acc (by rw [ct_sm_none, Nat.add_zero]) _ _ _ hP hD hS (lv_sub hl [1, 2, 3, 0] rfl)
  refine lv_iconst (v := nI (0)) hx hb dX1_total_4 (by decide) ?_
  refine lv_istore_n (lv' := [(1, .int (nI (0))), (0, .ref (ad 0))]) hx hb dX1_total_5 rfl hl (by decide) rfl (fun ls hl => ?_)
  refine lv_iconst (v := nI (0)) hx hb dX1_total_6 (by decide) ?_
  refine lv_istore_n (lv' := [(2, .int (nI (0))), (1, .int (nI (0))), (0, .ref (ad 0))]) hx hb dX1_total_7 rfl hl (by decide) rfl (fun ls hl => ?_)
  exact outer 0 (Nat.zero_le _) 0 rfl _ _ _ hP hD hS (lv_sub hl [2, 1, 0] rfl)
set_option maxHeartbeats 4000000 in
set_option maxRecDepth 100000 in
theorem mT_cap (l : Launch) (D : va_G) (ad : Nat → Nat) (dd : Nat → ClassId) (n : Nat) (g : Nat → Nat) (f : Nat → Int) (cf qu : Nat → Nat) (R b : Nat) (po pb : Nat → Nat) (zn : n ≤ 8) (zg : ct_G g) (zb : ct_BI n g b po pb) (x : Int32) : kt_Mi l yX1_cap cX1_cap 5 .int 3 D (tyT dd) (wT ad dd n g f cf qu R b po pb) [.ref (ad 0), .int (x)] (fun r (q : (Nat → Nat) × Nat) => ((x < 0 ∧ r = -1 ∧ q.1 = g) ∨ ∃ t, t < 2 ^ 31 ∧ x = nI t ∧ r = nI (fb_sm (fun u => fb_sm (fun v => ct_cc g t u v) u) n) ∧ q.1 = ct_cm g t n 0) ∧ ct_BI n q.1 q.2 po pb) (fun q => wT ad dd n q.1 f cf qu R q.2 po pb) := by
  refine kt_inI (by decide) (Nat.le_of_ble_eq_true rfl) (fun r _ h => rfl) ?_
  intro p e s m args below meth c A Q H ls B hA hK hP hD hS hl hret
  have B : CallFix p m c cX1_cap 5 s args lw_all RX1 := B
  have hx := B.1
  have hb := B.2.1
  have hl : lv_has ls 5 [(0, .ref (ad 0)), (1, .int (x))] := hl
  refine lv_iload_n hx hb dX1_cap_0 rfl (lv_at hl 1 rfl) ?_
  by_cases hc : x < 0
  · refine lv_if_ge (tgt := 6) hx hb dX1_cap_1 (by decide) (fun hq => absurd hc (by rw [fa_le] at hq; rw [fa_lt]; omega)) (fun hq => ?_)
    refine lv_iconst (v := (-1)) hx hb dX1_cap_4 (by decide) ?_
    exact hret _ ((g, b)) _ _ _ _ (⟨Or.inl ⟨hc, rfl, rfl⟩, zb⟩) hP hD hS dX1_cap_5
  · obtain ⟨t, zt, rfl⟩ := nI_of hc
    refine lv_if_ge (tgt := 6) hx hb dX1_cap_1 (by decide) (fun hq => ?_) (fun hq => absurd (nI_pos' zt) hq)
    have outer : ∀ u, u ≤ n → ∀ (acc b2 : Nat), acc = fb_sm (fun u => fb_sm (fun v => if u < v then ct_cc g t u v else 0) n) u → ct_BI n (ct_ck n g t u 0) b2 po pb → ∀ (H : Heap) (locs : List Loc) (ls : Array Slot), va_P D vwCl (wT ad dd n (ct_ck n g t u 0) f cf qu R b2 po pb) H → va_D A (wT ad dd n (ct_ck n g t u 0) f cf qu R b2 po pb) → va_S A s.heap H locs → lv_has ls 5 [(0, .ref (ad 0)), (1, .int (nI (t))), (2, .int (nI (acc))), (3, .int (nI (u)))] → W p l e (kt_rm 3) s m args below meth c H locs 0 0 Q (F0 m 10 ls []) := by
      refine kt_up ?_ ?_
      · intro acc b2 za zB H locs ls hP hD hS hl
        refine lv_iload_n hx hb dX1_cap_10 rfl (lv_at hl 3 rfl) ?_
        refine lv_aload_n hx hb dX1_cap_11 rfl (lv_at hl 0 rfl) ?_
        refine kt_gT B hK hP rfl 0 (by decide) q28 rfl dX1_cap_12 ?_
        refine kn_ge (tgt := 75) hx hb dX1_cap_15 (by decide) (by omega) (by omega) (fun hq => ?_) (fun hq => absurd hq (by omega))
        refine lv_iload_n hx hb dX1_cap_75 rfl (lv_at hl 2 rfl) ?_
        exact hret _ ((ct_ck n g t n 0, b2)) _ _ _ _ (⟨Or.inr ⟨t, zt, rfl, by rw [za, ct_tri_cc zn zg], ct_ck_end g t⟩, zB⟩) hP hD hS dX1_cap_76
      · intro u zu ih acc b2 za zB H locs ls hP hD hS hl
        refine lv_iload_n hx hb dX1_cap_10 rfl (lv_at hl 3 rfl) ?_
        refine lv_aload_n hx hb dX1_cap_11 rfl (lv_at hl 0 rfl) ?_
        refine kt_gT B hK hP rfl 0 (by decide) q28 rfl dX1_cap_12 ?_
        refine kn_ge (tgt := 75) hx hb dX1_cap_15 (by decide) (by omega) (by omega) (fun hq => absurd hq (by omega)) (fun hq => ?_)
        refine lv_iload_n hx hb dX1_cap_18 rfl (lv_at hl 3 rfl) ?_
        refine lv_iconst (v := nI (1)) hx hb dX1_cap_19 (by decide) ?_
        refine kn_iadd hx hb dX1_cap_20 ?_
        refine lv_istore (lv' := [(4, .int (nI (u + 1))), (0, .ref (ad 0)), (1, .int (nI (t))), (2, .int (nI (acc))), (3, .int (nI (u)))]) hx hb dX1_cap_21 hl (by decide) rfl (fun ls hl => ?_)
        have hwe : ct_ck n g t u 0 = ct_ck n g t u (u + 1) := ct_ck_in n g t u
        have hP : va_P D vwCl (wT ad dd n (ct_ck n g t u (u + 1)) f cf qu R b2 po pb) H := by rw [← hwe]; exact hP
        have hD : va_D A (wT ad dd n (ct_ck n g t u (u + 1)) f cf qu R b2 po pb) := by rw [← hwe]; exact hD
        clear hwe
        have inner : ∀ v, v ≤ n → u < v → ∀ (acc2 b3 : Nat), acc2 = acc + fb_sm (fun v => if u < v then ct_cc g t u v else 0) v → ct_BI n (ct_ck n g t u v) b3 po pb → ∀ (H : Heap) (locs : List Loc) (ls : Array Slot), va_P D vwCl (wT ad dd n (ct_ck n g t u v) f cf qu R b3 po pb) H → va_D A (wT ad dd n (ct_ck n g t u v) f cf qu R b3 po pb) → va_S A s.heap H locs → lv_has ls 5 [(0, .ref (ad 0)), (1, .int (nI (t))), (2, .int (nI (acc2))), (3, .int (nI (u))), (4, .int (nI (v)))] → W p l e (kt_rm 3) s m args below meth c H locs 0 0 Q (F0 m 23 ls []) := by
          refine kt_up ?_ ?_
          · intro zuv acc2 b3 za2 zB2 H locs ls hP hD hS hl
            refine lv_iload hx hb dX1_cap_23 (lv_at hl 4 rfl) ?_
            refine lv_aload_n hx hb dX1_cap_25 rfl (lv_at hl 0 rfl) ?_
            refine kt_gT B hK hP rfl 0 (by decide) q28 rfl dX1_cap_26 ?_
            refine kn_ge (tgt := 69) hx hb dX1_cap_29 (by decide) (by omega) (by omega) (fun hq => ?_) (fun hq => absurd hq (by omega))
            refine lv_iinc (v := nI (u + 1)) (lv' := [(3, .int (nI (u + 1))), (0, .ref (ad 0)), (1, .int (nI (t))), (2, .int (nI (acc2))), (4, .int (nI ((n))))]) hx hb dX1_cap_69 hl (k := 3) rfl (nI_add u 1) (by decide) rfl (fun ls hl => ?_)
            refine lv_goto (tgt := 10) hx hb dX1_cap_72 (by decide) ?_
            have hwe : ct_ck n g t u (n) = ct_ck n g t (u + 1) 0 := ct_ck_row n g t u
            have hP : va_P D vwCl (wT ad dd n (ct_ck n g t (u + 1) 0) f cf qu R b3 po pb) H := by rw [← hwe]; exact hP
            have hD : va_D A (wT ad dd n (ct_ck n g t (u + 1) 0) f cf qu R b3 po pb) := by rw [← hwe]; exact hD
            clear hwe
            exact ih _ _ (by rw [za2, za]; rfl) (by rw [← ct_ck_row]; exact zB2) _ _ _ hP hD hS (lv_sub hl [1, 2, 3, 0] rfl)
          · intro v zv ih2 zuv acc2 b3 za2 zB2 H locs ls hP hD hS hl
            refine lv_iload hx hb dX1_cap_23 (lv_at hl 4 rfl) ?_
            refine lv_aload_n hx hb dX1_cap_25 rfl (lv_at hl 0 rfl) ?_
            refine kt_gT B hK hP rfl 0 (by decide) q28 rfl dX1_cap_26 ?_
            refine kn_ge (tgt := 69) hx hb dX1_cap_29 (by decide) (by omega) (by omega) (fun hq => absurd hq (by omega)) (fun hq => ?_)
            have zg50 := zg.2.2 (8 * u + v)
            refine lv_aload_n hx hb dX1_cap_32 rfl (lv_at hl 0 rfl) ?_
            refine kt_gT B hK hP rfl 1 (by decide) q29 rfl dX1_cap_33 ?_
            refine lv_bipush (v := nI (8)) hx hb dX1_cap_36 (by decide) ?_
            refine lv_iload_n hx hb dX1_cap_38 rfl (lv_at hl 3 rfl) ?_
            refine kn_imul hx hb dX1_cap_39 ?_
            refine lv_iload hx hb dX1_cap_40 (lv_at hl 4 rfl) ?_
            refine kn_iadd hx hb dX1_cap_42 ?_
            refine kt_bl (v := nI ((ct_ck n g t u v) ((8 * u) + v))) hx hb hK hP 1 0 rfl rfl (by omega) (by decide) rfl dX1_cap_43 ?_
            refine kt_e (show nI ((ct_ck n g t u v) ((8 * u) + v)) = nI (g (8 * u + v)) from by rw [ct_ck_at zuv zv zn]) ?_
            refine lv_iload_n hx hb dX1_cap_44 rfl (lv_at hl 1 rfl) ?_
            refine kn_gt (tgt := 51) hx hb dX1_cap_45 (by decide) (by omega) (by omega) (fun hd => ?_) (fun hd => ?_)
            · have zok : ct_ok n (nI u) (nI v) (nI t) = true := ct_ok_in (ct_ic_nI zn zu zv (by omega)) (nI_pos zt) (nI_le (by omega) (by decide))
              refine lv_aload_n hx hb dX1_cap_51 rfl (lv_at hl 0 rfl) ?_
              refine lv_iload_n hx hb dX1_cap_52 rfl (lv_at hl 3 rfl) ?_
              refine lv_iload hx hb dX1_cap_53 (lv_at hl 4 rfl) ?_
              refine lv_iload_n hx hb dX1_cap_55 rfl (lv_at hl 1 rfl) ?_
              refine kt_callI (wr := []) (rest := []) B (mT_connect l D ad dd n (ct_ck n g t u v) f cf qu R b3 po pb zn (nI u) (nI v) (nI t)) (cwV 3 B.2.2.2.2 (lw_V q138 q59 q60 q18 q61) rfl rfl rfl (by decide +kernel) ⟨Nat.le_of_ble_eq_true rfl, Nat.le_of_ble_eq_true rfl⟩) [0, 1, 2, 3, 4, 5, 6] [] [0, 1, 2, 3, 4, 5] rfl rfl rfl rfl rfl (fun _ h _ => absurd h List.not_mem_nil) rfl hA hK hP hD hS (ci := 0) rfl rfl rfl rfl hl.1 rfl (Nat.le_of_ble_eq_true rfl) dX1_cap_56 ⟨Nat.le_refl _, Nat.le_refl _⟩ (fun rx ux H locs hw hP hD hS => ?_)
              have hP : va_P D vwCl (wT ad dd n (ct_cn n (ct_ck n g t u v) (nI u) (nI v) (nI t)) f cf qu R (ct_cb n (nI u) (nI v) (nI t) b3) po pb) H := hP
              have hD : va_D A (wT ad dd n (ct_cn n (ct_ck n g t u v) (nI u) (nI v) (nI t)) f cf qu R (ct_cb n (nI u) (nI v) (nI t) b3) po pb) := hD
              have hw : rx = nI (ct_bn (ct_ok n (nI u) (nI v) (nI t))) := hw
              subst hw
              refine lv_pop hx hb dX1_cap_59 rfl ?_
              refine lv_iinc (v := nI (acc2 + 1)) (lv' := [(2, .int (nI (acc2 + 1))), (0, .ref (ad 0)), (1, .int (nI (t))), (3, .int (nI (u))), (4, .int (nI (v)))]) hx hb dX1_cap_60 hl (k := 2) rfl (nI_add acc2 1) (by decide) rfl (fun ls hl => ?_)
              have hwe : ct_cn n (ct_ck n g t u v) (nI u) (nI v) (nI t) = ct_ck n g t u (v + 1) := by rw [← ct_cn_yes (by omega) (by omega) (by omega) zok, ct_ck_put zg zuv zv zn hd]
              have hP : va_P D vwCl (wT ad dd n (ct_ck n g t u (v + 1)) f cf qu R (ct_cb n (nI u) (nI v) (nI t) b3) po pb) H := by rw [← hwe]; exact hP
              have hD : va_D A (wT ad dd n (ct_ck n g t u (v + 1)) f cf qu R (ct_cb n (nI u) (nI v) (nI t) b3) po pb) := by rw [← hwe]; exact hD
              clear hwe
              have hwe : ct_cb n (nI u) (nI v) (nI t) b3 = 0 := (ct_cb_yes _ zok).symm
              have hP : va_P D vwCl (wT ad dd n (ct_ck n g t u (v + 1)) f cf qu R 0 po pb) H := by rw [← hwe]; exact hP
              have hD : va_D A (wT ad dd n (ct_ck n g t u (v + 1)) f cf qu R 0 po pb) := by rw [← hwe]; exact hD
              clear hwe
              refine lv_iinc (v := nI (v + 1)) (lv' := [(4, .int (nI (v + 1))), (2, .int (nI (acc2 + 1))), (0, .ref (ad 0)), (1, .int (nI (t))), (3, .int (nI (u)))]) hx hb dX1_cap_63 hl (k := 4) rfl (nI_add v 1) (by decide) rfl (fun ls hl => ?_)
              refine lv_goto (tgt := 23) hx hb dX1_cap_66 (by decide) ?_
              exact ih2 (by omega) _ _ (by rw [za2, fb_sm_succ, if_pos zuv, ct_cc, show decide (t < g (8 * u + v)) = true from decide_eq_true hd]; rfl) (Or.inl rfl) _ _ _ hP hD hS (lv_sub hl [2, 3, 1, 4, 0] rfl)
            · refine lv_goto (tgt := 63) hx hb dX1_cap_48 (by decide) ?_
              have hwe : ct_ck n g t u v = ct_ck n g t u (v + 1) := ct_ck_keep zg zuv zv zn hd
              have hP : va_P D vwCl (wT ad dd n (ct_ck n g t u (v + 1)) f cf qu R b3 po pb) H := by rw [← hwe]; exact hP
              have hD : va_D A (wT ad dd n (ct_ck n g t u (v + 1)) f cf qu R b3 po pb) := by rw [← hwe]; exact hD
              clear hwe
              refine lv_iinc (v := nI (v + 1)) (lv' := [(4, .int (nI (v + 1))), (0, .ref (ad 0)), (1, .int (nI (t))), (2, .int (nI (acc2))), (3, .int (nI (u)))]) hx hb dX1_cap_63 hl (k := 4) rfl (nI_add v 1) (by decide) rfl (fun ls hl => ?_)
              refine lv_goto (tgt := 23) hx hb dX1_cap_66 (by decide) ?_
              exact ih2 (by omega) _ _ (by rw [za2, fb_sm_succ, if_pos zuv, ct_cc, show decide (t < g (8 * u + v)) = false from decide_eq_false (by omega)]; rfl) (by rw [← ct_ck_keep zg zuv zv zn hd]; exact zB2) _ _ _ hP hD hS (lv_sub hl [1, 2, 3, 4, 0] rfl)
        exact inner (u + 1) (by omega) (by omega) acc b2 (by rw [ct_sm_none, Nat.add_zero]) (by rw [← ct_ck_in]; exact zB) _ _ _ hP hD hS (lv_sub hl [1, 2, 3, 4, 0] rfl)
    refine lv_iconst (v := nI (0)) hx hb dX1_cap_6 (by decide) ?_
    refine lv_istore_n (lv' := [(2, .int (nI (0))), (0, .ref (ad 0)), (1, .int (nI (t)))]) hx hb dX1_cap_7 rfl hl (by decide) rfl (fun ls hl => ?_)
    refine lv_iconst (v := nI (0)) hx hb dX1_cap_8 (by decide) ?_
    refine lv_istore_n (lv' := [(3, .int (nI (0))), (2, .int (nI (0))), (0, .ref (ad 0)), (1, .int (nI (t)))]) hx hb dX1_cap_9 rfl hl (by decide) rfl (fun ls hl => ?_)
    have hwe : g = ct_ck n g t 0 0 := ct_ck_0 n g t
    have hP : va_P D vwCl (wT ad dd n (ct_ck n g t 0 0) f cf qu R b po pb) H := by rw [← hwe]; exact hP
    have hD : va_D A (wT ad dd n (ct_ck n g t 0 0) f cf qu R b po pb) := by rw [← hwe]; exact hD
    clear hwe
    exact outer 0 (Nat.zero_le _) 0 b rfl (by rw [← ct_ck_0]; exact zb) _ _ _ hP hD hS (lv_sub hl [2, 3, 1, 0] rfl)
end
section
/-! THE CLAIM OUT OF ONE WALK OF THE LAW'S BODY. Your part is whole_start (and what it stands on); all else here is the same for every law, but numbers. -/
def R_law : String := "CutTreeLaw"
def lw_P (b : Addr) (xs : List Int32) (args : Array Value) (s : State) : Prop := args = #[.ref b] ∧ s.IntsAt b xs ∧ xs.length ≤ 257 ∧ (Jvm.Cond.and given_1 narrow_1).before args s = true
def lw_Q (_ : Array Value) (s : State) (o : Outcome) (t : State) : Prop := o = .returned (some (.int 1)) ∧ Framed s o t [] 600000 7290000
def lw_Z (below : List Frame) (a : Array Value) (s : State) : State → Prop := fun t => ∃ o, t.status = .running ∧ Ended t below o ∧ lw_Q a s o t
/-- the law's own end, with 1 on the stack, nothing written that was there before, its room as the claim has it -/
theorem lw_ret {p : Program} {l : Launch} {e : Env} {s : State} {m : MethodId} {below : List Frame} {meth : Method} {c : Code} {b : Nat} (hx : p.tables.exec = Jvm.exec) (hb : c.code = code) (hr : meth.sig.returnType = ret) (hlocks : meth.locks = false) {pc : Nat} {H : Heap} {ls : Array Slot} (hdg : decode code pc = .ok (.ireturn, 1)) : W p l e room_1 s m #[Value.ref b] below meth c H [] 600000 7290000 (lw_Z below #[Value.ref b] s) (F0 m pc ls [.int 1]) := by
  intro T hT X
  obtain ⟨fs, hret, hrun, hended, hW, hframe⟩ := X.leave (v := some (.int 1)) (hlocks := hlocks) (fun h => by rw [hr] at h; cases h)
  have hmeth' : T.vm.method? m = some meth := X.method'
  refine ⟨T.setFrames fs, ?_, .returned (some (.int 1)), hrun, hended, rfl, ⟨_, rfl⟩, hW, hframe⟩
  jvm_step X.here [X.here.top, hx, hb, hdg, hmeth', hr, ret, narrow_b1]
  (try refine ⟨rfl, ?_⟩); (try refine ⟨rfl, ?_⟩)
  first | (intro acts; rw [hret _ acts rfl rfl rfl]) | rw [hret _ _ rfl rfl rfl]
  exact Steps.refl _
/-- what holds at the law's entry: the machine, the code, the tables' words (any of lw_tbl by 'hts w (by decide +kernel)'), the script of L ints xs at the cell b, what the Statement gives of the start (any of its parts by flat_of_before) -/
def lw_At (p : Program) (s : State) (m : MethodId) (meth : Method) (c : Code) (b L : Nat) (xs : Nat → Int32) : Prop :=
  p.tables.exec = Jvm.exec ∧ c.code = code ∧ meth.sig.returnType = ret ∧ c.maxLocals = 4 ∧ s.vm.findClass R_law = some m.cls ∧ (∀ w ∈ lw_tbl, w.before #[Value.ref b] s = true) ∧ va_X b L xs s s.heap ∧ b < s.heap.size ∧ meth.locks = false ∧ (Jvm.Cond.and given_1 narrow_1).before #[Value.ref b] s = true
end
section
/-! ===== the law: what both sides answer is the same ===== -/
theorem ct_mask (x : Int32) : ∃ k, k < 16 ∧ x &&& nI 15 = nI k := by
  have e : x = nI x.toBitVec.toNat := by
    apply Int32.toBitVec_inj.1
    show x.toBitVec = BitVec.ofNat 32 x.toBitVec.toNat
    simp
  refine ⟨x.toBitVec.toNat % 16, Nat.mod_lt _ (by omega), ?_⟩
  have h := fa_mask x.toBitVec.toNat 4
  rw [← e] at h
  exact h
theorem ct_BI_cn {n : Nat} {g : Nat → Nat} {b : Nat} {po pb : Nat → Nat} (u v w : Int32) (h : ct_BI n g b po pb) : ct_BI n (ct_cn n g u v w) (ct_cb n u v w b) po pb := by
  cases e : ct_ok n u v w with
  | false => rw [← ct_cn_no e, ← ct_cb_no e]; exact h
  | true => rw [← ct_cb_yes b e]; exact Or.inl rfl
theorem ct_G_0 : ct_G (fun _ => 0) := ⟨fun _ _ _ _ => rfl, fun _ _ => rfl, fun _ => Nat.zero_le _⟩
theorem ct_side_eq {n : Nat} {g : Nat → Nat} {u v rT rM : Int32} {R : Nat} (hn : n ≤ 8)
    (hT : (ct_ic n u v = false ∧ rT = -1) ∨ ∃ i j, i < n ∧ j < n ∧ i ≠ j ∧ u = nI i ∧ v = nI j ∧ rT = nI R ∧ ct_MF n g i j R)
    (hM : (ct_ic n u v = false ∧ rM = -1) ∨ ∃ i j bs, i < n ∧ j < n ∧ i ≠ j ∧ u = nI i ∧ v = nI j ∧ rM = nI bs ∧ ct_side n g i j bs) : rT = rM := by
  rcases hT with ⟨a1, a2⟩ | ⟨i, j, zi, zj, zij, rfl, rfl, a2, a3⟩
  · rcases hM with ⟨-, b2⟩ | ⟨i, j, bs, zi, zj, zij, rfl, rfl, -, -⟩
    · rw [a2, b2]
    · rw [ct_ic_nI hn zi zj zij] at a1; cases a1
  · rcases hM with ⟨b1, -⟩ | ⟨i2, j2, bs, yi, yj, yij, e1, e2, b2, b3⟩
    · rw [ct_ic_nI hn zi zj zij] at b1; cases b1
    · have e1 := (nI_eq (by omega) (by omega)).mp e1
      have e2 := (nI_eq (by omega) (by omega)).mp e2
      subst e1
      subst e2
      rw [a2, b2, ct_sides b3 a3]
theorem ct_small_eq {n : Nat} {g : Nat → Nat} {rT rM : Int32} (hT : ∃ L, rT = nI L ∧ ct_min n g L) (hM : ∃ L, rM = nI L ∧ ct_min n g L) : rT = rM := by
  obtain ⟨L, rfl, a⟩ := hT
  obtain ⟨L', rfl, b⟩ := hM
  rw [ct_min_one a b]
theorem ct_cap_eq {n : Nat} {g gT gM : Nat → Nat} {x rT rM : Int32} (hg : ct_G g)
    (hT : (x < 0 ∧ rT = -1 ∧ gT = g) ∨ ∃ t, t < 2 ^ 31 ∧ x = nI t ∧ rT = nI (fb_sm (fun u => fb_sm (fun v => ct_cc g t u v) u) n) ∧ gT = ct_cm g t n 0)
    (hM : (x < 0 ∧ rM = -1 ∧ gM = g) ∨ ∃ t, t < 2 ^ 31 ∧ x = nI t ∧ rM = nI (fb_sm (fun u => fb_sm (fun v => ct_cc g t u v) u) n) ∧ gM = ct_cm g t n 0) : rT = rM ∧ gT = gM ∧ ct_G gT := by
  rcases hT with ⟨a1, a2, a3⟩ | ⟨t, zt, rfl, a2, a3⟩
  · rcases hM with ⟨-, b2, b3⟩ | ⟨t, zt, rfl, -, -⟩
    · exact ⟨by rw [a2, b2], by rw [a3, b3], by rw [a3]; exact hg⟩
    · exact absurd a1 (nI_pos zt)
  · rcases hM with ⟨b1, -, -⟩ | ⟨t2, zt2, e, b2, b3⟩
    · exact absurd b1 (nI_pos zt)
    · have e := (nI_eq zt zt2).mp e
      subst e
      exact ⟨by rw [a2, b2], by rw [a3, b3], by rw [a3]; exact ct_cm_G hg t n⟩
/-! ===== the law's own rows ===== -/
/-- the first number of the script, 0 if there is none -/
def ct_x0 (L : Nat) (xs : Nat → Int32) : Int32 := if 0 < L then xs 0 else 0
set_option maxHeartbeats 4000000 in
set_option maxRecDepth 100000 in
theorem mL_cell (l : Launch) (bs L : Nat) (xs : Nat → Int32) (sz : Nat) (zL : L ≤ 257) : Met l yX0_cell (ws_ yX0_cell cX0_cell 2 (some .int)) (kt_rm 0) (va_Pc [.ref bs, .int (nI 0)] (fun U => U.heap.size = sz ∧ va_X bs L xs U U.heap ∧ bs < sz)) (va_Qi (fun r (_ : Unit) => r = ct_x0 L xs) (fun _ _ => True) (fun q : Nat => sz ≤ q)) 0 0 (fun q : Nat => sz ≤ q) := by
  refine Met.ofW (cc := cX0_cell) (maxL := 2) (ret := some .int) (by decide) rfl ?_
  intro p e s m args below meth c s₁ B hml hv
  obtain ⟨rfl, hsz, hX, hbl⟩ := hv
  subst hsz
  have hx := B.exec
  have hb := B.bytes
  have hbA : ¬ (fun q : Nat => s.heap.size ≤ q) bs := Nat.not_le.mpr hbl
  have hS : va_S (fun q : Nat => s.heap.size ≤ q) s.heap s.heap [] := va_S.rf
  have hl := lv_entry ([.ref bs, .int (nI 0)]) (n := 2) (Nat.le_of_ble_eq_true rfl)
  rw [lg_entry_eq]
  generalize (lg_sl ([.ref bs, .int (nI 0)]) ++ List.replicate (2 - (lg_sl ([.ref bs, .int (nI 0)])).length) Slot.unset).toArray = ls at hl ⊢
  have hl : lv_has ls 2 [(0, .ref bs), (1, .int (nI 0))] := hl
  refine lv_iload_n hx hb dX0_cell_0 rfl (lv_at hl 1 rfl) ?_
  refine lv_aload_n hx hb dX0_cell_1 rfl (lv_at hl 0 rfl) ?_
  refine va_slen hx hb hX hbl hbA hS dX0_cell_2 ?_
  refine kn_ge (x := 0) (y := L) (tgt := 12) hx hb dX0_cell_3 (by decide) (by decide) (by omega) (fun hc => ?_) (fun hc => ?_)
  · refine lv_iconst (v := 0) hx hb dX0_cell_12 (by decide) ?_
    exact W.iret hx hb B.returns (fun t ht hW => ⟨⟨0, (), rfl, by rw [ct_x0, if_neg (by omega)], trivial⟩, hS.F ht⟩) hS.2.2 dX0_cell_13 B.notSynchronized
  · refine lv_aload_n hx hb dX0_cell_6 rfl (lv_at hl 0 rfl) ?_
    refine lv_iload_n hx hb dX0_cell_7 rfl (lv_at hl 1 rfl) ?_
    refine va_sld hx hb hX hbl hbA hS (vp_in_nI hc (by omega)) dX0_cell_8 ?_
    refine lv_goto (tgt := 13) hx hb dX0_cell_9 (by decide) ?_
    exact W.iret hx hb B.returns (fun t ht hW => ⟨⟨_, (), rfl, by rw [ct_x0, if_pos hc, nI_clamp (by decide)], trivial⟩, hS.F ht⟩) hS.2.2 dX0_cell_13 B.notSynchronized
section LAW
variable {p : Program} {l : Launch} {e : Env} {s : State} {m : MethodId} {below : List Frame} {meth : Method} {c : Code} {H : Heap} {locs : List Loc} {cells slots : Nat} {Q : State → Prop} {D : va_G} {ws : va_W} {pc : Nat} {ls : Array Slot} {rest : List Value} {bs L : Nat} {xs : Nat → Int32}
theorem kt_sl {R : Room} {args : Array Value} {cc : ByteArray} {A : Nat → Prop} {H0 : Heap} (hexec : p.tables.exec = Jvm.exec) (hb : c.code = cc) (hX : va_X bs L xs s H0) (hbl : bs < H0.size) (hbA : ¬ A bs) (hS : va_S A H0 H locs) {i : Nat} (hi : i < L) (hL : L < 2 ^ 31) (hdg : decode cc pc = .ok (.iaload, 1))
    (kk : W p l e R s m args below meth c H locs cells slots Q (F0 m (pc + 1) ls (.int (xs i) :: rest))) : W p l e R s m args below meth c H locs cells slots Q (F0 m pc ls (.int (nI i) :: .ref bs :: rest)) :=
  va_sld hexec hb hX hbl hbA hS (vp_in_nI hi hL) hdg (by rw [nI_clamp (Nat.lt_trans hi hL)]; exact kk)
set_option maxHeartbeats 4000000 in
set_option maxRecDepth 100000 in
/-- cell(script, 0) -/
theorem lw_cell (zL : L ≤ 257) (B : CallFix p m c code 4 s #[Value.ref bs] lw_all RX0) (hX : va_X bs L xs s s.heap) (hbl : bs < s.heap.size) (hP : va_P D vwCl ws H) (hS : va_S (fun q : Nat => s.heap.size ≤ q) s.heap H locs) (hsz : ls.size = 4) (hrm : (rest.map fun v => v.category).sum ≤ 8) (hd : decode code pc = .ok (.invokestatic 9, 3)) (hf : cells ≤ room_1.cells ∧ slots ≤ room_1.slots)
    (kk : ∀ (H1 : Heap) (locs1 : List Loc), va_P D vwCl ws H1 → va_S (fun q : Nat => s.heap.size ≤ q) s.heap H1 locs1 → W p l e room_1 s m #[Value.ref bs] below meth c H1 locs1 cells slots Q (F0 m (pc + 3) ls (.int (ct_x0 L xs) :: rest))) : W p l e room_1 s m #[Value.ref bs] below meth c H locs cells slots Q (F0 m pc ls (.int (nI 0) :: .ref bs :: rest)) := by
  have hbA : ¬ (fun q : Nat => s.heap.size ≤ q) bs := Nat.not_le.mpr hbl
  have hXH : va_X bs L xs s H := hX.kept (hS.2.1 bs hbl hbA)
  have hbH : bs < H.size := Nat.lt_of_lt_of_le hbl hS.1
  refine va_calli (va_runS (As := [.ref bs, .int (nI 0)]) (rest := rest) B (mL_cell l bs L xs H.size zL) (va_cwS 2 B.2.2.2.2 (lw_S q139 q140 q17 q141) rfl rfl rfl (by decide +kernel) ⟨Nat.le_of_ble_eq_true rfl, Nat.le_of_ble_eq_true rfl⟩) ⟨fun a U g mk q => by obtain ⟨q0, q1, qX, qb⟩ := q; exact ⟨q0, q1, va_X.moved (u := U) (U := U.calling g mk a) (Vm.Alike.refl U.vm) qX, qb⟩, fun U hU hW => ⟨rfl, by rw [hU], by rw [hU]; exact va_X.moved hW.alike hXH, hbH⟩⟩ rfl rfl hsz rfl (lv_room hrm) hd hf) hS (fun q h1 h2 => absurd h2 (Nat.not_le.mpr h1)) (fun q h => Nat.le_trans hS.1 h) (fun r u t H1 locs1 ht hvm hw hB hz hk hS1 => ?_)
  have hw : r = ct_x0 L xs := hw
  subst hw
  exact kk H1 locs1 (hP.kept (fun k q hq => hk q.1 (hP k q hq).lt (Nat.not_le.mpr (hP k q hq).lt))) hS1
end LAW
/-- the law at pc, in its loop: both objects hold the same capacities, the tree is not built or right -/
def lw_K (p : Program) (l : Launch) (e : Env) (s : State) (m : MethodId) (below : List Frame) (meth : Method) (c : Code) (Q : State → Prop) (D : va_G) (ad : Nat → Nat) (dd : Nat → ClassId) (ob ar : Nat) (dA : ClassId) (n bs i pc : Nat) : Prop :=
  ∀ (g : Nat → Nat) (f : Nat → Int) (cf qu : Nat → Nat) (R b : Nat) (po pb : Nat → Nat) (H : Heap) (locs : List Loc) (ls : Array Slot), ct_G g → ct_BI n g b po pb → va_P D vwCl (wT ad dd n g f cf qu R b po pb ++ wM ob ar dA n g) H → va_D (fun q : Nat => s.heap.size ≤ q) (wT ad dd n g f cf qu R b po pb ++ wM ob ar dA n g) → va_S (fun q : Nat => s.heap.size ≤ q) s.heap H locs → lv_has ls 4 [(0, .ref bs), (1, .ref (ad 0)), (2, .ref ob), (3, .int (nI i))] →
    W p l e room_1 s m #[Value.ref bs] below meth c H locs 9 235 Q (F0 m pc ls [])
end
section
/-! ===== the cases of the law ===== -/
section OPS
variable {p : Program} {l : Launch} {e : Env} {s : State} {m : MethodId} {below : List Frame} {meth : Method} {c : Code} {Q : State → Prop} {D : va_G} {ad : Nat → Nat} {dd : Nat → ClassId} {ob ar : Nat} {dA : ClassId} {n bs L i : Nat} {xs : Nat → Int32}
set_option maxHeartbeats 4000000 in
set_option maxRecDepth 100000 in
theorem lw_op_connect (zL : L ≤ 257) (zi : i + 3 < L) (zn : n ≤ 8) (zn2 : 2 ≤ n) (B : CallFix p m c code 4 s #[Value.ref bs] lw_all RX0) (hX : va_X bs L xs s s.heap) (hbl : bs < s.heap.size) (hK : va_K D vwCl (tyT dd ++ tyM dA) s) (hnext : lw_K p l e s m below meth c Q D ad dd ob ar dA n bs i 393) : lw_K p l e s m below meth c Q D ad dd ob ar dA n bs i 100 := by
  intro g f cf qu R b po pb H locs ls zg zb hP hD hS hl
  have hA : ∀ q : Nat, s.heap.size ≤ q → (fun q : Nat => s.heap.size ≤ q) q := fun _ h => h
  have hbA : ¬ (fun q : Nat => s.heap.size ≤ q) bs := Nat.not_le.mpr hbl
  have hx := B.1
  have hb := B.2.1
  refine lv_aload_n hx hb dL_law_100 rfl (lv_at hl 1 rfl) ?_
  refine lv_aload_n hx hb dL_law_101 rfl (lv_at hl 0 rfl) ?_
  refine lv_iload_n hx hb dL_law_102 rfl (lv_at hl 3 rfl) ?_
  refine lv_iconst (v := nI 1) hx hb dL_law_103 (by decide) ?_
  refine kn_iadd hx hb dL_law_104 ?_
  refine kt_sl hx hb hX hbl hbA hS (show i + 1 < L by omega) (by omega) dL_law_105 ?_
  refine lv_aload_n hx hb dL_law_106 rfl (lv_at hl 0 rfl) ?_
  refine lv_iload_n hx hb dL_law_107 rfl (lv_at hl 3 rfl) ?_
  refine lv_iconst (v := nI 2) hx hb dL_law_108 (by decide) ?_
  refine kn_iadd hx hb dL_law_109 ?_
  refine kt_sl hx hb hX hbl hbA hS (show i + 2 < L by omega) (by omega) dL_law_110 ?_
  refine lv_aload_n hx hb dL_law_111 rfl (lv_at hl 0 rfl) ?_
  refine lv_iload_n hx hb dL_law_112 rfl (lv_at hl 3 rfl) ?_
  refine lv_iconst (v := nI 3) hx hb dL_law_113 (by decide) ?_
  refine kn_iadd hx hb dL_law_114 ?_
  refine kt_sl hx hb hX hbl hbA hS (show i + 3 < L by omega) (by omega) dL_law_115 ?_
  refine kt_callI (wr := wM ob ar dA n g) (rest := []) B (mT_connect l D ad dd n g f cf qu R b po pb zn (xs (i + 1)) (xs (i + 2)) (xs (i + 3))) (cwV 3 B.2.2.2.2 (lw_V q58 q59 q60 q18 q61) rfl rfl rfl (by decide +kernel) ⟨Nat.le_of_ble_eq_true rfl, Nat.le_of_ble_eq_true rfl⟩) [0, 1, 2, 3, 4, 5, 6] [7, 8] [0, 1, 2, 3, 4, 5] rfl rfl rfl rfl rfl (by decide) rfl hA hK hP hD hS (ci := 0) rfl rfl rfl rfl hl.1 rfl (Nat.le_of_ble_eq_true rfl) dL_law_116 ⟨Nat.le_of_ble_eq_true rfl, Nat.le_of_ble_eq_true rfl⟩ (fun rT uT H locs hT hP hD hS => ?_)
  have hP : va_P D vwCl (wM ob ar dA n g ++ wT ad dd n (ct_cn n g (xs (i + 1)) (xs (i + 2)) (xs (i + 3))) f cf qu R (ct_cb n (xs (i + 1)) (xs (i + 2)) (xs (i + 3)) b) po pb) H := hP
  have hD : va_D (fun q : Nat => s.heap.size ≤ q) (wM ob ar dA n g ++ wT ad dd n (ct_cn n g (xs (i + 1)) (xs (i + 2)) (xs (i + 3))) f cf qu R (ct_cb n (xs (i + 1)) (xs (i + 2)) (xs (i + 3)) b) po pb) := hD
  refine lv_aload_n hx hb dL_law_119 rfl (lv_at hl 2 rfl) ?_
  refine lv_aload_n hx hb dL_law_120 rfl (lv_at hl 0 rfl) ?_
  refine lv_iload_n hx hb dL_law_121 rfl (lv_at hl 3 rfl) ?_
  refine lv_iconst (v := nI 1) hx hb dL_law_122 (by decide) ?_
  refine kn_iadd hx hb dL_law_123 ?_
  refine kt_sl hx hb hX hbl hbA hS (show i + 1 < L by omega) (by omega) dL_law_124 ?_
  refine lv_aload_n hx hb dL_law_125 rfl (lv_at hl 0 rfl) ?_
  refine lv_iload_n hx hb dL_law_126 rfl (lv_at hl 3 rfl) ?_
  refine lv_iconst (v := nI 2) hx hb dL_law_127 (by decide) ?_
  refine kn_iadd hx hb dL_law_128 ?_
  refine kt_sl hx hb hX hbl hbA hS (show i + 2 < L by omega) (by omega) dL_law_129 ?_
  refine lv_aload_n hx hb dL_law_130 rfl (lv_at hl 0 rfl) ?_
  refine lv_iload_n hx hb dL_law_131 rfl (lv_at hl 3 rfl) ?_
  refine lv_iconst (v := nI 3) hx hb dL_law_132 (by decide) ?_
  refine kn_iadd hx hb dL_law_133 ?_
  refine kt_sl hx hb hX hbl hbA hS (show i + 3 < L by omega) (by omega) dL_law_134 ?_
  refine kt_callI (wr := wT ad dd n (ct_cn n g (xs (i + 1)) (xs (i + 2)) (xs (i + 3))) f cf qu R (ct_cb n (xs (i + 1)) (xs (i + 2)) (xs (i + 3)) b) po pb) (rest := [.int rT]) B (mM_connect l D ob ar dA n g zn (xs (i + 1)) (xs (i + 2)) (xs (i + 3))) (cwV 3 B.2.2.2.2 (lw_V q155 q156 q157 q19 q158) rfl rfl rfl (by decide +kernel) ⟨Nat.le_of_ble_eq_true rfl, Nat.le_of_ble_eq_true rfl⟩) [0, 1] [2, 3, 4, 5, 6, 7, 8] [6] rfl rfl rfl rfl rfl (by decide) rfl hA hK hP hD hS (ci := 1) rfl rfl rfl rfl hl.1 rfl (Nat.le_of_ble_eq_true rfl) dL_law_135 ⟨Nat.le_of_ble_eq_true rfl, Nat.le_of_ble_eq_true rfl⟩ (fun rM uM H locs hM hP hD hS => ?_)
  have hP : va_P D vwCl (wT ad dd n (ct_cn n g (xs (i + 1)) (xs (i + 2)) (xs (i + 3))) f cf qu R (ct_cb n (xs (i + 1)) (xs (i + 2)) (xs (i + 3)) b) po pb ++ wM ob ar dA n (ct_cn n g (xs (i + 1)) (xs (i + 2)) (xs (i + 3)))) H := hP
  have hD : va_D (fun q : Nat => s.heap.size ≤ q) (wT ad dd n (ct_cn n g (xs (i + 1)) (xs (i + 2)) (xs (i + 3))) f cf qu R (ct_cb n (xs (i + 1)) (xs (i + 2)) (xs (i + 3)) b) po pb ++ wM ob ar dA n (ct_cn n g (xs (i + 1)) (xs (i + 2)) (xs (i + 3)))) := hD
  have hE : rT = rM := Eq.trans hT (Eq.symm hM)
  refine lv_icmp_eq (tgt := 393) hx hb dL_law_138 (by decide) (fun _ => ?_) (fun hq => absurd hE hq)
  exact hnext _ _ _ _ _ _ _ _ _ _ _ (ct_cn_G zn zg _ _ _) (ct_BI_cn _ _ _ zb) hP hD hS hl
set_option maxHeartbeats 4000000 in
set_option maxRecDepth 100000 in
theorem lw_op_capacity (zL : L ≤ 257) (zi : i + 3 < L) (zn : n ≤ 8) (zn2 : 2 ≤ n) (B : CallFix p m c code 4 s #[Value.ref bs] lw_all RX0) (hX : va_X bs L xs s s.heap) (hbl : bs < s.heap.size) (hK : va_K D vwCl (tyT dd ++ tyM dA) s) (hnext : lw_K p l e s m below meth c Q D ad dd ob ar dA n bs i 393) : lw_K p l e s m below meth c Q D ad dd ob ar dA n bs i 143 := by
  intro g f cf qu R b po pb H locs ls zg zb hP hD hS hl
  have hA : ∀ q : Nat, s.heap.size ≤ q → (fun q : Nat => s.heap.size ≤ q) q := fun _ h => h
  have hbA : ¬ (fun q : Nat => s.heap.size ≤ q) bs := Nat.not_le.mpr hbl
  have hx := B.1
  have hb := B.2.1
  refine lv_aload_n hx hb dL_law_143 rfl (lv_at hl 1 rfl) ?_
  refine lv_aload_n hx hb dL_law_144 rfl (lv_at hl 0 rfl) ?_
  refine lv_iload_n hx hb dL_law_145 rfl (lv_at hl 3 rfl) ?_
  refine lv_iconst (v := nI 1) hx hb dL_law_146 (by decide) ?_
  refine kn_iadd hx hb dL_law_147 ?_
  refine kt_sl hx hb hX hbl hbA hS (show i + 1 < L by omega) (by omega) dL_law_148 ?_
  refine lv_aload_n hx hb dL_law_149 rfl (lv_at hl 0 rfl) ?_
  refine lv_iload_n hx hb dL_law_150 rfl (lv_at hl 3 rfl) ?_
  refine lv_iconst (v := nI 2) hx hb dL_law_151 (by decide) ?_
  refine kn_iadd hx hb dL_law_152 ?_
  refine kt_sl hx hb hX hbl hbA hS (show i + 2 < L by omega) (by omega) dL_law_153 ?_
  refine kt_callI (wr := wM ob ar dA n g) (rest := []) B (mT_capacity l D ad dd n g f cf qu R b po pb zn (xs (i + 1)) (xs (i + 2))) (cwV 2 B.2.2.2.2 (lw_V q70 q71 q72 q18 q73) rfl rfl rfl (by decide +kernel) ⟨Nat.le_of_ble_eq_true rfl, Nat.le_of_ble_eq_true rfl⟩) [0, 1, 2, 3, 4, 5, 6] [7, 8] [0, 1, 2, 3, 4, 5] rfl rfl rfl rfl rfl (by decide) rfl hA hK hP hD hS (ci := 0) rfl rfl rfl rfl hl.1 rfl (Nat.le_of_ble_eq_true rfl) dL_law_154 ⟨Nat.le_of_ble_eq_true rfl, Nat.le_of_ble_eq_true rfl⟩ (fun rT uT H locs hT hP hD hS => ?_)
  have hP : va_P D vwCl (wM ob ar dA n g ++ wT ad dd n g f cf qu R b po pb) H := hP
  have hD : va_D (fun q : Nat => s.heap.size ≤ q) (wM ob ar dA n g ++ wT ad dd n g f cf qu R b po pb) := hD
  refine lv_aload_n hx hb dL_law_157 rfl (lv_at hl 2 rfl) ?_
  refine lv_aload_n hx hb dL_law_158 rfl (lv_at hl 0 rfl) ?_
  refine lv_iload_n hx hb dL_law_159 rfl (lv_at hl 3 rfl) ?_
  refine lv_iconst (v := nI 1) hx hb dL_law_160 (by decide) ?_
  refine kn_iadd hx hb dL_law_161 ?_
  refine kt_sl hx hb hX hbl hbA hS (show i + 1 < L by omega) (by omega) dL_law_162 ?_
  refine lv_aload_n hx hb dL_law_163 rfl (lv_at hl 0 rfl) ?_
  refine lv_iload_n hx hb dL_law_164 rfl (lv_at hl 3 rfl) ?_
  refine lv_iconst (v := nI 2) hx hb dL_law_165 (by decide) ?_
  refine kn_iadd hx hb dL_law_166 ?_
  refine kt_sl hx hb hX hbl hbA hS (show i + 2 < L by omega) (by omega) dL_law_167 ?_
  refine kt_callI (wr := wT ad dd n g f cf qu R b po pb) (rest := [.int rT]) B (mM_capacity l D ob ar dA n g zn (xs (i + 1)) (xs (i + 2))) (cwV 2 B.2.2.2.2 (lw_V q167 q168 q169 q19 q170) rfl rfl rfl (by decide +kernel) ⟨Nat.le_of_ble_eq_true rfl, Nat.le_of_ble_eq_true rfl⟩) [0, 1] [2, 3, 4, 5, 6, 7, 8] [6] rfl rfl rfl rfl rfl (by decide) rfl hA hK hP hD hS (ci := 1) rfl rfl rfl rfl hl.1 rfl (Nat.le_of_ble_eq_true rfl) dL_law_168 ⟨Nat.le_of_ble_eq_true rfl, Nat.le_of_ble_eq_true rfl⟩ (fun rM uM H locs hM hP hD hS => ?_)
  have hP : va_P D vwCl (wT ad dd n g f cf qu R b po pb ++ wM ob ar dA n g) H := hP
  have hD : va_D (fun q : Nat => s.heap.size ≤ q) (wT ad dd n g f cf qu R b po pb ++ wM ob ar dA n g) := hD
  have hE : rT = rM := Eq.trans hT (Eq.symm hM)
  refine lv_icmp_eq (tgt := 393) hx hb dL_law_171 (by decide) (fun _ => ?_) (fun hq => absurd hE hq)
  exact hnext _ _ _ _ _ _ _ _ _ _ _ (zg) (zb) hP hD hS hl
set_option maxHeartbeats 4000000 in
set_option maxRecDepth 100000 in
theorem lw_op_link (zL : L ≤ 257) (zi : i + 3 < L) (zn : n ≤ 8) (zn2 : 2 ≤ n) (B : CallFix p m c code 4 s #[Value.ref bs] lw_all RX0) (hX : va_X bs L xs s s.heap) (hbl : bs < s.heap.size) (hK : va_K D vwCl (tyT dd ++ tyM dA) s) (hnext : lw_K p l e s m below meth c Q D ad dd ob ar dA n bs i 393) : lw_K p l e s m below meth c Q D ad dd ob ar dA n bs i 176 := by
  intro g f cf qu R b po pb H locs ls zg zb hP hD hS hl
  have hA : ∀ q : Nat, s.heap.size ≤ q → (fun q : Nat => s.heap.size ≤ q) q := fun _ h => h
  have hbA : ¬ (fun q : Nat => s.heap.size ≤ q) bs := Nat.not_le.mpr hbl
  have hx := B.1
  have hb := B.2.1
  refine lv_aload_n hx hb dL_law_176 rfl (lv_at hl 1 rfl) ?_
  refine lv_aload_n hx hb dL_law_177 rfl (lv_at hl 0 rfl) ?_
  refine lv_iload_n hx hb dL_law_178 rfl (lv_at hl 3 rfl) ?_
  refine lv_iconst (v := nI 1) hx hb dL_law_179 (by decide) ?_
  refine kn_iadd hx hb dL_law_180 ?_
  refine kt_sl hx hb hX hbl hbA hS (show i + 1 < L by omega) (by omega) dL_law_181 ?_
  refine lv_aload_n hx hb dL_law_182 rfl (lv_at hl 0 rfl) ?_
  refine lv_iload_n hx hb dL_law_183 rfl (lv_at hl 3 rfl) ?_
  refine lv_iconst (v := nI 2) hx hb dL_law_184 (by decide) ?_
  refine kn_iadd hx hb dL_law_185 ?_
  refine kt_sl hx hb hX hbl hbA hS (show i + 2 < L by omega) (by omega) dL_law_186 ?_
  refine kt_callI (wr := wM ob ar dA n g) (rest := []) B (mT_link l D ad dd n g f cf qu R b po pb zn zn2 zg zb (xs (i + 1)) (xs (i + 2))) (cwV 2 B.2.2.2.2 (lw_V q74 q75 q76 q18 q77) rfl rfl rfl (by decide +kernel) ⟨Nat.le_of_ble_eq_true rfl, Nat.le_of_ble_eq_true rfl⟩) [0, 1, 2, 3, 4, 5, 6] [7, 8] [0, 1, 2, 3, 4, 5] rfl rfl rfl rfl rfl (by decide) rfl hA hK hP hD hS (ci := 0) rfl rfl rfl rfl hl.1 rfl (Nat.le_of_ble_eq_true rfl) dL_law_187 ⟨Nat.le_of_ble_eq_true rfl, Nat.le_of_ble_eq_true rfl⟩ (fun rT uT H locs hT hP hD hS => ?_)
  obtain ⟨f2, cf2, qu2, R2, b2, po2, pb2⟩ := uT
  try dsimp only at hT
  have hP : va_P D vwCl (wM ob ar dA n g ++ wT ad dd n g f2 cf2 qu2 R2 b2 po2 pb2) H := hP
  have hD : va_D (fun q : Nat => s.heap.size ≤ q) (wM ob ar dA n g ++ wT ad dd n g f2 cf2 qu2 R2 b2 po2 pb2) := hD
  refine lv_aload_n hx hb dL_law_190 rfl (lv_at hl 2 rfl) ?_
  refine lv_aload_n hx hb dL_law_191 rfl (lv_at hl 0 rfl) ?_
  refine lv_iload_n hx hb dL_law_192 rfl (lv_at hl 3 rfl) ?_
  refine lv_iconst (v := nI 1) hx hb dL_law_193 (by decide) ?_
  refine kn_iadd hx hb dL_law_194 ?_
  refine kt_sl hx hb hX hbl hbA hS (show i + 1 < L by omega) (by omega) dL_law_195 ?_
  refine lv_aload_n hx hb dL_law_196 rfl (lv_at hl 0 rfl) ?_
  refine lv_iload_n hx hb dL_law_197 rfl (lv_at hl 3 rfl) ?_
  refine lv_iconst (v := nI 2) hx hb dL_law_198 (by decide) ?_
  refine kn_iadd hx hb dL_law_199 ?_
  refine kt_sl hx hb hX hbl hbA hS (show i + 2 < L by omega) (by omega) dL_law_200 ?_
  refine kt_callI (wr := wT ad dd n g f2 cf2 qu2 R2 b2 po2 pb2) (rest := [.int rT]) B (mM_link l D ob ar dA n g zn zg (xs (i + 1)) (xs (i + 2))) (cwV 2 B.2.2.2.2 (lw_V q171 q172 q173 q19 q174) rfl rfl rfl (by decide +kernel) ⟨Nat.le_of_ble_eq_true rfl, Nat.le_of_ble_eq_true rfl⟩) [0, 1] [2, 3, 4, 5, 6, 7, 8] [6] rfl rfl rfl rfl rfl (by decide) rfl hA hK hP hD hS (ci := 1) rfl rfl rfl rfl hl.1 rfl (Nat.le_of_ble_eq_true rfl) dL_law_201 ⟨Nat.le_of_ble_eq_true rfl, Nat.le_of_ble_eq_true rfl⟩ (fun rM uM H locs hM hP hD hS => ?_)
  have hP : va_P D vwCl (wT ad dd n g f2 cf2 qu2 R2 b2 po2 pb2 ++ wM ob ar dA n g) H := hP
  have hD : va_D (fun q : Nat => s.heap.size ≤ q) (wT ad dd n g f2 cf2 qu2 R2 b2 po2 pb2 ++ wM ob ar dA n g) := hD
  have hE : rT = rM := Eq.trans hT.1 (Eq.symm hM)
  refine lv_icmp_eq (tgt := 393) hx hb dL_law_204 (by decide) (fun _ => ?_) (fun hq => absurd hE hq)
  exact hnext _ _ _ _ _ _ _ _ _ _ _ (zg) (hT.2) hP hD hS hl
set_option maxHeartbeats 4000000 in
set_option maxRecDepth 100000 in
theorem lw_op_side (zL : L ≤ 257) (zi : i + 3 < L) (zn : n ≤ 8) (zn2 : 2 ≤ n) (B : CallFix p m c code 4 s #[Value.ref bs] lw_all RX0) (hX : va_X bs L xs s s.heap) (hbl : bs < s.heap.size) (hK : va_K D vwCl (tyT dd ++ tyM dA) s) (hnext : lw_K p l e s m below meth c Q D ad dd ob ar dA n bs i 393) : lw_K p l e s m below meth c Q D ad dd ob ar dA n bs i 209 := by
  intro g f cf qu R b po pb H locs ls zg zb hP hD hS hl
  have hA : ∀ q : Nat, s.heap.size ≤ q → (fun q : Nat => s.heap.size ≤ q) q := fun _ h => h
  have hbA : ¬ (fun q : Nat => s.heap.size ≤ q) bs := Nat.not_le.mpr hbl
  have hx := B.1
  have hb := B.2.1
  refine lv_aload_n hx hb dL_law_209 rfl (lv_at hl 1 rfl) ?_
  refine lv_aload_n hx hb dL_law_210 rfl (lv_at hl 0 rfl) ?_
  refine lv_iload_n hx hb dL_law_211 rfl (lv_at hl 3 rfl) ?_
  refine lv_iconst (v := nI 1) hx hb dL_law_212 (by decide) ?_
  refine kn_iadd hx hb dL_law_213 ?_
  refine kt_sl hx hb hX hbl hbA hS (show i + 1 < L by omega) (by omega) dL_law_214 ?_
  refine lv_aload_n hx hb dL_law_215 rfl (lv_at hl 0 rfl) ?_
  refine lv_iload_n hx hb dL_law_216 rfl (lv_at hl 3 rfl) ?_
  refine lv_iconst (v := nI 2) hx hb dL_law_217 (by decide) ?_
  refine kn_iadd hx hb dL_law_218 ?_
  refine kt_sl hx hb hX hbl hbA hS (show i + 2 < L by omega) (by omega) dL_law_219 ?_
  refine kt_callI (wr := wM ob ar dA n g) (rest := []) B (mT_side l D ad dd n g f cf qu R b po pb zn zg (xs (i + 1)) (xs (i + 2))) (cwV 2 B.2.2.2.2 (lw_V q106 q107 q108 q18 q109) rfl rfl rfl (by decide +kernel) ⟨Nat.le_of_ble_eq_true rfl, Nat.le_of_ble_eq_true rfl⟩) [0, 1, 2, 3, 4, 5, 6] [7, 8] [0, 1, 2, 3, 4, 5] rfl rfl rfl rfl rfl (by decide) rfl hA hK hP hD hS (ci := 0) rfl rfl rfl rfl hl.1 rfl (Nat.le_of_ble_eq_true rfl) dL_law_220 ⟨Nat.le_of_ble_eq_true rfl, Nat.le_of_ble_eq_true rfl⟩ (fun rT uT H locs hT hP hD hS => ?_)
  obtain ⟨f2, cf2, qu2, R2⟩ := uT
  try dsimp only at hT
  have hP : va_P D vwCl (wM ob ar dA n g ++ wT ad dd n g f2 cf2 qu2 R2 b po pb) H := hP
  have hD : va_D (fun q : Nat => s.heap.size ≤ q) (wM ob ar dA n g ++ wT ad dd n g f2 cf2 qu2 R2 b po pb) := hD
  refine lv_aload_n hx hb dL_law_223 rfl (lv_at hl 2 rfl) ?_
  refine lv_aload_n hx hb dL_law_224 rfl (lv_at hl 0 rfl) ?_
  refine lv_iload_n hx hb dL_law_225 rfl (lv_at hl 3 rfl) ?_
  refine lv_iconst (v := nI 1) hx hb dL_law_226 (by decide) ?_
  refine kn_iadd hx hb dL_law_227 ?_
  refine kt_sl hx hb hX hbl hbA hS (show i + 1 < L by omega) (by omega) dL_law_228 ?_
  refine lv_aload_n hx hb dL_law_229 rfl (lv_at hl 0 rfl) ?_
  refine lv_iload_n hx hb dL_law_230 rfl (lv_at hl 3 rfl) ?_
  refine lv_iconst (v := nI 2) hx hb dL_law_231 (by decide) ?_
  refine kn_iadd hx hb dL_law_232 ?_
  refine kt_sl hx hb hX hbl hbA hS (show i + 2 < L by omega) (by omega) dL_law_233 ?_
  refine kt_callI (wr := wT ad dd n g f2 cf2 qu2 R2 b po pb) (rest := [.int rT]) B (mM_side l D ob ar dA n g zn zg (xs (i + 1)) (xs (i + 2))) (cwV 2 B.2.2.2.2 (lw_V q191 q192 q193 q19 q194) rfl rfl rfl (by decide +kernel) ⟨Nat.le_of_ble_eq_true rfl, Nat.le_of_ble_eq_true rfl⟩) [0, 1] [2, 3, 4, 5, 6, 7, 8] [6] rfl rfl rfl rfl rfl (by decide) rfl hA hK hP hD hS (ci := 1) rfl rfl rfl rfl hl.1 rfl (Nat.le_of_ble_eq_true rfl) dL_law_234 ⟨Nat.le_of_ble_eq_true rfl, Nat.le_of_ble_eq_true rfl⟩ (fun rM uM H locs hM hP hD hS => ?_)
  have hP : va_P D vwCl (wT ad dd n g f2 cf2 qu2 R2 b po pb ++ wM ob ar dA n g) H := hP
  have hD : va_D (fun q : Nat => s.heap.size ≤ q) (wT ad dd n g f2 cf2 qu2 R2 b po pb ++ wM ob ar dA n g) := hD
  have hE : rT = rM := ct_side_eq zn hT hM
  refine lv_icmp_eq (tgt := 393) hx hb dL_law_237 (by decide) (fun _ => ?_) (fun hq => absurd hE hq)
  exact hnext _ _ _ _ _ _ _ _ _ _ _ (zg) (zb) hP hD hS hl
set_option maxHeartbeats 4000000 in
set_option maxRecDepth 100000 in
theorem lw_op_smallest (zL : L ≤ 257) (zi : i + 3 < L) (zn : n ≤ 8) (zn2 : 2 ≤ n) (B : CallFix p m c code 4 s #[Value.ref bs] lw_all RX0) (hX : va_X bs L xs s s.heap) (hbl : bs < s.heap.size) (hK : va_K D vwCl (tyT dd ++ tyM dA) s) (hnext : lw_K p l e s m below meth c Q D ad dd ob ar dA n bs i 393) : lw_K p l e s m below meth c Q D ad dd ob ar dA n bs i 242 := by
  intro g f cf qu R b po pb H locs ls zg zb hP hD hS hl
  have hA : ∀ q : Nat, s.heap.size ≤ q → (fun q : Nat => s.heap.size ≤ q) q := fun _ h => h
  have hbA : ¬ (fun q : Nat => s.heap.size ≤ q) bs := Nat.not_le.mpr hbl
  have hx := B.1
  have hb := B.2.1
  refine lv_aload_n hx hb dL_law_242 rfl (lv_at hl 1 rfl) ?_
  refine kt_callI (wr := wM ob ar dA n g) (rest := []) B (mT_smallest l D ad dd n g f cf qu R b po pb zn zn2 zg zb ) (cwV 0 B.2.2.2.2 (lw_V q110 q111 q112 q18 q113) rfl rfl rfl (by decide +kernel) ⟨Nat.le_of_ble_eq_true rfl, Nat.le_of_ble_eq_true rfl⟩) [0, 1, 2, 3, 4, 5, 6] [7, 8] [0, 1, 2, 3, 4, 5] rfl rfl rfl rfl rfl (by decide) rfl hA hK hP hD hS (ci := 0) rfl rfl rfl rfl hl.1 rfl (Nat.le_of_ble_eq_true rfl) dL_law_243 ⟨Nat.le_of_ble_eq_true rfl, Nat.le_of_ble_eq_true rfl⟩ (fun rT uT H locs hT hP hD hS => ?_)
  obtain ⟨f2, cf2, qu2, R2, b2, po2, pb2⟩ := uT
  try dsimp only at hT
  have hP : va_P D vwCl (wM ob ar dA n g ++ wT ad dd n g f2 cf2 qu2 R2 b2 po2 pb2) H := hP
  have hD : va_D (fun q : Nat => s.heap.size ≤ q) (wM ob ar dA n g ++ wT ad dd n g f2 cf2 qu2 R2 b2 po2 pb2) := hD
  refine lv_aload_n hx hb dL_law_246 rfl (lv_at hl 2 rfl) ?_
  refine kt_callI (wr := wT ad dd n g f2 cf2 qu2 R2 b2 po2 pb2) (rest := [.int rT]) B (mM_smallest l D ob ar dA n g zn zn2 zg ) (cwV 0 B.2.2.2.2 (lw_V q199 q200 q201 q19 q202) rfl rfl rfl (by decide +kernel) ⟨Nat.le_of_ble_eq_true rfl, Nat.le_of_ble_eq_true rfl⟩) [0, 1] [2, 3, 4, 5, 6, 7, 8] [6] rfl rfl rfl rfl rfl (by decide) rfl hA hK hP hD hS (ci := 1) rfl rfl rfl rfl hl.1 rfl (Nat.le_of_ble_eq_true rfl) dL_law_247 ⟨Nat.le_of_ble_eq_true rfl, Nat.le_of_ble_eq_true rfl⟩ (fun rM uM H locs hM hP hD hS => ?_)
  have hP : va_P D vwCl (wT ad dd n g f2 cf2 qu2 R2 b2 po2 pb2 ++ wM ob ar dA n g) H := hP
  have hD : va_D (fun q : Nat => s.heap.size ≤ q) (wT ad dd n g f2 cf2 qu2 R2 b2 po2 pb2 ++ wM ob ar dA n g) := hD
  have hE : rT = rM := ct_small_eq hT.1 hM
  refine lv_icmp_eq (tgt := 393) hx hb dL_law_250 (by decide) (fun _ => ?_) (fun hq => absurd hE hq)
  exact hnext _ _ _ _ _ _ _ _ _ _ _ (zg) (hT.2) hP hD hS hl
set_option maxHeartbeats 4000000 in
set_option maxRecDepth 100000 in
theorem lw_op_couples (zL : L ≤ 257) (zi : i + 3 < L) (zn : n ≤ 8) (zn2 : 2 ≤ n) (B : CallFix p m c code 4 s #[Value.ref bs] lw_all RX0) (hX : va_X bs L xs s s.heap) (hbl : bs < s.heap.size) (hK : va_K D vwCl (tyT dd ++ tyM dA) s) (hnext : lw_K p l e s m below meth c Q D ad dd ob ar dA n bs i 393) : lw_K p l e s m below meth c Q D ad dd ob ar dA n bs i 255 := by
  intro g f cf qu R b po pb H locs ls zg zb hP hD hS hl
  have hA : ∀ q : Nat, s.heap.size ≤ q → (fun q : Nat => s.heap.size ≤ q) q := fun _ h => h
  have hbA : ¬ (fun q : Nat => s.heap.size ≤ q) bs := Nat.not_le.mpr hbl
  have hx := B.1
  have hb := B.2.1
  refine lv_aload_n hx hb dL_law_255 rfl (lv_at hl 1 rfl) ?_
  refine lv_aload_n hx hb dL_law_256 rfl (lv_at hl 0 rfl) ?_
  refine lv_iload_n hx hb dL_law_257 rfl (lv_at hl 3 rfl) ?_
  refine lv_iconst (v := nI 1) hx hb dL_law_258 (by decide) ?_
  refine kn_iadd hx hb dL_law_259 ?_
  refine kt_sl hx hb hX hbl hbA hS (show i + 1 < L by omega) (by omega) dL_law_260 ?_
  refine kt_callI (wr := wM ob ar dA n g) (rest := []) B (mT_couples l D ad dd n g f cf qu R b po pb zn zn2 zg zb (xs (i + 1))) (cwV 1 B.2.2.2.2 (lw_V q114 q115 q116 q18 q117) rfl rfl rfl (by decide +kernel) ⟨Nat.le_of_ble_eq_true rfl, Nat.le_of_ble_eq_true rfl⟩) [0, 1, 2, 3, 4, 5, 6] [7, 8] [0, 1, 2, 3, 4, 5] rfl rfl rfl rfl rfl (by decide) rfl hA hK hP hD hS (ci := 0) rfl rfl rfl rfl hl.1 rfl (Nat.le_of_ble_eq_true rfl) dL_law_261 ⟨Nat.le_of_ble_eq_true rfl, Nat.le_of_ble_eq_true rfl⟩ (fun rT uT H locs hT hP hD hS => ?_)
  obtain ⟨f2, cf2, qu2, R2, b2, po2, pb2⟩ := uT
  try dsimp only at hT
  have hP : va_P D vwCl (wM ob ar dA n g ++ wT ad dd n g f2 cf2 qu2 R2 b2 po2 pb2) H := hP
  have hD : va_D (fun q : Nat => s.heap.size ≤ q) (wM ob ar dA n g ++ wT ad dd n g f2 cf2 qu2 R2 b2 po2 pb2) := hD
  refine lv_aload_n hx hb dL_law_264 rfl (lv_at hl 2 rfl) ?_
  refine lv_aload_n hx hb dL_law_265 rfl (lv_at hl 0 rfl) ?_
  refine lv_iload_n hx hb dL_law_266 rfl (lv_at hl 3 rfl) ?_
  refine lv_iconst (v := nI 1) hx hb dL_law_267 (by decide) ?_
  refine kn_iadd hx hb dL_law_268 ?_
  refine kt_sl hx hb hX hbl hbA hS (show i + 1 < L by omega) (by omega) dL_law_269 ?_
  refine kt_callI (wr := wT ad dd n g f2 cf2 qu2 R2 b2 po2 pb2) (rest := [.int rT]) B (mM_couples l D ob ar dA n g zn zg (xs (i + 1))) (cwV 1 B.2.2.2.2 (lw_V q203 q204 q205 q19 q206) rfl rfl rfl (by decide +kernel) ⟨Nat.le_of_ble_eq_true rfl, Nat.le_of_ble_eq_true rfl⟩) [0, 1] [2, 3, 4, 5, 6, 7, 8] [6] rfl rfl rfl rfl rfl (by decide) rfl hA hK hP hD hS (ci := 1) rfl rfl rfl rfl hl.1 rfl (Nat.le_of_ble_eq_true rfl) dL_law_270 ⟨Nat.le_of_ble_eq_true rfl, Nat.le_of_ble_eq_true rfl⟩ (fun rM uM H locs hM hP hD hS => ?_)
  have hP : va_P D vwCl (wT ad dd n g f2 cf2 qu2 R2 b2 po2 pb2 ++ wM ob ar dA n g) H := hP
  have hD : va_D (fun q : Nat => s.heap.size ≤ q) (wT ad dd n g f2 cf2 qu2 R2 b2 po2 pb2 ++ wM ob ar dA n g) := hD
  have hE : rT = rM := Eq.trans hT.1 (Eq.symm hM)
  refine lv_icmp_eq (tgt := 393) hx hb dL_law_273 (by decide) (fun _ => ?_) (fun hq => absurd hE hq)
  exact hnext _ _ _ _ _ _ _ _ _ _ _ (zg) (hT.2) hP hD hS hl
set_option maxHeartbeats 4000000 in
set_option maxRecDepth 100000 in
theorem lw_op_groups (zL : L ≤ 257) (zi : i + 3 < L) (zn : n ≤ 8) (zn2 : 2 ≤ n) (B : CallFix p m c code 4 s #[Value.ref bs] lw_all RX0) (hX : va_X bs L xs s s.heap) (hbl : bs < s.heap.size) (hK : va_K D vwCl (tyT dd ++ tyM dA) s) (hnext : lw_K p l e s m below meth c Q D ad dd ob ar dA n bs i 393) : lw_K p l e s m below meth c Q D ad dd ob ar dA n bs i 278 := by
  intro g f cf qu R b po pb H locs ls zg zb hP hD hS hl
  have hA : ∀ q : Nat, s.heap.size ≤ q → (fun q : Nat => s.heap.size ≤ q) q := fun _ h => h
  have hbA : ¬ (fun q : Nat => s.heap.size ≤ q) bs := Nat.not_le.mpr hbl
  have hx := B.1
  have hb := B.2.1
  refine lv_aload_n hx hb dL_law_278 rfl (lv_at hl 1 rfl) ?_
  refine lv_aload_n hx hb dL_law_279 rfl (lv_at hl 0 rfl) ?_
  refine lv_iload_n hx hb dL_law_280 rfl (lv_at hl 3 rfl) ?_
  refine lv_iconst (v := nI 1) hx hb dL_law_281 (by decide) ?_
  refine kn_iadd hx hb dL_law_282 ?_
  refine kt_sl hx hb hX hbl hbA hS (show i + 1 < L by omega) (by omega) dL_law_283 ?_
  refine kt_callI (wr := wM ob ar dA n g) (rest := []) B (mT_groups l D ad dd n g f cf qu R b po pb zn zn2 zg zb (xs (i + 1))) (cwV 1 B.2.2.2.2 (lw_V q118 q119 q120 q18 q121) rfl rfl rfl (by decide +kernel) ⟨Nat.le_of_ble_eq_true rfl, Nat.le_of_ble_eq_true rfl⟩) [0, 1, 2, 3, 4, 5, 6] [7, 8] [0, 1, 2, 3, 4, 5] rfl rfl rfl rfl rfl (by decide) rfl hA hK hP hD hS (ci := 0) rfl rfl rfl rfl hl.1 rfl (Nat.le_of_ble_eq_true rfl) dL_law_284 ⟨Nat.le_of_ble_eq_true rfl, Nat.le_of_ble_eq_true rfl⟩ (fun rT uT H locs hT hP hD hS => ?_)
  obtain ⟨f2, cf2, qu2, R2, b2, po2, pb2⟩ := uT
  try dsimp only at hT
  have hP : va_P D vwCl (wM ob ar dA n g ++ wT ad dd n g f2 cf2 qu2 R2 b2 po2 pb2) H := hP
  have hD : va_D (fun q : Nat => s.heap.size ≤ q) (wM ob ar dA n g ++ wT ad dd n g f2 cf2 qu2 R2 b2 po2 pb2) := hD
  refine lv_aload_n hx hb dL_law_287 rfl (lv_at hl 2 rfl) ?_
  refine lv_aload_n hx hb dL_law_288 rfl (lv_at hl 0 rfl) ?_
  refine lv_iload_n hx hb dL_law_289 rfl (lv_at hl 3 rfl) ?_
  refine lv_iconst (v := nI 1) hx hb dL_law_290 (by decide) ?_
  refine kn_iadd hx hb dL_law_291 ?_
  refine kt_sl hx hb hX hbl hbA hS (show i + 1 < L by omega) (by omega) dL_law_292 ?_
  refine kt_callI (wr := wT ad dd n g f2 cf2 qu2 R2 b2 po2 pb2) (rest := [.int rT]) B (mM_groups l D ob ar dA n g zn zg (xs (i + 1))) (cwV 1 B.2.2.2.2 (lw_V q207 q208 q209 q19 q210) rfl rfl rfl (by decide +kernel) ⟨Nat.le_of_ble_eq_true rfl, Nat.le_of_ble_eq_true rfl⟩) [0, 1] [2, 3, 4, 5, 6, 7, 8] [6] rfl rfl rfl rfl rfl (by decide) rfl hA hK hP hD hS (ci := 1) rfl rfl rfl rfl hl.1 rfl (Nat.le_of_ble_eq_true rfl) dL_law_293 ⟨Nat.le_of_ble_eq_true rfl, Nat.le_of_ble_eq_true rfl⟩ (fun rM uM H locs hM hP hD hS => ?_)
  have hP : va_P D vwCl (wT ad dd n g f2 cf2 qu2 R2 b2 po2 pb2 ++ wM ob ar dA n g) H := hP
  have hD : va_D (fun q : Nat => s.heap.size ≤ q) (wT ad dd n g f2 cf2 qu2 R2 b2 po2 pb2 ++ wM ob ar dA n g) := hD
  have hE : rT = rM := Eq.trans hT.1 (Eq.symm hM)
  refine lv_icmp_eq (tgt := 393) hx hb dL_law_296 (by decide) (fun _ => ?_) (fun hq => absurd hE hq)
  exact hnext _ _ _ _ _ _ _ _ _ _ _ (zg) (hT.2) hP hD hS hl
set_option maxHeartbeats 4000000 in
set_option maxRecDepth 100000 in
theorem lw_op_group (zL : L ≤ 257) (zi : i + 3 < L) (zn : n ≤ 8) (zn2 : 2 ≤ n) (B : CallFix p m c code 4 s #[Value.ref bs] lw_all RX0) (hX : va_X bs L xs s s.heap) (hbl : bs < s.heap.size) (hK : va_K D vwCl (tyT dd ++ tyM dA) s) (hnext : lw_K p l e s m below meth c Q D ad dd ob ar dA n bs i 393) : lw_K p l e s m below meth c Q D ad dd ob ar dA n bs i 301 := by
  intro g f cf qu R b po pb H locs ls zg zb hP hD hS hl
  have hA : ∀ q : Nat, s.heap.size ≤ q → (fun q : Nat => s.heap.size ≤ q) q := fun _ h => h
  have hbA : ¬ (fun q : Nat => s.heap.size ≤ q) bs := Nat.not_le.mpr hbl
  have hx := B.1
  have hb := B.2.1
  refine lv_aload_n hx hb dL_law_301 rfl (lv_at hl 1 rfl) ?_
  refine lv_aload_n hx hb dL_law_302 rfl (lv_at hl 0 rfl) ?_
  refine lv_iload_n hx hb dL_law_303 rfl (lv_at hl 3 rfl) ?_
  refine lv_iconst (v := nI 1) hx hb dL_law_304 (by decide) ?_
  refine kn_iadd hx hb dL_law_305 ?_
  refine kt_sl hx hb hX hbl hbA hS (show i + 1 < L by omega) (by omega) dL_law_306 ?_
  refine lv_aload_n hx hb dL_law_307 rfl (lv_at hl 0 rfl) ?_
  refine lv_iload_n hx hb dL_law_308 rfl (lv_at hl 3 rfl) ?_
  refine lv_iconst (v := nI 2) hx hb dL_law_309 (by decide) ?_
  refine kn_iadd hx hb dL_law_310 ?_
  refine kt_sl hx hb hX hbl hbA hS (show i + 2 < L by omega) (by omega) dL_law_311 ?_
  refine kt_callI (wr := wM ob ar dA n g) (rest := []) B (mT_group l D ad dd n g f cf qu R b po pb zn zn2 zg zb (xs (i + 1)) (xs (i + 2))) (cwV 2 B.2.2.2.2 (lw_V q122 q123 q124 q18 q125) rfl rfl rfl (by decide +kernel) ⟨Nat.le_of_ble_eq_true rfl, Nat.le_of_ble_eq_true rfl⟩) [0, 1, 2, 3, 4, 5, 6] [7, 8] [0, 1, 2, 3, 4, 5] rfl rfl rfl rfl rfl (by decide) rfl hA hK hP hD hS (ci := 0) rfl rfl rfl rfl hl.1 rfl (Nat.le_of_ble_eq_true rfl) dL_law_312 ⟨Nat.le_of_ble_eq_true rfl, Nat.le_of_ble_eq_true rfl⟩ (fun rT uT H locs hT hP hD hS => ?_)
  obtain ⟨f2, cf2, qu2, R2, b2, po2, pb2⟩ := uT
  try dsimp only at hT
  have hP : va_P D vwCl (wM ob ar dA n g ++ wT ad dd n g f2 cf2 qu2 R2 b2 po2 pb2) H := hP
  have hD : va_D (fun q : Nat => s.heap.size ≤ q) (wM ob ar dA n g ++ wT ad dd n g f2 cf2 qu2 R2 b2 po2 pb2) := hD
  refine lv_aload_n hx hb dL_law_315 rfl (lv_at hl 2 rfl) ?_
  refine lv_aload_n hx hb dL_law_316 rfl (lv_at hl 0 rfl) ?_
  refine lv_iload_n hx hb dL_law_317 rfl (lv_at hl 3 rfl) ?_
  refine lv_iconst (v := nI 1) hx hb dL_law_318 (by decide) ?_
  refine kn_iadd hx hb dL_law_319 ?_
  refine kt_sl hx hb hX hbl hbA hS (show i + 1 < L by omega) (by omega) dL_law_320 ?_
  refine lv_aload_n hx hb dL_law_321 rfl (lv_at hl 0 rfl) ?_
  refine lv_iload_n hx hb dL_law_322 rfl (lv_at hl 3 rfl) ?_
  refine lv_iconst (v := nI 2) hx hb dL_law_323 (by decide) ?_
  refine kn_iadd hx hb dL_law_324 ?_
  refine kt_sl hx hb hX hbl hbA hS (show i + 2 < L by omega) (by omega) dL_law_325 ?_
  refine kt_callI (wr := wT ad dd n g f2 cf2 qu2 R2 b2 po2 pb2) (rest := [.int rT]) B (mM_group l D ob ar dA n g zn zg (xs (i + 1)) (xs (i + 2))) (cwV 2 B.2.2.2.2 (lw_V q215 q216 q217 q19 q218) rfl rfl rfl (by decide +kernel) ⟨Nat.le_of_ble_eq_true rfl, Nat.le_of_ble_eq_true rfl⟩) [0, 1] [2, 3, 4, 5, 6, 7, 8] [6] rfl rfl rfl rfl rfl (by decide) rfl hA hK hP hD hS (ci := 1) rfl rfl rfl rfl hl.1 rfl (Nat.le_of_ble_eq_true rfl) dL_law_326 ⟨Nat.le_of_ble_eq_true rfl, Nat.le_of_ble_eq_true rfl⟩ (fun rM uM H locs hM hP hD hS => ?_)
  have hP : va_P D vwCl (wT ad dd n g f2 cf2 qu2 R2 b2 po2 pb2 ++ wM ob ar dA n g) H := hP
  have hD : va_D (fun q : Nat => s.heap.size ≤ q) (wT ad dd n g f2 cf2 qu2 R2 b2 po2 pb2 ++ wM ob ar dA n g) := hD
  have hE : rT = rM := Eq.trans hT.1 (Eq.symm hM)
  refine lv_icmp_eq (tgt := 393) hx hb dL_law_329 (by decide) (fun _ => ?_) (fun hq => absurd hE hq)
  exact hnext _ _ _ _ _ _ _ _ _ _ _ (zg) (hT.2) hP hD hS hl
set_option maxHeartbeats 4000000 in
set_option maxRecDepth 100000 in
theorem lw_op_weight (zL : L ≤ 257) (zi : i + 3 < L) (zn : n ≤ 8) (zn2 : 2 ≤ n) (B : CallFix p m c code 4 s #[Value.ref bs] lw_all RX0) (hX : va_X bs L xs s s.heap) (hbl : bs < s.heap.size) (hK : va_K D vwCl (tyT dd ++ tyM dA) s) (hnext : lw_K p l e s m below meth c Q D ad dd ob ar dA n bs i 393) : lw_K p l e s m below meth c Q D ad dd ob ar dA n bs i 334 := by
  intro g f cf qu R b po pb H locs ls zg zb hP hD hS hl
  have hA : ∀ q : Nat, s.heap.size ≤ q → (fun q : Nat => s.heap.size ≤ q) q := fun _ h => h
  have hbA : ¬ (fun q : Nat => s.heap.size ≤ q) bs := Nat.not_le.mpr hbl
  have hx := B.1
  have hb := B.2.1
  refine lv_aload_n hx hb dL_law_334 rfl (lv_at hl 1 rfl) ?_
  refine lv_aload_n hx hb dL_law_335 rfl (lv_at hl 0 rfl) ?_
  refine lv_iload_n hx hb dL_law_336 rfl (lv_at hl 3 rfl) ?_
  refine lv_iconst (v := nI 1) hx hb dL_law_337 (by decide) ?_
  refine kn_iadd hx hb dL_law_338 ?_
  refine kt_sl hx hb hX hbl hbA hS (show i + 1 < L by omega) (by omega) dL_law_339 ?_
  refine kt_callI (wr := wM ob ar dA n g) (rest := []) B (mT_weight l D ad dd n g f cf qu R b po pb zn (xs (i + 1))) (cwV 1 B.2.2.2.2 (lw_V q126 q127 q128 q18 q129) rfl rfl rfl (by decide +kernel) ⟨Nat.le_of_ble_eq_true rfl, Nat.le_of_ble_eq_true rfl⟩) [0, 1, 2, 3, 4, 5, 6] [7, 8] [0, 1, 2, 3, 4, 5] rfl rfl rfl rfl rfl (by decide) rfl hA hK hP hD hS (ci := 0) rfl rfl rfl rfl hl.1 rfl (Nat.le_of_ble_eq_true rfl) dL_law_340 ⟨Nat.le_of_ble_eq_true rfl, Nat.le_of_ble_eq_true rfl⟩ (fun rT uT H locs hT hP hD hS => ?_)
  have hP : va_P D vwCl (wM ob ar dA n g ++ wT ad dd n g f cf qu R b po pb) H := hP
  have hD : va_D (fun q : Nat => s.heap.size ≤ q) (wM ob ar dA n g ++ wT ad dd n g f cf qu R b po pb) := hD
  refine lv_aload_n hx hb dL_law_343 rfl (lv_at hl 2 rfl) ?_
  refine lv_aload_n hx hb dL_law_344 rfl (lv_at hl 0 rfl) ?_
  refine lv_iload_n hx hb dL_law_345 rfl (lv_at hl 3 rfl) ?_
  refine lv_iconst (v := nI 1) hx hb dL_law_346 (by decide) ?_
  refine kn_iadd hx hb dL_law_347 ?_
  refine kt_sl hx hb hX hbl hbA hS (show i + 1 < L by omega) (by omega) dL_law_348 ?_
  refine kt_callI (wr := wT ad dd n g f cf qu R b po pb) (rest := [.int rT]) B (mM_weight l D ob ar dA n g zn (xs (i + 1))) (cwV 1 B.2.2.2.2 (lw_V q219 q220 q221 q19 q222) rfl rfl rfl (by decide +kernel) ⟨Nat.le_of_ble_eq_true rfl, Nat.le_of_ble_eq_true rfl⟩) [0, 1] [2, 3, 4, 5, 6, 7, 8] [6] rfl rfl rfl rfl rfl (by decide) rfl hA hK hP hD hS (ci := 1) rfl rfl rfl rfl hl.1 rfl (Nat.le_of_ble_eq_true rfl) dL_law_349 ⟨Nat.le_of_ble_eq_true rfl, Nat.le_of_ble_eq_true rfl⟩ (fun rM uM H locs hM hP hD hS => ?_)
  have hP : va_P D vwCl (wT ad dd n g f cf qu R b po pb ++ wM ob ar dA n g) H := hP
  have hD : va_D (fun q : Nat => s.heap.size ≤ q) (wT ad dd n g f cf qu R b po pb ++ wM ob ar dA n g) := hD
  have hE : rT = rM := Eq.trans hT (Eq.symm hM)
  refine lv_icmp_eq (tgt := 393) hx hb dL_law_352 (by decide) (fun _ => ?_) (fun hq => absurd hE hq)
  exact hnext _ _ _ _ _ _ _ _ _ _ _ (zg) (zb) hP hD hS hl
set_option maxHeartbeats 4000000 in
set_option maxRecDepth 100000 in
theorem lw_op_total (zL : L ≤ 257) (zi : i + 3 < L) (zn : n ≤ 8) (zn2 : 2 ≤ n) (B : CallFix p m c code 4 s #[Value.ref bs] lw_all RX0) (hX : va_X bs L xs s s.heap) (hbl : bs < s.heap.size) (hK : va_K D vwCl (tyT dd ++ tyM dA) s) (hnext : lw_K p l e s m below meth c Q D ad dd ob ar dA n bs i 393) : lw_K p l e s m below meth c Q D ad dd ob ar dA n bs i 357 := by
  intro g f cf qu R b po pb H locs ls zg zb hP hD hS hl
  have hA : ∀ q : Nat, s.heap.size ≤ q → (fun q : Nat => s.heap.size ≤ q) q := fun _ h => h
  have hbA : ¬ (fun q : Nat => s.heap.size ≤ q) bs := Nat.not_le.mpr hbl
  have hx := B.1
  have hb := B.2.1
  refine lv_aload_n hx hb dL_law_357 rfl (lv_at hl 1 rfl) ?_
  refine kt_callI (wr := wM ob ar dA n g) (rest := []) B (mT_total l D ad dd n g f cf qu R b po pb zn zn2 zg zb ) (cwV 0 B.2.2.2.2 (lw_V q130 q131 q132 q18 q133) rfl rfl rfl (by decide +kernel) ⟨Nat.le_of_ble_eq_true rfl, Nat.le_of_ble_eq_true rfl⟩) [0, 1, 2, 3, 4, 5, 6] [7, 8] [0, 1, 2, 3, 4, 5] rfl rfl rfl rfl rfl (by decide) rfl hA hK hP hD hS (ci := 0) rfl rfl rfl rfl hl.1 rfl (Nat.le_of_ble_eq_true rfl) dL_law_358 ⟨Nat.le_of_ble_eq_true rfl, Nat.le_of_ble_eq_true rfl⟩ (fun rT uT H locs hT hP hD hS => ?_)
  obtain ⟨f2, cf2, qu2, R2, b2, po2, pb2⟩ := uT
  try dsimp only at hT
  have hP : va_P D vwCl (wM ob ar dA n g ++ wT ad dd n g f2 cf2 qu2 R2 b2 po2 pb2) H := hP
  have hD : va_D (fun q : Nat => s.heap.size ≤ q) (wM ob ar dA n g ++ wT ad dd n g f2 cf2 qu2 R2 b2 po2 pb2) := hD
  refine lv_aload_n hx hb dL_law_361 rfl (lv_at hl 2 rfl) ?_
  refine kt_callI (wr := wT ad dd n g f2 cf2 qu2 R2 b2 po2 pb2) (rest := [.int rT]) B (mM_total l D ob ar dA n g zn zg ) (cwV 0 B.2.2.2.2 (lw_V q223 q224 q225 q19 q226) rfl rfl rfl (by decide +kernel) ⟨Nat.le_of_ble_eq_true rfl, Nat.le_of_ble_eq_true rfl⟩) [0, 1] [2, 3, 4, 5, 6, 7, 8] [6] rfl rfl rfl rfl rfl (by decide) rfl hA hK hP hD hS (ci := 1) rfl rfl rfl rfl hl.1 rfl (Nat.le_of_ble_eq_true rfl) dL_law_362 ⟨Nat.le_of_ble_eq_true rfl, Nat.le_of_ble_eq_true rfl⟩ (fun rM uM H locs hM hP hD hS => ?_)
  have hP : va_P D vwCl (wT ad dd n g f2 cf2 qu2 R2 b2 po2 pb2 ++ wM ob ar dA n g) H := hP
  have hD : va_D (fun q : Nat => s.heap.size ≤ q) (wT ad dd n g f2 cf2 qu2 R2 b2 po2 pb2 ++ wM ob ar dA n g) := hD
  have hE : rT = rM := Eq.trans hT.1 (Eq.symm hM)
  refine lv_icmp_eq (tgt := 393) hx hb dL_law_365 (by decide) (fun _ => ?_) (fun hq => absurd hE hq)
  exact hnext _ _ _ _ _ _ _ _ _ _ _ (zg) (hT.2) hP hD hS hl
set_option maxHeartbeats 4000000 in
set_option maxRecDepth 100000 in
theorem lw_op_cap (zL : L ≤ 257) (zi : i + 3 < L) (zn : n ≤ 8) (zn2 : 2 ≤ n) (B : CallFix p m c code 4 s #[Value.ref bs] lw_all RX0) (hX : va_X bs L xs s s.heap) (hbl : bs < s.heap.size) (hK : va_K D vwCl (tyT dd ++ tyM dA) s) (hnext : lw_K p l e s m below meth c Q D ad dd ob ar dA n bs i 393) : lw_K p l e s m below meth c Q D ad dd ob ar dA n bs i 370 := by
  intro g f cf qu R b po pb H locs ls zg zb hP hD hS hl
  have hA : ∀ q : Nat, s.heap.size ≤ q → (fun q : Nat => s.heap.size ≤ q) q := fun _ h => h
  have hbA : ¬ (fun q : Nat => s.heap.size ≤ q) bs := Nat.not_le.mpr hbl
  have hx := B.1
  have hb := B.2.1
  refine lv_aload_n hx hb dL_law_370 rfl (lv_at hl 1 rfl) ?_
  refine lv_aload_n hx hb dL_law_371 rfl (lv_at hl 0 rfl) ?_
  refine lv_iload_n hx hb dL_law_372 rfl (lv_at hl 3 rfl) ?_
  refine lv_iconst (v := nI 1) hx hb dL_law_373 (by decide) ?_
  refine kn_iadd hx hb dL_law_374 ?_
  refine kt_sl hx hb hX hbl hbA hS (show i + 1 < L by omega) (by omega) dL_law_375 ?_
  refine kt_callI (wr := wM ob ar dA n g) (rest := []) B (mT_cap l D ad dd n g f cf qu R b po pb zn zg zb (xs (i + 1))) (cwV 1 B.2.2.2.2 (lw_V q134 q135 q136 q18 q137) rfl rfl rfl (by decide +kernel) ⟨Nat.le_of_ble_eq_true rfl, Nat.le_of_ble_eq_true rfl⟩) [0, 1, 2, 3, 4, 5, 6] [7, 8] [0, 1, 2, 3, 4, 5] rfl rfl rfl rfl rfl (by decide) rfl hA hK hP hD hS (ci := 0) rfl rfl rfl rfl hl.1 rfl (Nat.le_of_ble_eq_true rfl) dL_law_376 ⟨Nat.le_of_ble_eq_true rfl, Nat.le_of_ble_eq_true rfl⟩ (fun rT uT H locs hT hP hD hS => ?_)
  obtain ⟨gT, b2⟩ := uT
  try dsimp only at hT
  have hP : va_P D vwCl (wM ob ar dA n g ++ wT ad dd n gT f cf qu R b2 po pb) H := hP
  have hD : va_D (fun q : Nat => s.heap.size ≤ q) (wM ob ar dA n g ++ wT ad dd n gT f cf qu R b2 po pb) := hD
  refine lv_aload_n hx hb dL_law_379 rfl (lv_at hl 2 rfl) ?_
  refine lv_aload_n hx hb dL_law_380 rfl (lv_at hl 0 rfl) ?_
  refine lv_iload_n hx hb dL_law_381 rfl (lv_at hl 3 rfl) ?_
  refine lv_iconst (v := nI 1) hx hb dL_law_382 (by decide) ?_
  refine kn_iadd hx hb dL_law_383 ?_
  refine kt_sl hx hb hX hbl hbA hS (show i + 1 < L by omega) (by omega) dL_law_384 ?_
  refine kt_callI (wr := wT ad dd n gT f cf qu R b2 po pb) (rest := [.int rT]) B (mM_cap l D ob ar dA n g zn zg (xs (i + 1))) (cwV 1 B.2.2.2.2 (lw_V q227 q228 q229 q19 q230) rfl rfl rfl (by decide +kernel) ⟨Nat.le_of_ble_eq_true rfl, Nat.le_of_ble_eq_true rfl⟩) [0, 1] [2, 3, 4, 5, 6, 7, 8] [6] rfl rfl rfl rfl rfl (by decide) rfl hA hK hP hD hS (ci := 1) rfl rfl rfl rfl hl.1 rfl (Nat.le_of_ble_eq_true rfl) dL_law_385 ⟨Nat.le_of_ble_eq_true rfl, Nat.le_of_ble_eq_true rfl⟩ (fun rM gM H locs hM hP hD hS => ?_)
  have hP : va_P D vwCl (wT ad dd n gT f cf qu R b2 po pb ++ wM ob ar dA n gM) H := hP
  have hD : va_D (fun q : Nat => s.heap.size ≤ q) (wT ad dd n gT f cf qu R b2 po pb ++ wM ob ar dA n gM) := hD
  have zE := ct_cap_eq zg hT.1 hM
  have hE : rT = rM := zE.1
  refine lv_icmp_eq (tgt := 393) hx hb dL_law_388 (by decide) (fun _ => ?_) (fun hq => absurd hE hq)
  obtain rfl := zE.2.1
  exact hnext _ _ _ _ _ _ _ _ _ _ _ (zE.2.2) (hT.2) hP hD hS hl
end OPS
end
section
/-! ===== the law, its loop and its start ===== -/
set_option maxHeartbeats 4000000 in
set_option maxRecDepth 100000 in
theorem lw_loop {p : Program} {l : Launch} {e : Env} {s : State} {m : MethodId} {below : List Frame} {meth : Method} {c : Code} {D : va_G} {ad : Nat → Nat} {dd : Nat → ClassId} {ob ar : Nat} {dA : ClassId} {n bs L : Nat} {xs : Nat → Int32} (zL : L ≤ 257) (zn : n ≤ 8) (zn2 : 2 ≤ n) (B : CallFix p m c code 4 s #[Value.ref bs] lw_all RX0) (hr : meth.sig.returnType = ret) (hlocks : meth.locks = false) (hX : va_X bs L xs s s.heap) (hbl : bs < s.heap.size) (hK : va_K D vwCl (tyT dd ++ tyM dA) s) : ∀ (d i : Nat), L + 8 ≤ i + d → i ≤ L + 4 → lw_K p l e s m below meth c (lw_Z below #[Value.ref bs] s) D ad dd ob ar dA n bs i 28 := by
  have hbA : ¬ (fun q : Nat => s.heap.size ≤ q) bs := Nat.not_le.mpr hbl
  have hx := B.1
  have hb := B.2.1
  intro d
  induction d with
  | zero => intro i h1 h2; omega
  | succ d ih =>
    intro i zd zi g f cf qu R b po pb H locs ls zg zb hP hD hS hl
    refine lv_iload_n hx hb dL_law_28 rfl (lv_at hl 3 rfl) ?_
    refine lv_aload_n hx hb dL_law_29 rfl (lv_at hl 0 rfl) ?_
    refine va_slen hx hb hX hbl hbA hS dL_law_30 ?_
    refine lv_iconst (v := nI 4) hx hb dL_law_31 (by decide) ?_
    refine lv_isub hx hb dL_law_32 ?_
    refine lv_icmp_gt (tgt := 399) hx hb dL_law_33 (by decide) (fun hc => ?_) (fun hc => ?_)
    · refine lv_iconst (v := 1) hx hb dL_law_399 (by decide) ?_
      refine va_forget (fun q hq => hS.2.2 q hq) ?_
      refine W.widen (k := 600000) (n := 7290000) (by decide) (by decide) ?_
      exact lw_ret hx hb hr hlocks dL_law_400
    · have hlt : i + 3 < L := by
        have e1 := pk_sub_toInt (a := L) (b := 4) (by omega) (by decide)
        have e2 := nI_toInt (n := i) (by omega)
        have h3 : ¬ (nI L - nI 4).toInt < (nI i).toInt := fun q => hc ((fa_lt _ _).mpr q)
        rw [e1, e2] at h3
        omega
      have hnext : lw_K p l e s m below meth c (lw_Z below #[Value.ref bs] s) D ad dd ob ar dA n bs i 393 := by
        intro g f cf qu R b po pb H locs ls zg zb hP hD hS hl
        refine lv_iinc (v := nI (i + 4)) (lv' := [(3, .int (nI (i + 4))), (0, .ref bs), (1, .ref (ad 0)), (2, .ref ob)]) hx hb dL_law_393 hl (k := 3) rfl (nI_add i 4) (by decide) rfl (fun ls hl => ?_)
        refine lv_goto (tgt := 28) hx hb dL_law_396 (by decide) ?_
        exact ih (i + 4) (by omega) (by omega) _ _ _ _ _ _ _ _ _ _ _ zg zb hP hD hS (lv_sub hl [1, 2, 3, 0] rfl)
      refine lv_aload_n hx hb dL_law_36 rfl (lv_at hl 0 rfl) ?_
      refine lv_iload_n hx hb dL_law_37 rfl (lv_at hl 3 rfl) ?_
      refine kt_sl hx hb hX hbl hbA hS (show i < L by omega) (by omega) dL_law_38 ?_
      refine lv_bipush (v := nI 15) hx hb dL_law_39 (by decide) ?_
      refine lv_iand hx hb dL_law_41 ?_
      obtain ⟨k, hk, ek⟩ := ct_mask (xs i)
      refine kt_e ek ?_
      clear ek
      rcases (show k = 0 ∨ k = 1 ∨ k = 2 ∨ k = 3 ∨ k = 4 ∨ k = 5 ∨ k = 6 ∨ k = 7 ∨ k = 8 ∨ k = 9 ∨ k = 10 ∨ 11 ≤ k by omega) with rfl | rfl | rfl | rfl | rfl | rfl | rfl | rfl | rfl | rfl | rfl | hk2
      · refine lv_tableIn (tgt := 100) (off := 58) hx hb dL_law_42 (by decide +kernel) (by decide +kernel) (by decide +kernel) (by decide) ?_
        exact lw_op_connect zL hlt zn zn2 B hX hbl hK hnext _ _ _ _ _ _ _ _ _ _ _ zg zb hP hD hS hl
      · refine lv_tableIn (tgt := 143) (off := 101) hx hb dL_law_42 (by decide +kernel) (by decide +kernel) (by decide +kernel) (by decide) ?_
        exact lw_op_capacity zL hlt zn zn2 B hX hbl hK hnext _ _ _ _ _ _ _ _ _ _ _ zg zb hP hD hS hl
      · refine lv_tableIn (tgt := 176) (off := 134) hx hb dL_law_42 (by decide +kernel) (by decide +kernel) (by decide +kernel) (by decide) ?_
        exact lw_op_link zL hlt zn zn2 B hX hbl hK hnext _ _ _ _ _ _ _ _ _ _ _ zg zb hP hD hS hl
      · refine lv_tableIn (tgt := 209) (off := 167) hx hb dL_law_42 (by decide +kernel) (by decide +kernel) (by decide +kernel) (by decide) ?_
        exact lw_op_side zL hlt zn zn2 B hX hbl hK hnext _ _ _ _ _ _ _ _ _ _ _ zg zb hP hD hS hl
      · refine lv_tableIn (tgt := 242) (off := 200) hx hb dL_law_42 (by decide +kernel) (by decide +kernel) (by decide +kernel) (by decide) ?_
        exact lw_op_smallest zL hlt zn zn2 B hX hbl hK hnext _ _ _ _ _ _ _ _ _ _ _ zg zb hP hD hS hl
      · refine lv_tableIn (tgt := 255) (off := 213) hx hb dL_law_42 (by decide +kernel) (by decide +kernel) (by decide +kernel) (by decide) ?_
        exact lw_op_couples zL hlt zn zn2 B hX hbl hK hnext _ _ _ _ _ _ _ _ _ _ _ zg zb hP hD hS hl
      · refine lv_tableIn (tgt := 278) (off := 236) hx hb dL_law_42 (by decide +kernel) (by decide +kernel) (by decide +kernel) (by decide) ?_
        exact lw_op_groups zL hlt zn zn2 B hX hbl hK hnext _ _ _ _ _ _ _ _ _ _ _ zg zb hP hD hS hl
      · refine lv_tableIn (tgt := 301) (off := 259) hx hb dL_law_42 (by decide +kernel) (by decide +kernel) (by decide +kernel) (by decide) ?_
        exact lw_op_group zL hlt zn zn2 B hX hbl hK hnext _ _ _ _ _ _ _ _ _ _ _ zg zb hP hD hS hl
      · refine lv_tableIn (tgt := 334) (off := 292) hx hb dL_law_42 (by decide +kernel) (by decide +kernel) (by decide +kernel) (by decide) ?_
        exact lw_op_weight zL hlt zn zn2 B hX hbl hK hnext _ _ _ _ _ _ _ _ _ _ _ zg zb hP hD hS hl
      · refine lv_tableIn (tgt := 357) (off := 315) hx hb dL_law_42 (by decide +kernel) (by decide +kernel) (by decide +kernel) (by decide) ?_
        exact lw_op_total zL hlt zn zn2 B hX hbl hK hnext _ _ _ _ _ _ _ _ _ _ _ zg zb hP hD hS hl
      · refine lv_tableIn (tgt := 370) (off := 328) hx hb dL_law_42 (by decide +kernel) (by decide +kernel) (by decide +kernel) (by decide) ?_
        exact lw_op_cap zL hlt zn zn2 B hX hbl hK hnext _ _ _ _ _ _ _ _ _ _ _ zg zb hP hD hS hl
      · refine lv_tableOut (tgt := 393) hx hb dL_law_42 (Or.inr (by rw [nI_toInt (by omega)]; omega)) (by decide) ?_
        exact hnext _ _ _ _ _ _ _ _ _ _ _ zg zb hP hD hS hl
set_option maxHeartbeats 4000000 in
set_option maxRecDepth 100000 in
/-- THE LAW, from its entry -/
theorem whole_start {p : Program} {e : Env} {s : State} {m : MethodId} {below : List Frame} {meth : Method} {c : Code} (l : Launch) {b L : Nat} {xs : Nat → Int32} (hL : L ≤ 257) (C0 : lw_At p s m meth c b L xs) : W p l e room_1 s m #[Value.ref b] below meth c s.heap [] 0 0 (lw_Z below #[Value.ref b] s) (entryFrame m ([Value.ref b] : List Value).toArray 4) := by
  obtain ⟨hx, hb, hr, hml, hown, hts0, hX, hbl, hlocks, hgv⟩ := C0
  have hts : ∀ w ∈ lw_all, w.before #[Value.ref b] s = true := fun w h => hts0 w (lw_all_tbl h)
  have B : CallFix p m c code 4 s #[Value.ref b] lw_all RX0 := ⟨hx, hb, hml, hown, hts⟩
  have hown : s.vm.findClass RX0 = some m.cls := hown
  have hA : ∀ q : Nat, s.heap.size ≤ q → (fun q : Nat => s.heap.size ≤ q) q := fun _ h => h
  obtain ⟨c0, iS0, hKn0⟩ := u_known (C := RX1) (T := TX1) (N := 9) (n := 9) hts in_X1 (hts _ q21)
  obtain ⟨c1, iS1, hKn1⟩ := u_known (C := RX2) (T := TX2) (N := 2) (n := 2) hts in_X2 (hts _ q143)
  obtain ⟨D, hKc⟩ : ∃ D : va_G, ∀ (k : Nat) (q : vw_C), vwCl[k]? = some q → u_Kn s q.1 q.2.1 q.2.2 (D.1 k) (D.2 k) := by
    refine ⟨(fun k => if k = 0 then c0 else c1, fun k => if k = 0 then iS0 else iS1), ?_⟩
    intro k q hq
    match k, hq with
    | 0, hq => cases hq; exact hKn0
    | 1, hq => cases hq; exact hKn1
    | k + 2, hq => simp [vwCl] at hq
  have hS : va_S (fun q : Nat => s.heap.size ≤ q) s.heap s.heap [] := va_S.rf
  have hK : va_K D vwCl [] s := ⟨hKc, fun k q h => by simp at h⟩
  have hP : va_P D vwCl [] s.heap := fun k q h => by simp at h
  have hD : va_D (fun q : Nat => s.heap.size ≤ q) [] := ⟨fun i j p q h => by simp at h, fun k q h => by simp at h⟩
  have hl := lv_entry ([.ref b]) (n := 4) (Nat.le_of_ble_eq_true rfl)
  rw [lg_entry_eq]
  generalize (lg_sl ([.ref b]) ++ List.replicate (4 - (lg_sl ([.ref b])).length) Slot.unset).toArray = ls at hl ⊢
  have hl : lv_has ls 4 [(0, .ref b)] := hl
  refine va_new (ci := 0) (fs := [.int 0, .null, .null, .null, .null, .int 0, .int 0, .null, .null]) (C := RX1) (T := TX1) (N := 9) hx hb hts in_X1 tyX1 tyX1_ok hown (hts _ q20) (hts _ q21) (hts _ q18) hK hP hD hS hA rfl (fun j hj => by rcases (show j = 0 ∨ j = 1 ∨ j = 2 ∨ j = 3 ∨ j = 4 ∨ j = 5 ∨ j = 6 ∨ j = 7 ∨ j = 8 by omega) with rfl | rfl | rfl | rfl | rfl | rfl | rfl | rfl | rfl <;> rfl) (Nat.le_of_ble_eq_true rfl) (Nat.le_of_ble_eq_true rfl) dL_law_0 (fun q0 H hP hD hS => ?_)
  have hP : va_P D vwCl [(q0, .inr (0, [.int 0, .null, .null, .null, .null, .int 0, .int 0, .null, .null]))] H := hP
  have hD : va_D (fun q : Nat => s.heap.size ≤ q) [(q0, .inr (0, [.int 0, .null, .null, .null, .null, .int 0, .int 0, .null, .null]))] := hD
  refine W.widen (k := 1) (n := 9) (by omega) (by omega) ?_
  refine lv_dup hx hb dL_law_3 rfl ?_
  refine lv_aload_n hx hb dL_law_4 rfl (lv_at hl 0 rfl) ?_
  refine lv_iconst (v := nI 0) hx hb dL_law_5 (by decide) ?_
  refine lw_cell hL B hX hbl hP hS hl.1 (Nat.le_of_ble_eq_true rfl) dL_law_6 ⟨Nat.le_of_ble_eq_true rfl, Nat.le_of_ble_eq_true rfl⟩ (fun H locs hP hS => ?_)
  have hPc := hP.sub (ws' := [(q0, .inr (0, [.int 0, .null, .null, .null, .null, .int 0, .int 0, .null, .null]))]) [0] rfl
  have hDc := hD.sub (ws' := [(q0, .inr (0, [.int 0, .null, .null, .null, .null, .int 0, .int 0, .null, .null]))]) [0] (by decide) rfl
  have hKc := hK.sub (tys' := []) [] rfl
  have hFc := va_free (wc := [(q0, .inr (0, [.int 0, .null, .null, .null, .null, .int 0, .int 0, .null, .null]))]) hD hS hA [0] rfl
  refine va_callv (va_runI (As := [.int (ct_x0 L xs)]) (rest := [.ref q0]) B (mT_init l D q0 (ct_x0 L xs) H.size) (cwI 1 hts (lw_meth q24) rfl rfl rfl (hts _ q18) (hts _ q22) (hts _ q23) rfl (by decide +kernel) ⟨Nat.le_of_ble_eq_true rfl, Nat.le_of_ble_eq_true rfl⟩) ⟨fun a U g mk q => by obtain ⟨q0, q1, qP, qK, qD⟩ := q; exact ⟨q0, q1, qP, va_K.moved (u := U) (U := U.calling g mk a) (Vm.Alike.refl U.vm) qK, qD⟩, fun U hU hW => ⟨rfl, by rw [hU], by rw [hU]; exact hPc, va_K.moved hW.alike hKc, hDc.weaken (fun _ _ _ _ => trivial)⟩⟩ rfl rfl hl.1 rfl (lv_room (Nat.le_of_ble_eq_true rfl)) dL_law_9 ⟨Nat.le_of_ble_eq_true rfl, Nat.le_of_ble_eq_true rfl⟩) hS (fun q _ h => hFc q h) hFc (fun u t H1 locs ht hvm hw hB hz1 hk1 hS => ?_)
  obtain ⟨ad, dd⟩ := u
  obtain ⟨hP1, hK1, hD1⟩ := hB
  rw [ht] at hP1
  have hK1 := va_K.moved hvm.symm hK1
  have hw : ad 0 = q0 := hw
  obtain ⟨hP2, hD2⟩ := va_join (wr := []) (w1 := wT ad dd (ct_n (ct_x0 L xs)) (fun _ => 0) (fun _ => 0) (fun _ => 0) (fun _ => 0) 0 0 (fun _ => 0) (fun _ => 0)) hP hD [0] [] rfl rfl (by decide) (by decide) hk1 hFc hP1 hD1
  have hK := (hK.sub (tys' := []) [] rfl).app hK1
  clear hP hD
  subst hw
  generalize H1 = H at hP2 hS ⊢
  have hP : va_P D vwCl (wT ad dd (ct_n (ct_x0 L xs)) (fun _ => 0) (fun _ => 0) (fun _ => 0) (fun _ => 0) 0 0 (fun _ => 0) (fun _ => 0)) H := hP2
  have hD : va_D (fun q : Nat => s.heap.size ≤ q) (wT ad dd (ct_n (ct_x0 L xs)) (fun _ => 0) (fun _ => 0) (fun _ => 0) (fun _ => 0) 0 0 (fun _ => 0) (fun _ => 0)) := hD2
  have hK : va_K D vwCl (tyT dd) s := hK
  refine W.widen (k := 7) (n := 169) (by omega) (by omega) ?_
  refine lv_astore_n (lv' := [(1, .ref (ad 0)), (0, .ref b)]) hx hb dL_law_12 rfl hl (by decide) rfl (fun ls hl => ?_)
  refine va_new (ci := 1) (fs := [.int 0, .null]) (C := RX2) (T := TX2) (N := 2) hx hb hts in_X2 tyX2 tyX2_ok hown (hts _ q142) (hts _ q143) (hts _ q19) hK hP hD hS hA rfl (fun j hj => by rcases (show j = 0 ∨ j = 1 by omega) with rfl | rfl <;> rfl) (Nat.le_of_ble_eq_true rfl) (Nat.le_of_ble_eq_true rfl) dL_law_13 (fun q1 H hP hD hS => ?_)
  have hP : va_P D vwCl (wT ad dd (ct_n (ct_x0 L xs)) (fun _ => 0) (fun _ => 0) (fun _ => 0) (fun _ => 0) 0 0 (fun _ => 0) (fun _ => 0) ++ [(q1, .inr (1, [.int 0, .null]))]) H := hP
  have hD : va_D (fun q : Nat => s.heap.size ≤ q) (wT ad dd (ct_n (ct_x0 L xs)) (fun _ => 0) (fun _ => 0) (fun _ => 0) (fun _ => 0) 0 0 (fun _ => 0) (fun _ => 0) ++ [(q1, .inr (1, [.int 0, .null]))]) := hD
  refine W.widen (k := 8) (n := 171) (by omega) (by omega) ?_
  refine lv_dup hx hb dL_law_16 rfl ?_
  refine lv_aload_n hx hb dL_law_17 rfl (lv_at hl 1 rfl) ?_
  refine lv_iconst (v := nI 0) hx hb dL_law_18 (by decide) ?_
  refine lw_cell hL B hX hbl hP hS hl.1 (Nat.le_of_ble_eq_true rfl) dL_law_19 ⟨Nat.le_of_ble_eq_true rfl, Nat.le_of_ble_eq_true rfl⟩ (fun H locs hP hS => ?_)
  have hPc := hP.sub (ws' := [(q1, .inr (1, [.int 0, .null]))]) [7] rfl
  have hDc := hD.sub (ws' := [(q1, .inr (1, [.int 0, .null]))]) [7] (by decide) rfl
  have hKc := hK.sub (tys' := []) [] rfl
  have hFc := va_free (wc := [(q1, .inr (1, [.int 0, .null]))]) hD hS hA [7] rfl
  refine va_callv (va_runI (As := [.int (ct_x0 L xs)]) (rest := [.ref q1]) B (mM_init l D q1 (ct_x0 L xs) H.size) (cwI 1 hts (lw_meth q146) rfl rfl rfl (hts _ q19) (hts _ q144) (hts _ q145) rfl (by decide +kernel) ⟨Nat.le_of_ble_eq_true rfl, Nat.le_of_ble_eq_true rfl⟩) ⟨fun a U g mk q => by obtain ⟨q0, q1, qP, qK, qD⟩ := q; exact ⟨q0, q1, qP, va_K.moved (u := U) (U := U.calling g mk a) (Vm.Alike.refl U.vm) qK, qD⟩, fun U hU hW => ⟨rfl, by rw [hU], by rw [hU]; exact hPc, va_K.moved hW.alike hKc, hDc.weaken (fun _ _ _ _ => trivial)⟩⟩ rfl rfl hl.1 rfl (lv_room (Nat.le_of_ble_eq_true rfl)) dL_law_22 ⟨Nat.le_of_ble_eq_true rfl, Nat.le_of_ble_eq_true rfl⟩) hS (fun q _ h => hFc q h) hFc (fun u t H1 locs ht hvm hw hB hz1 hk1 hS => ?_)
  obtain ⟨ar, dA⟩ := u
  obtain ⟨hP1, hK1, hD1⟩ := hB
  rw [ht] at hP1
  have hK1 := va_K.moved hvm.symm hK1
  obtain ⟨hP, hD⟩ := va_join (wr := wT ad dd (ct_n (ct_x0 L xs)) (fun _ => 0) (fun _ => 0) (fun _ => 0) (fun _ => 0) 0 0 (fun _ => 0) (fun _ => 0)) (w1 := wM q1 ar dA (ct_n (ct_x0 L xs)) (fun _ => 0)) hP hD [7] [0, 1, 2, 3, 4, 5, 6] rfl rfl (by decide) (by decide) hk1 hFc hP1 hD1
  have hK := (hK.sub (tys' := tyT dd) [0, 1, 2, 3, 4, 5] rfl).app hK1
  generalize H1 = H at hP hS ⊢
  have hP : va_P D vwCl (wT ad dd (ct_n (ct_x0 L xs)) (fun _ => 0) (fun _ => 0) (fun _ => 0) (fun _ => 0) 0 0 (fun _ => 0) (fun _ => 0) ++ wM q1 ar dA (ct_n (ct_x0 L xs)) (fun _ => 0)) H := hP
  have hD : va_D (fun q : Nat => s.heap.size ≤ q) (wT ad dd (ct_n (ct_x0 L xs)) (fun _ => 0) (fun _ => 0) (fun _ => 0) (fun _ => 0) 0 0 (fun _ => 0) (fun _ => 0) ++ wM q1 ar dA (ct_n (ct_x0 L xs)) (fun _ => 0)) := hD
  have hK : va_K D vwCl (tyT dd ++ tyM dA) s := hK
  refine W.widen (k := 9) (n := 235) (by omega) (by omega) ?_
  refine lv_astore_n (lv' := [(2, .ref q1), (1, .ref (ad 0)), (0, .ref b)]) hx hb dL_law_25 rfl hl (by decide) rfl (fun ls hl => ?_)
  refine lv_iconst (v := nI 1) hx hb dL_law_26 (by decide) ?_
  refine lv_istore_n (lv' := [(3, .int (nI 1)), (2, .ref q1), (1, .ref (ad 0)), (0, .ref b)]) hx hb dL_law_27 rfl hl (by decide) rfl (fun ls hl => ?_)
  exact lw_loop hL (ct_n_rng _).2 (ct_n_rng _).1 B hr hlocks hX hbl hK (L + 8) 1 (by omega) (by omega) _ _ _ _ _ _ _ _ _ _ _ ct_G_0 (Or.inl rfl) hP hD hS (lv_sub hl [3, 2, 1, 0] rfl)
end
section
set_option maxHeartbeats 4000000 in
theorem lw_walk (l : Launch) (b : Addr) (xs : List Int32) : MetFree l x (headSpec (Jvm.Cond.code x code maxLocals ret :: tables_1) room_1) (lw_P b xs) (fun _ _ _ _ _ => True) lw_Q := by
  refine MetFree.of_bodyS (code := code) (maxLocals := maxLocals) (ret := ret) (by decide) ?_ ?_
  · intro args s m h hn
    obtain ⟨meth, c, h1, h2, h3, h4, h5, h6, -, -⟩ := Cond.code_spec hn (atoms_spec (ws := Jvm.Cond.code x code maxLocals ret :: tables_1) h _ List.mem_cons_self)
    exact ⟨meth, c, h1, h2, h3, h4, h5, h6⟩
  · intro p e s m args below meth c s₁ B hml0 hP _
    obtain ⟨rfl, hx, hbd, hgv⟩ := hP
    obtain ⟨scr, harrAt, hlist, hof, hsmall⟩ := hx
    obtain ⟨hcb, hkn, -, -⟩ := State.arrayAt?_spec harrAt
    have hown : s.vm.findClass R_law = some m.cls := findClass_of_methodNamed B.named
    have hts0 : ∀ c ∈ (Jvm.Cond.code x code maxLocals ret :: tables_1), c.before #[Value.ref b] s = true := atoms_spec (ws := Jvm.Cond.code x code maxLocals ret :: tables_1) B.pre
    have hts : ∀ w ∈ lw_tbl, w.before #[Value.ref b] s = true := k2_hts_sels lw_privs (fun w hw => hts0 w (List.mem_cons_of_mem _ hw)) lw_privs_ok
    have hml : c.maxLocals = 4 := B.maxLocals_eq (hts0 _ List.mem_cons_self)
    have X₀ : Stand p l e room_1 s m #[Value.ref b] below meth c s₁ [] 0 0 := Stand.of_body B
    have hh0 : s₁.heap = s.heap := by rw [B.state]; rfl
    have hsz : scr.slots.size = xs.length := by rw [← Array.length_toList, hlist, List.length_map]
    have hval : ∀ j : Nat, j < xs.length → scr.slots[j]? = some (.int (xs.getD j 0)) := fun j hj => by
      rw [← Array.getElem?_toList, hlist]
      simp [hj]
    have hbl : b < s.heap.size := (Array.getElem?_eq_some_iff.mp hcb).1
    have hX : va_X b xs.length (fun j => xs.getD j 0) s s.heap := ⟨scr, hcb, hof, hkn, hsz, hval⟩
    have K : W p l e room_1 s m #[Value.ref b] below meth c s₁.heap [] 0 0 (lw_Z below #[Value.ref b] s) (entryFrame m ([Value.ref b] : List Value).toArray 4) := by
      rw [hh0]
      exact whole_start l hbd ⟨B.exec, B.bytes, B.returns, hml, hown, hts, hX, hbl, B.notSynchronized, hgv⟩
    obtain ⟨t, a1, o, b1, b2, b3⟩ := K s₁ rfl X₀
    exact ⟨t, o, a1, b1, b2, b3⟩
theorem lw_pre_spec {args : Array Value} {s : State} (h : (Jvm.Cond.and given_1 narrow_1).before args s = true) (hr : rest_1_c.before args s = true) : ∃ (b : Addr) (xs : List Int32), lw_P b xs args s := by
  have hs := flat_of_before _ h
  have hq := flat_of_before _ hr
  have hc : (Cond.count 1).before args s = true := hs _ (by decide +kernel)
  have harr : (Cond.arrayOf (.arg 0) .int).before args s = true := hs _ (by decide +kernel)
  have hle : (Cond.le (.length (.arg 0)) (.int 257)).before args s = true := hs _ (by decide +kernel)
  have hlen : (Cond.isInt (.length (.arg 0))).before args s = true := hq _ (by decide +kernel)
  have hall : (Cond.all (.arg 0) (.isInt (.elem (.arg 0) (.index 0)))).before args s = true := hq _ (by decide +kernel)
  obtain ⟨b, xs, hb, hx⟩ := State.ints_of_pre rfl harr hlen hall
  have hsm : xs.length < 2 ^ 31 := hx.choose_spec.2.2.2
  have hev : (Term.length (.arg 0)).eval args s none [] s = some (.int xs.length.toInt32) := hx.length_eval hb
  have hv := Cond.le_ints hev (show (Term.int 257).eval args s none [] s = some (.int 257) from rfl)
  have hd : xs.length.toInt32 ≤ 257 := by
    simpa [Cond.before, Cond.holds, hv] using hle
  have hN : xs.length ≤ 257 := (Int32.ofNat_le_ofNat hsm (by decide)).mp (show Int32.ofNat xs.length ≤ Int32.ofNat 257 from hd)
  exact ⟨b, xs, Cond.one_arg hc (show args[0]? = some (.ref b) from hb), hx, hN, h⟩
theorem lw_comes (l : Launch) : Comes l x (Jvm.Cond.code x code maxLocals ret :: tables_1) room_1 (fun tb e args s => Calls_1 tb e args s ∧ rest_1 tb e args s ∧ Pre_1 tb e args s)
    (fun _ _ args s o t => lw_Q args s o t) := by
  intro p e ha hc hk s m args below hf hfit hheap happ hpre
  obtain ⟨b, xs, hP⟩ := lw_pre_spec hpre.2.2 hpre.2.1
  obtain ⟨k, o, h1, h2, h3, hQ⟩ := lw_walk l b xs p e ha hc hk s m args below hf ((Spec.applies_iff_loose hf).mp happ).1 hP trivial
  exact ⟨k, o, h1, h2, h3, hQ⟩
theorem lw_frame {s t : State} {o : Outcome} {args : Array Value} (h : Framed s o t [] 600000 7290000) :
    Framed s o t (fieldLocs frame_1_writes args s ++ arrayLocs frame_1_arrays args s ++ staticLocs frame_1_statics s) 600000 7290000 := h
theorem lw_limb (L : Cond) (hL : ∀ (args : Array Value) (s t : State), L.after args s (.returned (some (.int 1))) t = true) :
    ArmFor flags0 classFile x code maxLocals ret World_1 tables_1 room_1 Calls_1 rest_1 Pre_1
      (fun tb e a s o t => postC L tb e a s o t ∧ Framed s o t (fieldLocs frame_1_writes a s ++ arrayLocs frame_1_arrays a s ++ staticLocs frame_1_statics s) 600000 7290000) := by
  intro l _ _ _ p e ha hc hk s m args below hf hfit hheap happ hpre
  obtain ⟨k, o, h1, h2, h3, rfl, hF⟩ := lw_comes l p e ha hc hk s m args below hf hfit hheap happ hpre
  exact ⟨k, _, h1, h2, h3, hL args s _, lw_frame hF⟩
theorem i_vc : Claimed_1_1 ∧ Claimed_1_2 := ⟨lw_limb limb_1_1 (fun args s t => by simp [limb_1_1, Cond.after, Cond.holds, Cond.value]), lw_limb limb_1_2 (fun args s t => Cond.after_iff.mpr (by
  first | (rw [show limb_1_2 = Cond.eq .result (.int 1) from rfl, Cond.eq_ints (x := 1) (y := 1) rfl rfl]; simp; done) | (simp [limb_1_2, Cond.value, Term.eval]; done)))⟩
end
