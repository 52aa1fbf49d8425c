section
/-- a private method of a class that the tables say can be made, by its rows of tables_1 -/
def lw_okq (q : MethodName × Nat) : Prop := (q.1.cls ≠ "java/lang/invoke/MethodHandle" ∧ q.1.cls ≠ "java/lang/invoke/VarHandle") ∧ Cond.instantiable q.1.cls q.2 ∈ tables_1 ∧ Cond.privateMethod q.1 ∈ tables_1 ∧ Cond.instanceMethod q.1 ∈ tables_1
set_option maxRecDepth 100000
theorem lw_t1 {w : Cond} (h : w ∈ tables_1_1) : w ∈ tables_1 := List.mem_append_left _ h
theorem lw_t2 {w : Cond} (h : w ∈ tables_1_2) : w ∈ tables_1 := List.mem_append_right _ h
theorem lw_p0 : lw_okq (⟨"PastMonitor", "attach", "(I)V"⟩, 18) := ⟨⟨by decide +kernel, by decide +kernel⟩, lw_t1 (List.mem_of_getElem? (i := 4) rfl), lw_t1 (List.mem_of_getElem? (i := 79) rfl), lw_t1 (List.mem_of_getElem? (i := 80) rfl)⟩
theorem lw_p1 : lw_okq (⟨"PastMonitor", "judge", "()Z"⟩, 18) := ⟨⟨by decide +kernel, by decide +kernel⟩, lw_t1 (List.mem_of_getElem? (i := 4) rfl), lw_t1 (List.mem_of_getElem? (i := 119) rfl), lw_t1 (List.mem_of_getElem? (i := 120) rfl)⟩
theorem lw_p2 : lw_okq (⟨"PastMonitor", "begin", "()V"⟩, 18) := ⟨⟨by decide +kernel, by decide +kernel⟩, lw_t1 (List.mem_of_getElem? (i := 4) rfl), lw_t1 (List.mem_of_getElem? (i := 123) rfl), lw_t1 (List.mem_of_getElem? (i := 124) rfl)⟩
theorem lw_p3 : lw_okq (⟨"PastMonitor", "step", "(II)Z"⟩, 18) := ⟨⟨by decide +kernel, by decide +kernel⟩, lw_t1 (List.mem_of_getElem? (i := 4) rfl), lw_t1 (List.mem_of_getElem? (i := 127) rfl), lw_t1 (List.mem_of_getElem? (i := 128) rfl)⟩
theorem lw_p4 : lw_okq (⟨"PastMonitor", "partAt", "(III)Z"⟩, 18) := ⟨⟨by decide +kernel, by decide +kernel⟩, lw_t1 (List.mem_of_getElem? (i := 4) rfl), lw_t1 (List.mem_of_getElem? (i := 131) rfl), lw_t1 (List.mem_of_getElem? (i := 132) rfl)⟩
theorem lw_p5 : lw_okq (⟨"PastMonitor", "remembering", "(IZI)Z"⟩, 18) := ⟨⟨by decide +kernel, by decide +kernel⟩, lw_t1 (List.mem_of_getElem? (i := 4) rfl), lw_t1 (List.mem_of_getElem? (i := 135) rfl), lw_t1 (List.mem_of_getElem? (i := 136) rfl)⟩
theorem lw_p6 : lw_okq (⟨"PastMonitor", "wasTrue", "(I)Z"⟩, 18) := ⟨⟨by decide +kernel, by decide +kernel⟩, lw_t1 (List.mem_of_getElem? (i := 4) rfl), lw_t1 (List.mem_of_getElem? (i := 140) rfl), lw_t1 (List.mem_of_getElem? (i := 141) rfl)⟩
theorem lw_p7 : lw_okq (⟨"PastMonitor", "imagine", "(I)Z"⟩, 18) := ⟨⟨by decide +kernel, by decide +kernel⟩, lw_t1 (List.mem_of_getElem? (i := 4) rfl), lw_t1 (List.mem_of_getElem? (i := 161) rfl), lw_t1 (List.mem_of_getElem? (i := 162) rfl)⟩
theorem lw_p8 : lw_okq (⟨"PastMonitorModel", "work", "(I)V"⟩, 7) := ⟨⟨by decide +kernel, by decide +kernel⟩, lw_t1 (List.mem_of_getElem? (i := 173) rfl), lw_t2 (List.mem_of_getElem? (i := 3) rfl), lw_t2 (List.mem_of_getElem? (i := 4) rfl)⟩
theorem lw_p9 : lw_okq (⟨"PastMonitorModel", "truth", "(IIII)Z"⟩, 7) := ⟨⟨by decide +kernel, by decide +kernel⟩, lw_t1 (List.mem_of_getElem? (i := 173) rfl), lw_t2 (List.mem_of_getElem? (i := 7) rfl), lw_t2 (List.mem_of_getElem? (i := 8) rfl)⟩
theorem lw_p10 : lw_okq (⟨"PastMonitorModel", "since", "(III)Z"⟩, 7) := ⟨⟨by decide +kernel, by decide +kernel⟩, lw_t1 (List.mem_of_getElem? (i := 173) rfl), lw_t2 (List.mem_of_getElem? (i := 11) rfl), lw_t2 (List.mem_of_getElem? (i := 12) rfl)⟩
theorem lw_p11 : lw_okq (⟨"PastMonitorModel", "during", "(IIIZ)Z"⟩, 7) := ⟨⟨by decide +kernel, by decide +kernel⟩, lw_t1 (List.mem_of_getElem? (i := 173) rfl), lw_t2 (List.mem_of_getElem? (i := 15) rfl), lw_t2 (List.mem_of_getElem? (i := 16) rfl)⟩
def lw_privs_1 : List (MethodName × Nat) := [(⟨"PastMonitor", "attach", "(I)V"⟩, 18), (⟨"PastMonitor", "judge", "()Z"⟩, 18), (⟨"PastMonitor", "begin", "()V"⟩, 18), (⟨"PastMonitor", "step", "(II)Z"⟩, 18), (⟨"PastMonitor", "partAt", "(III)Z"⟩, 18), (⟨"PastMonitor", "remembering", "(IZI)Z"⟩, 18), (⟨"PastMonitor", "wasTrue", "(I)Z"⟩, 18), (⟨"PastMonitor", "imagine", "(I)Z"⟩, 18), (⟨"PastMonitorModel", "work", "(I)V"⟩, 7), (⟨"PastMonitorModel", "truth", "(IIII)Z"⟩, 7), (⟨"PastMonitorModel", "since", "(III)Z"⟩, 7), (⟨"PastMonitorModel", "during", "(IIIZ)Z"⟩, 7)]
theorem lw_r1 : ∀ q ∈ lw_privs_1, lw_okq q := List.forall_mem_cons.mpr ⟨lw_p0, List.forall_mem_cons.mpr ⟨lw_p1, List.forall_mem_cons.mpr ⟨lw_p2, List.forall_mem_cons.mpr ⟨lw_p3, List.forall_mem_cons.mpr ⟨lw_p4, List.forall_mem_cons.mpr ⟨lw_p5, List.forall_mem_cons.mpr ⟨lw_p6, List.forall_mem_cons.mpr ⟨lw_p7, List.forall_mem_cons.mpr ⟨lw_p8, List.forall_mem_cons.mpr ⟨lw_p9, List.forall_mem_cons.mpr ⟨lw_p10, List.forall_mem_cons.mpr ⟨lw_p11, fun _ h => absurd h List.not_mem_nil⟩⟩⟩⟩⟩⟩⟩⟩⟩⟩⟩⟩
def lw_privs : List (MethodName × Nat) := lw_privs_1
def lw_tbl : List Cond := k2_sels lw_privs ++ tables_1
theorem lw_privs_ok : ∀ q ∈ lw_privs, lw_okq q := lw_r1
-- ===== ONE list of words for every method: the tables' words that hold all through a run =====
def lw_all : List Cond := lw_tbl.filter goodWord
/-- a word of the tables by its place: claim/WORDS.tsv -/
theorem lw_w {w : Cond} (i : Nat) (h : lw_tbl[i]? = some w) (g : goodWord w = true) : w ∈ lw_all := List.mem_filter.mpr ⟨List.mem_of_getElem? h, g⟩
theorem lw_all_tbl {w : Cond} (h : w ∈ lw_all) : w ∈ lw_tbl := (List.mem_filter.mp h).1
theorem lw_self : GoodIn lw_all lw_all := fun w h => ⟨h, good_of_word (List.mem_filter.mp h).2⟩
/-- a class's field words, by their places -/
theorem lw_in (ws : List Cond) (ps : List Nat) (hp : ws = ps.filterMap (fun i => lw_tbl[i]?)) (hg : ws.all goodWord = true) : ∀ w ∈ ws, w ∈ lw_all := by
  intro w h
  have h1 := List.all_eq_true.mp hg w h
  rw [hp] at h
  obtain ⟨i, -, hi⟩ := List.mem_filterMap.mp h
  exact lw_w i hi h1
/-- the words of a contract for the method y with code b, L locals, answer r -/
abbrev ws_ (y : MethodName) (b : ByteArray) (L : Nat) (r : Option FieldType) : List Cond := Cond.code y b L r :: lw_all
theorem lw_meth {y : MethodName} {b : ByteArray} {L : Nat} {r : Option FieldType} (h : Cond.code y b L r ∈ lw_all) : GoodIn lw_all (ws_ y b L r) := by
  intro w hw
  rcases List.mem_cons.mp hw with e | e
  · rw [e]
    exact lw_self _ h
  · exact lw_self _ e
theorem lw_app {a c : List Cond} (ha : ∀ w ∈ a, w ∈ lw_all) (hc : GoodIn lw_all c) : GoodIn lw_all (a ++ c) := by
  intro w hw
  rcases List.mem_append.mp hw with e | e
  · exact lw_self w (ha w e)
  · exact hc w e
/-- what a call through an object asks: cwV n hts (lw_V ..) -/
theorem lw_V {own : String} {idx : Nat} {C : String} {y : MethodName} {b : ByteArray} {L : Nat} {r : Option FieldType} (h1 : Cond.methodLink own idx y ∈ lw_all) (h2 : Cond.instanceMethod y ∈ lw_all) (h3 : Cond.selects C y y ∈ lw_all) (h4 : Cond.initialized C ∈ lw_all) (h5 : Cond.code y b L r ∈ lw_all) : GoodIn lw_all (wsV own idx C y (ws_ y b L r)) := by
  refine lw_app ?_ (lw_meth h5)
  intro w hw
  simp only [List.mem_cons, List.not_mem_nil, or_false] at hw
  rcases hw with e | e | e | e
  · rw [e]; exact h1
  · rw [e]; exact h2
  · rw [e]; exact h3
  · rw [e]; exact h4
/-- what a static call asks: va_cwS n hts (lw_S ..) -/
theorem lw_S {own : String} {idx : Nat} {y : MethodName} {b : ByteArray} {L : Nat} {r : Option FieldType} (h1 : Cond.methodLink own idx y ∈ lw_all) (h2 : Cond.static y ∈ lw_all) (h3 : Cond.initialized y.cls ∈ lw_all) (h4 : Cond.code y b L r ∈ lw_all) : GoodIn lw_all (va_wsS own idx y (ws_ y b L r)) := by
  refine lw_app ?_ (lw_meth h4)
  intro w hw
  simp only [List.mem_cons, List.not_mem_nil, or_false] at hw
  rcases hw with e | e | e
  · rw [e]; exact h1
  · rw [e]; exact h2
  · rw [e]; exact h3
/-- the words of a contract for a method WITH HANDLERS (hh: its table) -/
abbrev wsW_ (y : MethodName) (b : ByteArray) (L : Nat) (r : Option FieldType) (hh : List (Nat × Nat × Nat × Nat)) : List Cond := Cond.codeWith y b L r hh :: lw_all
theorem lw_methW {y : MethodName} {b : ByteArray} {L : Nat} {r : Option FieldType} {hh : List (Nat × Nat × Nat × Nat)} (h : Cond.codeWith y b L r hh ∈ lw_all) : GoodIn lw_all (wsW_ y b L r hh) := by
  intro w hw
  rcases List.mem_cons.mp hw with e | e
  · rw [e]
    exact lw_self _ h
  · exact lw_self _ e
/-- any list of words by their places (lw_in), good -/
theorem lw_good {ws : List Cond} (h : ∀ w ∈ ws, w ∈ lw_all) : GoodIn lw_all ws := fun w hw => lw_self w (h w hw)
/-- what a call of a method with handlers asks: vx_cwVW n hts (lw_VW ..), vx_cwSW n hts (lw_SW ..) -/
theorem lw_VW {own : String} {idx : Nat} {C : String} {y : MethodName} {b : ByteArray} {L : Nat} {r : Option FieldType} {hh : List (Nat × Nat × Nat × Nat)} (h1 : Cond.methodLink own idx y ∈ lw_all) (h2 : Cond.instanceMethod y ∈ lw_all) (h3 : Cond.selects C y y ∈ lw_all) (h4 : Cond.initialized C ∈ lw_all) (h5 : Cond.codeWith y b L r hh ∈ lw_all) : GoodIn lw_all (wsV own idx C y (wsW_ y b L r hh)) := by
  refine lw_app ?_ (lw_methW h5)
  intro w hw
  simp only [List.mem_cons, List.not_mem_nil, or_false] at hw
  rcases hw with e | e | e | e
  · rw [e]; exact h1
  · rw [e]; exact h2
  · rw [e]; exact h3
  · rw [e]; exact h4
theorem lw_SW {own : String} {idx : Nat} {y : MethodName} {b : ByteArray} {L : Nat} {r : Option FieldType} {hh : List (Nat × Nat × Nat × Nat)} (h1 : Cond.methodLink own idx y ∈ lw_all) (h2 : Cond.static y ∈ lw_all) (h3 : Cond.initialized y.cls ∈ lw_all) (h4 : Cond.codeWith y b L r hh ∈ lw_all) : GoodIn lw_all (va_wsS own idx y (wsW_ y b L r hh)) := by
  refine lw_app ?_ (lw_methW h4)
  intro w hw
  simp only [List.mem_cons, List.not_mem_nil, or_false] at hw
  rcases hw with e | e | e
  · rw [e]; exact h1
  · rw [e]; exact h2
  · rw [e]; exact h3
/-- a word by its place in its run of the tables -/
theorem lw_at {r : List Cond} (hr : ∀ w ∈ r, w ∈ lw_tbl) {w : Cond} (i : Nat) (h : r[i]? = some w) : w ∈ lw_tbl := hr w (List.mem_of_getElem? h)
theorem lw_g {w : Cond} (h : w ∈ lw_tbl) (g : goodWord w = true) : w ∈ lw_all := List.mem_filter.mpr ⟨h, g⟩
theorem lw_ms : ∀ w ∈ k2_sels lw_privs, w ∈ lw_tbl := fun w h => show w ∈ k2_sels lw_privs ++ tables_1 from List.mem_append_left _ h
theorem lw_m1 : ∀ w ∈ tables_1_1, w ∈ lw_tbl := fun w h => show w ∈ k2_sels lw_privs ++ tables_1 from List.mem_append_right (k2_sels lw_privs) (show w ∈ tables_1 from List.mem_append_left _ h)
theorem lw_m2 : ∀ w ∈ tables_1_2, w ∈ lw_tbl := fun w h => show w ∈ k2_sels lw_privs ++ tables_1 from List.mem_append_right (k2_sels lw_privs) (show w ∈ tables_1 from List.mem_append_right _ h)
theorem qs0 : (Cond.selects "PastMonitor" ⟨"PastMonitor", "attach", "(I)V"⟩ ⟨"PastMonitor", "attach", "(I)V"⟩) ∈ lw_all := lw_g (lw_at lw_ms 0 rfl) rfl
theorem qs1 : (Cond.selects "PastMonitor" ⟨"PastMonitor", "judge", "()Z"⟩ ⟨"PastMonitor", "judge", "()Z"⟩) ∈ lw_all := lw_g (lw_at lw_ms 1 rfl) rfl
theorem qs2 : (Cond.selects "PastMonitor" ⟨"PastMonitor", "begin", "()V"⟩ ⟨"PastMonitor", "begin", "()V"⟩) ∈ lw_all := lw_g (lw_at lw_ms 2 rfl) rfl
theorem qs3 : (Cond.selects "PastMonitor" ⟨"PastMonitor", "step", "(II)Z"⟩ ⟨"PastMonitor", "step", "(II)Z"⟩) ∈ lw_all := lw_g (lw_at lw_ms 3 rfl) rfl
theorem qs4 : (Cond.selects "PastMonitor" ⟨"PastMonitor", "partAt", "(III)Z"⟩ ⟨"PastMonitor", "partAt", "(III)Z"⟩) ∈ lw_all := lw_g (lw_at lw_ms 4 rfl) rfl
theorem qs5 : (Cond.selects "PastMonitor" ⟨"PastMonitor", "remembering", "(IZI)Z"⟩ ⟨"PastMonitor", "remembering", "(IZI)Z"⟩) ∈ lw_all := lw_g (lw_at lw_ms 5 rfl) rfl
theorem qs6 : (Cond.selects "PastMonitor" ⟨"PastMonitor", "wasTrue", "(I)Z"⟩ ⟨"PastMonitor", "wasTrue", "(I)Z"⟩) ∈ lw_all := lw_g (lw_at lw_ms 6 rfl) rfl
theorem qs7 : (Cond.selects "PastMonitor" ⟨"PastMonitor", "imagine", "(I)Z"⟩ ⟨"PastMonitor", "imagine", "(I)Z"⟩) ∈ lw_all := lw_g (lw_at lw_ms 7 rfl) rfl
theorem qs8 : (Cond.selects "PastMonitorModel" ⟨"PastMonitorModel", "work", "(I)V"⟩ ⟨"PastMonitorModel", "work", "(I)V"⟩) ∈ lw_all := lw_g (lw_at lw_ms 8 rfl) rfl
theorem qs9 : (Cond.selects "PastMonitorModel" ⟨"PastMonitorModel", "truth", "(IIII)Z"⟩ ⟨"PastMonitorModel", "truth", "(IIII)Z"⟩) ∈ lw_all := lw_g (lw_at lw_ms 9 rfl) rfl
theorem qs10 : (Cond.selects "PastMonitorModel" ⟨"PastMonitorModel", "since", "(III)Z"⟩ ⟨"PastMonitorModel", "since", "(III)Z"⟩) ∈ lw_all := lw_g (lw_at lw_ms 10 rfl) rfl
theorem qs11 : (Cond.selects "PastMonitorModel" ⟨"PastMonitorModel", "during", "(IIIZ)Z"⟩ ⟨"PastMonitorModel", "during", "(IIIZ)Z"⟩) ∈ lw_all := lw_g (lw_at lw_ms 11 rfl) rfl
end
section
set_option maxRecDepth 100000
/-! java/lang/Object -/
def RJ0 : String := "java/lang/Object"
abbrev cJ0_init : ByteArray := object_method_1_code
def yJ0_init : MethodName := ⟨RJ0, "<init>", "()V"⟩
theorem q21 : (Jvm.Cond.instanceMethod ({ cls := "java/lang/Object", name := "<init>", desc := "()V" } : Jvm.MethodName)) ∈ lw_all := lw_g (lw_at lw_m1 9 rfl) rfl
theorem q22 : (Jvm.Cond.code ({ cls := "java/lang/Object", name := "<init>", desc := "()V" } : Jvm.MethodName) object_method_1_code (1 : Nat) (Option.none : Option Jvm.ClassFile.FieldType)) ∈ lw_all := lw_g (lw_at lw_m1 10 rfl) rfl
/-! PastMonitorLaw -/
def RX0 : String := "PastMonitorLaw"
abbrev cX0_cell : ByteArray := method_2_code
def yX0_cell : MethodName := ⟨RX0, "cell", "([II)I"⟩
theorem q12 : (Jvm.Cond.initialized "PastMonitorLaw") ∈ lw_all := lw_g (lw_at lw_m1 0 rfl) rfl
theorem q15 : (Jvm.Cond.classLink "PastMonitorLaw" (7 : Nat) "PastMonitor") ∈ lw_all := lw_g (lw_at lw_m1 3 rfl) rfl
theorem q17 : (Jvm.Cond.methodLink "PastMonitorLaw" (15 : Nat) ({ cls := "PastMonitor", name := "<init>", desc := "(I)V" } : Jvm.MethodName)) ∈ lw_all := lw_g (lw_at lw_m1 5 rfl) rfl
theorem q82 : (Jvm.Cond.methodLink "PastMonitorLaw" (21 : Nat) ({ cls := "PastMonitor", name := "feed", desc := "(I)I" } : Jvm.MethodName)) ∈ lw_all := lw_g (lw_at lw_m1 70 rfl) rfl
theorem q97 : (Jvm.Cond.methodLink "PastMonitorLaw" (26 : Nat) ({ cls := "PastMonitor", name := "back", desc := "()I" } : Jvm.MethodName)) ∈ lw_all := lw_g (lw_at lw_m1 85 rfl) rfl
theorem q101 : (Jvm.Cond.methodLink "PastMonitorLaw" (31 : Nat) ({ cls := "PastMonitor", name := "complete", desc := "()Z" } : Jvm.MethodName)) ∈ lw_all := lw_g (lw_at lw_m1 89 rfl) rfl
theorem q102 : (Jvm.Cond.methodLink "PastMonitorLaw" (36 : Nat) ({ cls := "PastMonitor", name := "window", desc := "()I" } : Jvm.MethodName)) ∈ lw_all := lw_g (lw_at lw_m1 90 rfl) rfl
theorem q106 : (Jvm.Cond.methodLink "PastMonitorLaw" (40 : Nat) ({ cls := "PastMonitor", name := "event", desc := "(I)I" } : Jvm.MethodName)) ∈ lw_all := lw_g (lw_at lw_m1 94 rfl) rfl
theorem q110 : (Jvm.Cond.methodLink "PastMonitorLaw" (44 : Nat) ({ cls := "PastMonitor", name := "undo", desc := "()I" } : Jvm.MethodName)) ∈ lw_all := lw_g (lw_at lw_m1 98 rfl) rfl
theorem q114 : (Jvm.Cond.methodLink "PastMonitorLaw" (48 : Nat) ({ cls := "PastMonitor", name := "restart", desc := "()V" } : Jvm.MethodName)) ∈ lw_all := lw_g (lw_at lw_m1 102 rfl) rfl
theorem q118 : (Jvm.Cond.methodLink "PastMonitorLaw" (52 : Nat) ({ cls := "PastMonitor", name := "events", desc := "()I" } : Jvm.MethodName)) ∈ lw_all := lw_g (lw_at lw_m1 106 rfl) rfl
theorem q122 : (Jvm.Cond.methodLink "PastMonitorLaw" (56 : Nat) ({ cls := "PastMonitor", name := "now", desc := "()Z" } : Jvm.MethodName)) ∈ lw_all := lw_g (lw_at lw_m1 110 rfl) rfl
theorem q155 : (Jvm.Cond.methodLink "PastMonitorLaw" (60 : Nat) ({ cls := "PastMonitor", name := "at", desc := "(I)Z" } : Jvm.MethodName)) ∈ lw_all := lw_g (lw_at lw_m1 143 rfl) rfl
theorem q156 : (Jvm.Cond.methodLink "PastMonitorLaw" (65 : Nat) ({ cls := "PastMonitor", name := "count", desc := "()I" } : Jvm.MethodName)) ∈ lw_all := lw_g (lw_at lw_m1 144 rfl) rfl
theorem q160 : (Jvm.Cond.methodLink "PastMonitorLaw" (69 : Nat) ({ cls := "PastMonitor", name := "violation", desc := "(I)I" } : Jvm.MethodName)) ∈ lw_all := lw_g (lw_at lw_m1 148 rfl) rfl
theorem q164 : (Jvm.Cond.methodLink "PastMonitorLaw" (73 : Nat) ({ cls := "PastMonitor", name := "streak", desc := "()I" } : Jvm.MethodName)) ∈ lw_all := lw_g (lw_at lw_m1 152 rfl) rfl
theorem q168 : (Jvm.Cond.methodLink "PastMonitorLaw" (77 : Nat) ({ cls := "PastMonitor", name := "wouldHold", desc := "(I)Z" } : Jvm.MethodName)) ∈ lw_all := lw_g (lw_at lw_m1 156 rfl) rfl
theorem q176 : (Jvm.Cond.methodLink "PastMonitorLaw" (81 : Nat) ({ cls := "PastMonitor", name := "allowed", desc := "()I" } : Jvm.MethodName)) ∈ lw_all := lw_g (lw_at lw_m1 164 rfl) rfl
theorem q181 : (Jvm.Cond.methodLink "PastMonitorLaw" (9 : Nat) ({ cls := "PastMonitorLaw", name := "cell", desc := "([II)I" } : Jvm.MethodName)) ∈ lw_all := lw_g (lw_at lw_m1 169 rfl) rfl
theorem q182 : (Jvm.Cond.static ({ cls := "PastMonitorLaw", name := "cell", desc := "([II)I" } : Jvm.MethodName)) ∈ lw_all := lw_g (lw_at lw_m1 170 rfl) rfl
theorem q183 : (Jvm.Cond.code ({ cls := "PastMonitorLaw", name := "cell", desc := "([II)I" } : Jvm.MethodName) method_2_code (2 : Nat) (Option.some Jvm.ClassFile.FieldType.int)) ∈ lw_all := lw_g (lw_at lw_m1 171 rfl) rfl
theorem q184 : (Jvm.Cond.classLink "PastMonitorLaw" (18 : Nat) "PastMonitorModel") ∈ lw_all := lw_g (lw_at lw_m1 172 rfl) rfl
theorem q186 : (Jvm.Cond.methodLink "PastMonitorLaw" (20 : Nat) ({ cls := "PastMonitorModel", name := "<init>", desc := "(I)V" } : Jvm.MethodName)) ∈ lw_all := lw_g (lw_at lw_m1 174 rfl) rfl
theorem q213 : (Jvm.Cond.methodLink "PastMonitorLaw" (25 : Nat) ({ cls := "PastMonitorModel", name := "feed", desc := "(I)I" } : Jvm.MethodName)) ∈ lw_all := lw_g (lw_at lw_m1 201 rfl) rfl
theorem q221 : (Jvm.Cond.methodLink "PastMonitorLaw" (30 : Nat) ({ cls := "PastMonitorModel", name := "back", desc := "()I" } : Jvm.MethodName)) ∈ lw_all := lw_g (lw_at lw_m1 209 rfl) rfl
theorem q225 : (Jvm.Cond.methodLink "PastMonitorLaw" (35 : Nat) ({ cls := "PastMonitorModel", name := "complete", desc := "()Z" } : Jvm.MethodName)) ∈ lw_all := lw_g (lw_at lw_m1 213 rfl) rfl
theorem q226 : (Jvm.Cond.methodLink "PastMonitorLaw" (39 : Nat) ({ cls := "PastMonitorModel", name := "window", desc := "()I" } : Jvm.MethodName)) ∈ lw_all := lw_g (lw_at lw_m1 214 rfl) rfl
theorem q230 : (Jvm.Cond.methodLink "PastMonitorLaw" (43 : Nat) ({ cls := "PastMonitorModel", name := "event", desc := "(I)I" } : Jvm.MethodName)) ∈ lw_all := lw_g (lw_at lw_m1 218 rfl) rfl
theorem q234 : (Jvm.Cond.methodLink "PastMonitorLaw" (47 : Nat) ({ cls := "PastMonitorModel", name := "undo", desc := "()I" } : Jvm.MethodName)) ∈ lw_all := lw_g (lw_at lw_m1 222 rfl) rfl
theorem q238 : (Jvm.Cond.methodLink "PastMonitorLaw" (51 : Nat) ({ cls := "PastMonitorModel", name := "restart", desc := "()V" } : Jvm.MethodName)) ∈ lw_all := lw_g (lw_at lw_m1 226 rfl) rfl
theorem q242 : (Jvm.Cond.methodLink "PastMonitorLaw" (55 : Nat) ({ cls := "PastMonitorModel", name := "events", desc := "()I" } : Jvm.MethodName)) ∈ lw_all := lw_g (lw_at lw_m1 230 rfl) rfl
theorem q246 : (Jvm.Cond.methodLink "PastMonitorLaw" (59 : Nat) ({ cls := "PastMonitorModel", name := "now", desc := "()Z" } : Jvm.MethodName)) ∈ lw_all := lw_g (lw_at lw_m1 234 rfl) rfl
theorem q270 : (Jvm.Cond.methodLink "PastMonitorLaw" (64 : Nat) ({ cls := "PastMonitorModel", name := "at", desc := "(I)Z" } : Jvm.MethodName)) ∈ lw_all := lw_g (lw_at lw_m2 18 rfl) rfl
theorem q271 : (Jvm.Cond.methodLink "PastMonitorLaw" (68 : Nat) ({ cls := "PastMonitorModel", name := "count", desc := "()I" } : Jvm.MethodName)) ∈ lw_all := lw_g (lw_at lw_m2 19 rfl) rfl
theorem q275 : (Jvm.Cond.methodLink "PastMonitorLaw" (72 : Nat) ({ cls := "PastMonitorModel", name := "violation", desc := "(I)I" } : Jvm.MethodName)) ∈ lw_all := lw_g (lw_at lw_m2 23 rfl) rfl
theorem q279 : (Jvm.Cond.methodLink "PastMonitorLaw" (76 : Nat) ({ cls := "PastMonitorModel", name := "streak", desc := "()I" } : Jvm.MethodName)) ∈ lw_all := lw_g (lw_at lw_m2 27 rfl) rfl
theorem q283 : (Jvm.Cond.methodLink "PastMonitorLaw" (80 : Nat) ({ cls := "PastMonitorModel", name := "wouldHold", desc := "(I)Z" } : Jvm.MethodName)) ∈ lw_all := lw_g (lw_at lw_m2 31 rfl) rfl
theorem q287 : (Jvm.Cond.methodLink "PastMonitorLaw" (84 : Nat) ({ cls := "PastMonitorModel", name := "allowed", desc := "()I" } : Jvm.MethodName)) ∈ lw_all := lw_g (lw_at lw_m2 35 rfl) rfl
/-! PastMonitor -/
def RX1 : String := "PastMonitor"
def TX1 : u_T := fun k => match k with
  | 0 => ("PastMonitor", "width", "I", true)
  | 1 => ("PastMonitor", "tokens", "[B", true)
  | 2 => ("PastMonitor", "size", "I", false)
  | 3 => ("PastMonitor", "second", "[B", true)
  | 4 => ("PastMonitor", "openToken", "[B", true)
  | 5 => ("PastMonitor", "openWant", "[B", true)
  | 6 => ("PastMonitor", "openCount", "I", false)
  | 7 => ("PastMonitor", "facts", "[B", true)
  | 8 => ("PastMonitor", "count", "I", false)
  | 9 => ("PastMonitor", "judged", "I", false)
  | 10 => ("PastMonitor", "trueAt", "[J", true)
  | 11 => ("PastMonitor", "value", "[Z", true)
  | 12 => ("PastMonitor", "valueBefore", "[Z", true)
  | 13 => ("PastMonitor", "memory", "[Z", true)
  | 14 => ("PastMonitor", "lastSeen", "[S", true)
  | 15 => ("PastMonitor", "savedValue", "[Z", true)
  | 16 => ("PastMonitor", "savedMemory", "[Z", true)
  | _ => ("PastMonitor", "savedSeen", "[S", true)
def tyX1 : Nat → FieldType := fun k => match k with
  | 0 => .int
  | 1 => .array .byte
  | 2 => .int
  | 3 => .array .byte
  | 4 => .array .byte
  | 5 => .array .byte
  | 6 => .int
  | 7 => .array .byte
  | 8 => .int
  | 9 => .int
  | 10 => .array .long
  | 11 => .array .boolean
  | 12 => .array .boolean
  | 13 => .array .boolean
  | 14 => .array .short
  | 15 => .array .boolean
  | 16 => .array .boolean
  | _ => .array .short
abbrev wsX10 : List Cond := u_ws RX1 TX1 18
set_option maxRecDepth 100000 in
theorem nmX1 : ∀ a, a < 18 → ∀ b, b < 18 → a ≠ b → (TX1 a).2.1 ≠ (TX1 b).2.1 := by decide +kernel
set_option maxRecDepth 100000 in
theorem tyX1_ok : ∀ k, k < 18 → parseFieldDescriptor (TX1 k).2.2.1 = some (tyX1 k) := by decide +kernel
abbrev cX1_init : ByteArray := prog_1_method_1_code
def yX1_init : MethodName := ⟨RX1, "<init>", "(I)V"⟩
abbrev cX1_feed : ByteArray := prog_1_method_3_code
def yX1_feed : MethodName := ⟨RX1, "feed", "(I)I"⟩
abbrev cX1_complete : ByteArray := prog_1_method_5_code
def yX1_complete : MethodName := ⟨RX1, "complete", "()Z"⟩
abbrev cX1_attach : ByteArray := prog_1_method_6_code
def yX1_attach : MethodName := ⟨RX1, "attach", "(I)V"⟩
abbrev cX1_wants : ByteArray := prog_1_method_2_code
def yX1_wants : MethodName := ⟨RX1, "wants", "(I)I"⟩
abbrev cX1_back : ByteArray := prog_1_method_4_code
def yX1_back : MethodName := ⟨RX1, "back", "()I"⟩
abbrev cX1_window : ByteArray := prog_1_method_7_code
def yX1_window : MethodName := ⟨RX1, "window", "()I"⟩
abbrev cX1_event : ByteArray := prog_1_method_8_code
def yX1_event : MethodName := ⟨RX1, "event", "(I)I"⟩
abbrev cX1_undo : ByteArray := prog_1_method_9_code
def yX1_undo : MethodName := ⟨RX1, "undo", "()I"⟩
abbrev cX1_restart : ByteArray := prog_1_method_10_code
def yX1_restart : MethodName := ⟨RX1, "restart", "()V"⟩
abbrev cX1_events : ByteArray := prog_1_method_11_code
def yX1_events : MethodName := ⟨RX1, "events", "()I"⟩
abbrev cX1_now : ByteArray := prog_1_method_18_code
def yX1_now : MethodName := ⟨RX1, "now", "()Z"⟩
abbrev cX1_at : ByteArray := prog_1_method_19_code
def yX1_at : MethodName := ⟨RX1, "at", "(I)Z"⟩
abbrev cX1_judge : ByteArray := prog_1_method_12_code
def yX1_judge : MethodName := ⟨RX1, "judge", "()Z"⟩
abbrev cX1_begin : ByteArray := prog_1_method_13_code
def yX1_begin : MethodName := ⟨RX1, "begin", "()V"⟩
abbrev cX1_step : ByteArray := prog_1_method_14_code
def yX1_step : MethodName := ⟨RX1, "step", "(II)Z"⟩
abbrev cX1_partAt : ByteArray := prog_1_method_15_code
def yX1_partAt : MethodName := ⟨RX1, "partAt", "(III)Z"⟩
abbrev cX1_remembering : ByteArray := prog_1_method_16_code
def yX1_remembering : MethodName := ⟨RX1, "remembering", "(IZI)Z"⟩
abbrev cX1_wasTrue : ByteArray := prog_1_method_17_code
def yX1_wasTrue : MethodName := ⟨RX1, "wasTrue", "(I)Z"⟩
abbrev cX1_count : ByteArray := prog_1_method_20_code
def yX1_count : MethodName := ⟨RX1, "count", "()I"⟩
abbrev cX1_violation : ByteArray := prog_1_method_21_code
def yX1_violation : MethodName := ⟨RX1, "violation", "(I)I"⟩
abbrev cX1_streak : ByteArray := prog_1_method_22_code
def yX1_streak : MethodName := ⟨RX1, "streak", "()I"⟩
abbrev cX1_wouldHold : ByteArray := prog_1_method_23_code
def yX1_wouldHold : MethodName := ⟨RX1, "wouldHold", "(I)Z"⟩
abbrev cX1_imagine : ByteArray := prog_1_method_24_code
def yX1_imagine : MethodName := ⟨RX1, "imagine", "(I)Z"⟩
abbrev cX1_allowed : ByteArray := prog_1_method_25_code
def yX1_allowed : MethodName := ⟨RX1, "allowed", "()I"⟩
theorem q13 : (Jvm.Cond.initialized "PastMonitor") ∈ lw_all := lw_g (lw_at lw_m1 1 rfl) rfl
theorem q16 : (Jvm.Cond.instantiable "PastMonitor" (18 : Nat)) ∈ lw_all := lw_g (lw_at lw_m1 4 rfl) rfl
theorem q18 : (Jvm.Cond.instanceMethod ({ cls := "PastMonitor", name := "<init>", desc := "(I)V" } : Jvm.MethodName)) ∈ lw_all := lw_g (lw_at lw_m1 6 rfl) rfl
theorem q19 : (Jvm.Cond.code ({ cls := "PastMonitor", name := "<init>", desc := "(I)V" } : Jvm.MethodName) prog_1_method_1_code (2 : Nat) (Option.none : Option Jvm.ClassFile.FieldType)) ∈ lw_all := lw_g (lw_at lw_m1 7 rfl) rfl
theorem q20 : (Jvm.Cond.methodLink "PastMonitor" (1 : Nat) ({ cls := "java/lang/Object", name := "<init>", desc := "()V" } : Jvm.MethodName)) ∈ lw_all := lw_g (lw_at lw_m1 8 rfl) rfl
theorem q23 : (Jvm.Cond.fieldLink "PastMonitor" (52 : Nat) "PastMonitor" "width" "I") ∈ lw_all := lw_g (lw_at lw_m1 11 rfl) rfl
theorem q24 : (Jvm.Cond.fieldLink "PastMonitor" (7 : Nat) "PastMonitor" "tokens" "[B") ∈ lw_all := lw_g (lw_at lw_m1 12 rfl) rfl
theorem q25 : (Jvm.Cond.fieldLink "PastMonitor" (56 : Nat) "PastMonitor" "size" "I") ∈ lw_all := lw_g (lw_at lw_m1 13 rfl) rfl
theorem q26 : (Jvm.Cond.fieldLink "PastMonitor" (13 : Nat) "PastMonitor" "second" "[B") ∈ lw_all := lw_g (lw_at lw_m1 14 rfl) rfl
theorem q27 : (Jvm.Cond.fieldLink "PastMonitor" (16 : Nat) "PastMonitor" "openToken" "[B") ∈ lw_all := lw_g (lw_at lw_m1 15 rfl) rfl
theorem q28 : (Jvm.Cond.fieldLink "PastMonitor" (19 : Nat) "PastMonitor" "openWant" "[B") ∈ lw_all := lw_g (lw_at lw_m1 16 rfl) rfl
theorem q29 : (Jvm.Cond.fieldLink "PastMonitor" (66 : Nat) "PastMonitor" "openCount" "I") ∈ lw_all := lw_g (lw_at lw_m1 17 rfl) rfl
theorem q30 : (Jvm.Cond.fieldLink "PastMonitor" (22 : Nat) "PastMonitor" "facts" "[B") ∈ lw_all := lw_g (lw_at lw_m1 18 rfl) rfl
theorem q31 : (Jvm.Cond.fieldLink "PastMonitor" (77 : Nat) "PastMonitor" "count" "I") ∈ lw_all := lw_g (lw_at lw_m1 19 rfl) rfl
theorem q32 : (Jvm.Cond.fieldLink "PastMonitor" (63 : Nat) "PastMonitor" "judged" "I") ∈ lw_all := lw_g (lw_at lw_m1 20 rfl) rfl
theorem q33 : (Jvm.Cond.fieldLink "PastMonitor" (25 : Nat) "PastMonitor" "trueAt" "[J") ∈ lw_all := lw_g (lw_at lw_m1 21 rfl) rfl
theorem q34 : (Jvm.Cond.fieldLink "PastMonitor" (29 : Nat) "PastMonitor" "value" "[Z") ∈ lw_all := lw_g (lw_at lw_m1 22 rfl) rfl
theorem q35 : (Jvm.Cond.fieldLink "PastMonitor" (33 : Nat) "PastMonitor" "valueBefore" "[Z") ∈ lw_all := lw_g (lw_at lw_m1 23 rfl) rfl
theorem q36 : (Jvm.Cond.fieldLink "PastMonitor" (36 : Nat) "PastMonitor" "memory" "[Z") ∈ lw_all := lw_g (lw_at lw_m1 24 rfl) rfl
theorem q37 : (Jvm.Cond.fieldLink "PastMonitor" (39 : Nat) "PastMonitor" "lastSeen" "[S") ∈ lw_all := lw_g (lw_at lw_m1 25 rfl) rfl
theorem q38 : (Jvm.Cond.fieldLink "PastMonitor" (43 : Nat) "PastMonitor" "savedValue" "[Z") ∈ lw_all := lw_g (lw_at lw_m1 26 rfl) rfl
theorem q39 : (Jvm.Cond.fieldLink "PastMonitor" (46 : Nat) "PastMonitor" "savedMemory" "[Z") ∈ lw_all := lw_g (lw_at lw_m1 27 rfl) rfl
theorem q40 : (Jvm.Cond.fieldLink "PastMonitor" (49 : Nat) "PastMonitor" "savedSeen" "[S") ∈ lw_all := lw_g (lw_at lw_m1 28 rfl) rfl
theorem q41 : (Jvm.Cond.laysFinal "PastMonitor" "PastMonitor" "width" "I") ∈ lw_all := lw_g (lw_at lw_m1 29 rfl) rfl
theorem q42 : (Jvm.Cond.soleField "PastMonitor" "width") ∈ lw_all := lw_g (lw_at lw_m1 30 rfl) rfl
theorem q43 : (Jvm.Cond.laysFinal "PastMonitor" "PastMonitor" "tokens" "[B") ∈ lw_all := lw_g (lw_at lw_m1 31 rfl) rfl
theorem q44 : (Jvm.Cond.soleField "PastMonitor" "tokens") ∈ lw_all := lw_g (lw_at lw_m1 32 rfl) rfl
theorem q45 : (Jvm.Cond.lays "PastMonitor" "PastMonitor" "size" "I") ∈ lw_all := lw_g (lw_at lw_m1 33 rfl) rfl
theorem q46 : (Jvm.Cond.soleField "PastMonitor" "size") ∈ lw_all := lw_g (lw_at lw_m1 34 rfl) rfl
theorem q47 : (Jvm.Cond.laysFinal "PastMonitor" "PastMonitor" "second" "[B") ∈ lw_all := lw_g (lw_at lw_m1 35 rfl) rfl
theorem q48 : (Jvm.Cond.soleField "PastMonitor" "second") ∈ lw_all := lw_g (lw_at lw_m1 36 rfl) rfl
theorem q49 : (Jvm.Cond.laysFinal "PastMonitor" "PastMonitor" "openToken" "[B") ∈ lw_all := lw_g (lw_at lw_m1 37 rfl) rfl
theorem q50 : (Jvm.Cond.soleField "PastMonitor" "openToken") ∈ lw_all := lw_g (lw_at lw_m1 38 rfl) rfl
theorem q51 : (Jvm.Cond.laysFinal "PastMonitor" "PastMonitor" "openWant" "[B") ∈ lw_all := lw_g (lw_at lw_m1 39 rfl) rfl
theorem q52 : (Jvm.Cond.soleField "PastMonitor" "openWant") ∈ lw_all := lw_g (lw_at lw_m1 40 rfl) rfl
theorem q53 : (Jvm.Cond.lays "PastMonitor" "PastMonitor" "openCount" "I") ∈ lw_all := lw_g (lw_at lw_m1 41 rfl) rfl
theorem q54 : (Jvm.Cond.soleField "PastMonitor" "openCount") ∈ lw_all := lw_g (lw_at lw_m1 42 rfl) rfl
theorem q55 : (Jvm.Cond.laysFinal "PastMonitor" "PastMonitor" "facts" "[B") ∈ lw_all := lw_g (lw_at lw_m1 43 rfl) rfl
theorem q56 : (Jvm.Cond.soleField "PastMonitor" "facts") ∈ lw_all := lw_g (lw_at lw_m1 44 rfl) rfl
theorem q57 : (Jvm.Cond.lays "PastMonitor" "PastMonitor" "count" "I") ∈ lw_all := lw_g (lw_at lw_m1 45 rfl) rfl
theorem q58 : (Jvm.Cond.soleField "PastMonitor" "count") ∈ lw_all := lw_g (lw_at lw_m1 46 rfl) rfl
theorem q59 : (Jvm.Cond.lays "PastMonitor" "PastMonitor" "judged" "I") ∈ lw_all := lw_g (lw_at lw_m1 47 rfl) rfl
theorem q60 : (Jvm.Cond.soleField "PastMonitor" "judged") ∈ lw_all := lw_g (lw_at lw_m1 48 rfl) rfl
theorem q61 : (Jvm.Cond.laysFinal "PastMonitor" "PastMonitor" "trueAt" "[J") ∈ lw_all := lw_g (lw_at lw_m1 49 rfl) rfl
theorem q62 : (Jvm.Cond.soleField "PastMonitor" "trueAt") ∈ lw_all := lw_g (lw_at lw_m1 50 rfl) rfl
theorem q63 : (Jvm.Cond.laysFinal "PastMonitor" "PastMonitor" "value" "[Z") ∈ lw_all := lw_g (lw_at lw_m1 51 rfl) rfl
theorem q64 : (Jvm.Cond.soleField "PastMonitor" "value") ∈ lw_all := lw_g (lw_at lw_m1 52 rfl) rfl
theorem q65 : (Jvm.Cond.laysFinal "PastMonitor" "PastMonitor" "valueBefore" "[Z") ∈ lw_all := lw_g (lw_at lw_m1 53 rfl) rfl
theorem q66 : (Jvm.Cond.soleField "PastMonitor" "valueBefore") ∈ lw_all := lw_g (lw_at lw_m1 54 rfl) rfl
theorem q67 : (Jvm.Cond.laysFinal "PastMonitor" "PastMonitor" "memory" "[Z") ∈ lw_all := lw_g (lw_at lw_m1 55 rfl) rfl
theorem q68 : (Jvm.Cond.soleField "PastMonitor" "memory") ∈ lw_all := lw_g (lw_at lw_m1 56 rfl) rfl
theorem q69 : (Jvm.Cond.laysFinal "PastMonitor" "PastMonitor" "lastSeen" "[S") ∈ lw_all := lw_g (lw_at lw_m1 57 rfl) rfl
theorem q70 : (Jvm.Cond.soleField "PastMonitor" "lastSeen") ∈ lw_all := lw_g (lw_at lw_m1 58 rfl) rfl
theorem q71 : (Jvm.Cond.laysFinal "PastMonitor" "PastMonitor" "savedValue" "[Z") ∈ lw_all := lw_g (lw_at lw_m1 59 rfl) rfl
theorem q72 : (Jvm.Cond.soleField "PastMonitor" "savedValue") ∈ lw_all := lw_g (lw_at lw_m1 60 rfl) rfl
theorem q73 : (Jvm.Cond.laysFinal "PastMonitor" "PastMonitor" "savedMemory" "[Z") ∈ lw_all := lw_g (lw_at lw_m1 61 rfl) rfl
theorem q74 : (Jvm.Cond.soleField "PastMonitor" "savedMemory") ∈ lw_all := lw_g (lw_at lw_m1 62 rfl) rfl
theorem q75 : (Jvm.Cond.laysFinal "PastMonitor" "PastMonitor" "savedSeen" "[S") ∈ lw_all := lw_g (lw_at lw_m1 63 rfl) rfl
theorem q76 : (Jvm.Cond.soleField "PastMonitor" "savedSeen") ∈ lw_all := lw_g (lw_at lw_m1 64 rfl) rfl
theorem q77 : (Jvm.Cond.superclass "PastMonitor" "java/lang/Object") ∈ lw_all := lw_g (lw_at lw_m1 65 rfl) rfl
theorem q83 : (Jvm.Cond.instanceMethod ({ cls := "PastMonitor", name := "feed", desc := "(I)I" } : Jvm.MethodName)) ∈ lw_all := lw_g (lw_at lw_m1 71 rfl) rfl
theorem q84 : (Jvm.Cond.selects "PastMonitor" ({ cls := "PastMonitor", name := "feed", desc := "(I)I" } : Jvm.MethodName) ({ cls := "PastMonitor", name := "feed", desc := "(I)I" } : Jvm.MethodName)) ∈ lw_all := lw_g (lw_at lw_m1 72 rfl) rfl
theorem q85 : (Jvm.Cond.code ({ cls := "PastMonitor", name := "feed", desc := "(I)I" } : Jvm.MethodName) prog_1_method_3_code (2 : Nat) (Option.some Jvm.ClassFile.FieldType.int)) ∈ lw_all := lw_g (lw_at lw_m1 73 rfl) rfl
theorem q86 : (Jvm.Cond.methodLink "PastMonitor" (59 : Nat) ({ cls := "PastMonitor", name := "complete", desc := "()Z" } : Jvm.MethodName)) ∈ lw_all := lw_g (lw_at lw_m1 74 rfl) rfl
theorem q87 : (Jvm.Cond.instanceMethod ({ cls := "PastMonitor", name := "complete", desc := "()Z" } : Jvm.MethodName)) ∈ lw_all := lw_g (lw_at lw_m1 75 rfl) rfl
theorem q88 : (Jvm.Cond.selects "PastMonitor" ({ cls := "PastMonitor", name := "complete", desc := "()Z" } : Jvm.MethodName) ({ cls := "PastMonitor", name := "complete", desc := "()Z" } : Jvm.MethodName)) ∈ lw_all := lw_g (lw_at lw_m1 76 rfl) rfl
theorem q89 : (Jvm.Cond.code ({ cls := "PastMonitor", name := "complete", desc := "()Z" } : Jvm.MethodName) prog_1_method_5_code (3 : Nat) (Option.some Jvm.ClassFile.FieldType.boolean)) ∈ lw_all := lw_g (lw_at lw_m1 77 rfl) rfl
theorem q90 : (Jvm.Cond.methodLink "PastMonitor" (69 : Nat) ({ cls := "PastMonitor", name := "attach", desc := "(I)V" } : Jvm.MethodName)) ∈ lw_all := lw_g (lw_at lw_m1 78 rfl) rfl
theorem q91 : (Jvm.Cond.privateMethod ({ cls := "PastMonitor", name := "attach", desc := "(I)V" } : Jvm.MethodName)) ∈ lw_tbl := lw_at lw_m1 79 rfl
theorem q92 : (Jvm.Cond.instanceMethod ({ cls := "PastMonitor", name := "attach", desc := "(I)V" } : Jvm.MethodName)) ∈ lw_all := lw_g (lw_at lw_m1 80 rfl) rfl
theorem q93 : (Jvm.Cond.code ({ cls := "PastMonitor", name := "attach", desc := "(I)V" } : Jvm.MethodName) prog_1_method_6_code (3 : Nat) (Option.none : Option Jvm.ClassFile.FieldType)) ∈ lw_all := lw_g (lw_at lw_m1 81 rfl) rfl
theorem q94 : (Jvm.Cond.methodLink "PastMonitor" (73 : Nat) ({ cls := "PastMonitor", name := "wants", desc := "(I)I" } : Jvm.MethodName)) ∈ lw_all := lw_g (lw_at lw_m1 82 rfl) rfl
theorem q95 : (Jvm.Cond.static ({ cls := "PastMonitor", name := "wants", desc := "(I)I" } : Jvm.MethodName)) ∈ lw_all := lw_g (lw_at lw_m1 83 rfl) rfl
theorem q96 : (Jvm.Cond.code ({ cls := "PastMonitor", name := "wants", desc := "(I)I" } : Jvm.MethodName) prog_1_method_2_code (1 : Nat) (Option.some Jvm.ClassFile.FieldType.int)) ∈ lw_all := lw_g (lw_at lw_m1 84 rfl) rfl
theorem q98 : (Jvm.Cond.instanceMethod ({ cls := "PastMonitor", name := "back", desc := "()I" } : Jvm.MethodName)) ∈ lw_all := lw_g (lw_at lw_m1 86 rfl) rfl
theorem q99 : (Jvm.Cond.selects "PastMonitor" ({ cls := "PastMonitor", name := "back", desc := "()I" } : Jvm.MethodName) ({ cls := "PastMonitor", name := "back", desc := "()I" } : Jvm.MethodName)) ∈ lw_all := lw_g (lw_at lw_m1 87 rfl) rfl
theorem q100 : (Jvm.Cond.code ({ cls := "PastMonitor", name := "back", desc := "()I" } : Jvm.MethodName) prog_1_method_4_code (1 : Nat) (Option.some Jvm.ClassFile.FieldType.int)) ∈ lw_all := lw_g (lw_at lw_m1 88 rfl) rfl
theorem q103 : (Jvm.Cond.instanceMethod ({ cls := "PastMonitor", name := "window", desc := "()I" } : Jvm.MethodName)) ∈ lw_all := lw_g (lw_at lw_m1 91 rfl) rfl
theorem q104 : (Jvm.Cond.selects "PastMonitor" ({ cls := "PastMonitor", name := "window", desc := "()I" } : Jvm.MethodName) ({ cls := "PastMonitor", name := "window", desc := "()I" } : Jvm.MethodName)) ∈ lw_all := lw_g (lw_at lw_m1 92 rfl) rfl
theorem q105 : (Jvm.Cond.code ({ cls := "PastMonitor", name := "window", desc := "()I" } : Jvm.MethodName) prog_1_method_7_code (1 : Nat) (Option.some Jvm.ClassFile.FieldType.int)) ∈ lw_all := lw_g (lw_at lw_m1 93 rfl) rfl
theorem q107 : (Jvm.Cond.instanceMethod ({ cls := "PastMonitor", name := "event", desc := "(I)I" } : Jvm.MethodName)) ∈ lw_all := lw_g (lw_at lw_m1 95 rfl) rfl
theorem q108 : (Jvm.Cond.selects "PastMonitor" ({ cls := "PastMonitor", name := "event", desc := "(I)I" } : Jvm.MethodName) ({ cls := "PastMonitor", name := "event", desc := "(I)I" } : Jvm.MethodName)) ∈ lw_all := lw_g (lw_at lw_m1 96 rfl) rfl
theorem q109 : (Jvm.Cond.code ({ cls := "PastMonitor", name := "event", desc := "(I)I" } : Jvm.MethodName) prog_1_method_8_code (2 : Nat) (Option.some Jvm.ClassFile.FieldType.int)) ∈ lw_all := lw_g (lw_at lw_m1 97 rfl) rfl
theorem q111 : (Jvm.Cond.instanceMethod ({ cls := "PastMonitor", name := "undo", desc := "()I" } : Jvm.MethodName)) ∈ lw_all := lw_g (lw_at lw_m1 99 rfl) rfl
theorem q112 : (Jvm.Cond.selects "PastMonitor" ({ cls := "PastMonitor", name := "undo", desc := "()I" } : Jvm.MethodName) ({ cls := "PastMonitor", name := "undo", desc := "()I" } : Jvm.MethodName)) ∈ lw_all := lw_g (lw_at lw_m1 100 rfl) rfl
theorem q113 : (Jvm.Cond.code ({ cls := "PastMonitor", name := "undo", desc := "()I" } : Jvm.MethodName) prog_1_method_9_code (1 : Nat) (Option.some Jvm.ClassFile.FieldType.int)) ∈ lw_all := lw_g (lw_at lw_m1 101 rfl) rfl
theorem q115 : (Jvm.Cond.instanceMethod ({ cls := "PastMonitor", name := "restart", desc := "()V" } : Jvm.MethodName)) ∈ lw_all := lw_g (lw_at lw_m1 103 rfl) rfl
theorem q116 : (Jvm.Cond.selects "PastMonitor" ({ cls := "PastMonitor", name := "restart", desc := "()V" } : Jvm.MethodName) ({ cls := "PastMonitor", name := "restart", desc := "()V" } : Jvm.MethodName)) ∈ lw_all := lw_g (lw_at lw_m1 104 rfl) rfl
theorem q117 : (Jvm.Cond.code ({ cls := "PastMonitor", name := "restart", desc := "()V" } : Jvm.MethodName) prog_1_method_10_code (1 : Nat) (Option.none : Option Jvm.ClassFile.FieldType)) ∈ lw_all := lw_g (lw_at lw_m1 105 rfl) rfl
theorem q119 : (Jvm.Cond.instanceMethod ({ cls := "PastMonitor", name := "events", desc := "()I" } : Jvm.MethodName)) ∈ lw_all := lw_g (lw_at lw_m1 107 rfl) rfl
theorem q120 : (Jvm.Cond.selects "PastMonitor" ({ cls := "PastMonitor", name := "events", desc := "()I" } : Jvm.MethodName) ({ cls := "PastMonitor", name := "events", desc := "()I" } : Jvm.MethodName)) ∈ lw_all := lw_g (lw_at lw_m1 108 rfl) rfl
theorem q121 : (Jvm.Cond.code ({ cls := "PastMonitor", name := "events", desc := "()I" } : Jvm.MethodName) prog_1_method_11_code (1 : Nat) (Option.some Jvm.ClassFile.FieldType.int)) ∈ lw_all := lw_g (lw_at lw_m1 109 rfl) rfl
theorem q123 : (Jvm.Cond.instanceMethod ({ cls := "PastMonitor", name := "now", desc := "()Z" } : Jvm.MethodName)) ∈ lw_all := lw_g (lw_at lw_m1 111 rfl) rfl
theorem q124 : (Jvm.Cond.selects "PastMonitor" ({ cls := "PastMonitor", name := "now", desc := "()Z" } : Jvm.MethodName) ({ cls := "PastMonitor", name := "now", desc := "()Z" } : Jvm.MethodName)) ∈ lw_all := lw_g (lw_at lw_m1 112 rfl) rfl
theorem q125 : (Jvm.Cond.code ({ cls := "PastMonitor", name := "now", desc := "()Z" } : Jvm.MethodName) prog_1_method_18_code (1 : Nat) (Option.some Jvm.ClassFile.FieldType.boolean)) ∈ lw_all := lw_g (lw_at lw_m1 113 rfl) rfl
theorem q126 : (Jvm.Cond.methodLink "PastMonitor" (97 : Nat) ({ cls := "PastMonitor", name := "at", desc := "(I)Z" } : Jvm.MethodName)) ∈ lw_all := lw_g (lw_at lw_m1 114 rfl) rfl
theorem q127 : (Jvm.Cond.instanceMethod ({ cls := "PastMonitor", name := "at", desc := "(I)Z" } : Jvm.MethodName)) ∈ lw_all := lw_g (lw_at lw_m1 115 rfl) rfl
theorem q128 : (Jvm.Cond.selects "PastMonitor" ({ cls := "PastMonitor", name := "at", desc := "(I)Z" } : Jvm.MethodName) ({ cls := "PastMonitor", name := "at", desc := "(I)Z" } : Jvm.MethodName)) ∈ lw_all := lw_g (lw_at lw_m1 116 rfl) rfl
theorem q129 : (Jvm.Cond.code ({ cls := "PastMonitor", name := "at", desc := "(I)Z" } : Jvm.MethodName) prog_1_method_19_code (2 : Nat) (Option.some Jvm.ClassFile.FieldType.boolean)) ∈ lw_all := lw_g (lw_at lw_m1 117 rfl) rfl
theorem q130 : (Jvm.Cond.methodLink "PastMonitor" (101 : Nat) ({ cls := "PastMonitor", name := "judge", desc := "()Z" } : Jvm.MethodName)) ∈ lw_all := lw_g (lw_at lw_m1 118 rfl) rfl
theorem q131 : (Jvm.Cond.privateMethod ({ cls := "PastMonitor", name := "judge", desc := "()Z" } : Jvm.MethodName)) ∈ lw_tbl := lw_at lw_m1 119 rfl
theorem q132 : (Jvm.Cond.instanceMethod ({ cls := "PastMonitor", name := "judge", desc := "()Z" } : Jvm.MethodName)) ∈ lw_all := lw_g (lw_at lw_m1 120 rfl) rfl
theorem q133 : (Jvm.Cond.code ({ cls := "PastMonitor", name := "judge", desc := "()Z" } : Jvm.MethodName) prog_1_method_12_code (5 : Nat) (Option.some Jvm.ClassFile.FieldType.boolean)) ∈ lw_all := lw_g (lw_at lw_m1 121 rfl) rfl
theorem q134 : (Jvm.Cond.methodLink "PastMonitor" (80 : Nat) ({ cls := "PastMonitor", name := "begin", desc := "()V" } : Jvm.MethodName)) ∈ lw_all := lw_g (lw_at lw_m1 122 rfl) rfl
theorem q135 : (Jvm.Cond.privateMethod ({ cls := "PastMonitor", name := "begin", desc := "()V" } : Jvm.MethodName)) ∈ lw_tbl := lw_at lw_m1 123 rfl
theorem q136 : (Jvm.Cond.instanceMethod ({ cls := "PastMonitor", name := "begin", desc := "()V" } : Jvm.MethodName)) ∈ lw_all := lw_g (lw_at lw_m1 124 rfl) rfl
theorem q137 : (Jvm.Cond.code ({ cls := "PastMonitor", name := "begin", desc := "()V" } : Jvm.MethodName) prog_1_method_13_code (2 : Nat) (Option.none : Option Jvm.ClassFile.FieldType)) ∈ lw_all := lw_g (lw_at lw_m1 125 rfl) rfl
theorem q138 : (Jvm.Cond.methodLink "PastMonitor" (83 : Nat) ({ cls := "PastMonitor", name := "step", desc := "(II)Z" } : Jvm.MethodName)) ∈ lw_all := lw_g (lw_at lw_m1 126 rfl) rfl
theorem q139 : (Jvm.Cond.privateMethod ({ cls := "PastMonitor", name := "step", desc := "(II)Z" } : Jvm.MethodName)) ∈ lw_tbl := lw_at lw_m1 127 rfl
theorem q140 : (Jvm.Cond.instanceMethod ({ cls := "PastMonitor", name := "step", desc := "(II)Z" } : Jvm.MethodName)) ∈ lw_all := lw_g (lw_at lw_m1 128 rfl) rfl
theorem q141 : (Jvm.Cond.code ({ cls := "PastMonitor", name := "step", desc := "(II)Z" } : Jvm.MethodName) prog_1_method_14_code (4 : Nat) (Option.some Jvm.ClassFile.FieldType.boolean)) ∈ lw_all := lw_g (lw_at lw_m1 129 rfl) rfl
theorem q142 : (Jvm.Cond.methodLink "PastMonitor" (89 : Nat) ({ cls := "PastMonitor", name := "partAt", desc := "(III)Z" } : Jvm.MethodName)) ∈ lw_all := lw_g (lw_at lw_m1 130 rfl) rfl
theorem q143 : (Jvm.Cond.privateMethod ({ cls := "PastMonitor", name := "partAt", desc := "(III)Z" } : Jvm.MethodName)) ∈ lw_tbl := lw_at lw_m1 131 rfl
theorem q144 : (Jvm.Cond.instanceMethod ({ cls := "PastMonitor", name := "partAt", desc := "(III)Z" } : Jvm.MethodName)) ∈ lw_all := lw_g (lw_at lw_m1 132 rfl) rfl
theorem q145 : (Jvm.Cond.code ({ cls := "PastMonitor", name := "partAt", desc := "(III)Z" } : Jvm.MethodName) prog_1_method_15_code (6 : Nat) (Option.some Jvm.ClassFile.FieldType.boolean)) ∈ lw_all := lw_g (lw_at lw_m1 133 rfl) rfl
theorem q146 : (Jvm.Cond.methodLink "PastMonitor" (93 : Nat) ({ cls := "PastMonitor", name := "remembering", desc := "(IZI)Z" } : Jvm.MethodName)) ∈ lw_all := lw_g (lw_at lw_m1 134 rfl) rfl
theorem q147 : (Jvm.Cond.privateMethod ({ cls := "PastMonitor", name := "remembering", desc := "(IZI)Z" } : Jvm.MethodName)) ∈ lw_tbl := lw_at lw_m1 135 rfl
theorem q148 : (Jvm.Cond.instanceMethod ({ cls := "PastMonitor", name := "remembering", desc := "(IZI)Z" } : Jvm.MethodName)) ∈ lw_all := lw_g (lw_at lw_m1 136 rfl) rfl
theorem q149 : (Jvm.Cond.code ({ cls := "PastMonitor", name := "remembering", desc := "(IZI)Z" } : Jvm.MethodName) prog_1_method_16_code (6 : Nat) (Option.some Jvm.ClassFile.FieldType.boolean)) ∈ lw_all := lw_g (lw_at lw_m1 137 rfl) rfl
theorem q150 : (Jvm.Cond.constantLong "PastMonitor" (87 : Nat) (-1 : Int64)) ∈ lw_all := lw_g (lw_at lw_m1 138 rfl) rfl
theorem q151 : (Jvm.Cond.methodLink "PastMonitor" (104 : Nat) ({ cls := "PastMonitor", name := "wasTrue", desc := "(I)Z" } : Jvm.MethodName)) ∈ lw_all := lw_g (lw_at lw_m1 139 rfl) rfl
theorem q152 : (Jvm.Cond.privateMethod ({ cls := "PastMonitor", name := "wasTrue", desc := "(I)Z" } : Jvm.MethodName)) ∈ lw_tbl := lw_at lw_m1 140 rfl
theorem q153 : (Jvm.Cond.instanceMethod ({ cls := "PastMonitor", name := "wasTrue", desc := "(I)Z" } : Jvm.MethodName)) ∈ lw_all := lw_g (lw_at lw_m1 141 rfl) rfl
theorem q154 : (Jvm.Cond.code ({ cls := "PastMonitor", name := "wasTrue", desc := "(I)Z" } : Jvm.MethodName) prog_1_method_17_code (2 : Nat) (Option.some Jvm.ClassFile.FieldType.boolean)) ∈ lw_all := lw_g (lw_at lw_m1 142 rfl) rfl
theorem q157 : (Jvm.Cond.instanceMethod ({ cls := "PastMonitor", name := "count", desc := "()I" } : Jvm.MethodName)) ∈ lw_all := lw_g (lw_at lw_m1 145 rfl) rfl
theorem q158 : (Jvm.Cond.selects "PastMonitor" ({ cls := "PastMonitor", name := "count", desc := "()I" } : Jvm.MethodName) ({ cls := "PastMonitor", name := "count", desc := "()I" } : Jvm.MethodName)) ∈ lw_all := lw_g (lw_at lw_m1 146 rfl) rfl
theorem q159 : (Jvm.Cond.code ({ cls := "PastMonitor", name := "count", desc := "()I" } : Jvm.MethodName) prog_1_method_20_code (3 : Nat) (Option.some Jvm.ClassFile.FieldType.int)) ∈ lw_all := lw_g (lw_at lw_m1 147 rfl) rfl
theorem q161 : (Jvm.Cond.instanceMethod ({ cls := "PastMonitor", name := "violation", desc := "(I)I" } : Jvm.MethodName)) ∈ lw_all := lw_g (lw_at lw_m1 149 rfl) rfl
theorem q162 : (Jvm.Cond.selects "PastMonitor" ({ cls := "PastMonitor", name := "violation", desc := "(I)I" } : Jvm.MethodName) ({ cls := "PastMonitor", name := "violation", desc := "(I)I" } : Jvm.MethodName)) ∈ lw_all := lw_g (lw_at lw_m1 150 rfl) rfl
theorem q163 : (Jvm.Cond.code ({ cls := "PastMonitor", name := "violation", desc := "(I)I" } : Jvm.MethodName) prog_1_method_21_code (3 : Nat) (Option.some Jvm.ClassFile.FieldType.int)) ∈ lw_all := lw_g (lw_at lw_m1 151 rfl) rfl
theorem q165 : (Jvm.Cond.instanceMethod ({ cls := "PastMonitor", name := "streak", desc := "()I" } : Jvm.MethodName)) ∈ lw_all := lw_g (lw_at lw_m1 153 rfl) rfl
theorem q166 : (Jvm.Cond.selects "PastMonitor" ({ cls := "PastMonitor", name := "streak", desc := "()I" } : Jvm.MethodName) ({ cls := "PastMonitor", name := "streak", desc := "()I" } : Jvm.MethodName)) ∈ lw_all := lw_g (lw_at lw_m1 154 rfl) rfl
theorem q167 : (Jvm.Cond.code ({ cls := "PastMonitor", name := "streak", desc := "()I" } : Jvm.MethodName) prog_1_method_22_code (2 : Nat) (Option.some Jvm.ClassFile.FieldType.int)) ∈ lw_all := lw_g (lw_at lw_m1 155 rfl) rfl
theorem q169 : (Jvm.Cond.instanceMethod ({ cls := "PastMonitor", name := "wouldHold", desc := "(I)Z" } : Jvm.MethodName)) ∈ lw_all := lw_g (lw_at lw_m1 157 rfl) rfl
theorem q170 : (Jvm.Cond.selects "PastMonitor" ({ cls := "PastMonitor", name := "wouldHold", desc := "(I)Z" } : Jvm.MethodName) ({ cls := "PastMonitor", name := "wouldHold", desc := "(I)Z" } : Jvm.MethodName)) ∈ lw_all := lw_g (lw_at lw_m1 158 rfl) rfl
theorem q171 : (Jvm.Cond.code ({ cls := "PastMonitor", name := "wouldHold", desc := "(I)Z" } : Jvm.MethodName) prog_1_method_23_code (2 : Nat) (Option.some Jvm.ClassFile.FieldType.boolean)) ∈ lw_all := lw_g (lw_at lw_m1 159 rfl) rfl
theorem q172 : (Jvm.Cond.methodLink "PastMonitor" (107 : Nat) ({ cls := "PastMonitor", name := "imagine", desc := "(I)Z" } : Jvm.MethodName)) ∈ lw_all := lw_g (lw_at lw_m1 160 rfl) rfl
theorem q173 : (Jvm.Cond.privateMethod ({ cls := "PastMonitor", name := "imagine", desc := "(I)Z" } : Jvm.MethodName)) ∈ lw_tbl := lw_at lw_m1 161 rfl
theorem q174 : (Jvm.Cond.instanceMethod ({ cls := "PastMonitor", name := "imagine", desc := "(I)Z" } : Jvm.MethodName)) ∈ lw_all := lw_g (lw_at lw_m1 162 rfl) rfl
theorem q175 : (Jvm.Cond.code ({ cls := "PastMonitor", name := "imagine", desc := "(I)Z" } : Jvm.MethodName) prog_1_method_24_code (4 : Nat) (Option.some Jvm.ClassFile.FieldType.boolean)) ∈ lw_all := lw_g (lw_at lw_m1 163 rfl) rfl
theorem q177 : (Jvm.Cond.instanceMethod ({ cls := "PastMonitor", name := "allowed", desc := "()I" } : Jvm.MethodName)) ∈ lw_all := lw_g (lw_at lw_m1 165 rfl) rfl
theorem q178 : (Jvm.Cond.selects "PastMonitor" ({ cls := "PastMonitor", name := "allowed", desc := "()I" } : Jvm.MethodName) ({ cls := "PastMonitor", name := "allowed", desc := "()I" } : Jvm.MethodName)) ∈ lw_all := lw_g (lw_at lw_m1 166 rfl) rfl
theorem q179 : (Jvm.Cond.code ({ cls := "PastMonitor", name := "allowed", desc := "()I" } : Jvm.MethodName) prog_1_method_25_code (3 : Nat) (Option.some Jvm.ClassFile.FieldType.int)) ∈ lw_all := lw_g (lw_at lw_m1 167 rfl) rfl
theorem q180 : (Jvm.Cond.methodLink "PastMonitor" (110 : Nat) ({ cls := "PastMonitor", name := "wouldHold", desc := "(I)Z" } : Jvm.MethodName)) ∈ lw_all := lw_g (lw_at lw_m1 168 rfl) rfl
theorem in_X1 : ∀ w ∈ wsX10, w ∈ lw_all := lw_in wsX10 [41, 43, 45, 47, 49, 51, 53, 55, 57, 59, 61, 63, 65, 67, 69, 71, 73, 75] (by decide +kernel) (by decide +kernel)
/-! PastMonitorModel -/
def RX2 : String := "PastMonitorModel"
def TX2 : u_T := fun k => match k with
  | 0 => ("PastMonitorModel", "width", "I", false)
  | 1 => ("PastMonitorModel", "size", "I", false)
  | 2 => ("PastMonitorModel", "tokens", "[I", false)
  | 3 => ("PastMonitorModel", "count", "I", false)
  | 4 => ("PastMonitorModel", "facts", "[I", false)
  | 5 => ("PastMonitorModel", "holds", "[Z", false)
  | _ => ("PastMonitorModel", "stack", "[I", false)
def tyX2 : Nat → FieldType := fun k => match k with
  | 0 => .int
  | 1 => .int
  | 2 => .array .int
  | 3 => .int
  | 4 => .array .int
  | 5 => .array .boolean
  | _ => .array .int
abbrev wsX20 : List Cond := u_ws RX2 TX2 7
theorem nmX2 : ∀ a, a < 7 → ∀ b, b < 7 → a ≠ b → (TX2 a).2.1 ≠ (TX2 b).2.1 := by decide +kernel
theorem tyX2_ok : ∀ k, k < 7 → parseFieldDescriptor (TX2 k).2.2.1 = some (tyX2 k) := by decide +kernel
abbrev cX2_init : ByteArray := prog_3_method_1_code
def yX2_init : MethodName := ⟨RX2, "<init>", "(I)V"⟩
abbrev cX2_feed : ByteArray := prog_3_method_2_code
def yX2_feed : MethodName := ⟨RX2, "feed", "(I)I"⟩
abbrev cX2_complete : ByteArray := prog_3_method_4_code
def yX2_complete : MethodName := ⟨RX2, "complete", "()Z"⟩
abbrev cX2_back : ByteArray := prog_3_method_3_code
def yX2_back : MethodName := ⟨RX2, "back", "()I"⟩
abbrev cX2_window : ByteArray := prog_3_method_5_code
def yX2_window : MethodName := ⟨RX2, "window", "()I"⟩
abbrev cX2_event : ByteArray := prog_3_method_6_code
def yX2_event : MethodName := ⟨RX2, "event", "(I)I"⟩
abbrev cX2_undo : ByteArray := prog_3_method_7_code
def yX2_undo : MethodName := ⟨RX2, "undo", "()I"⟩
abbrev cX2_restart : ByteArray := prog_3_method_8_code
def yX2_restart : MethodName := ⟨RX2, "restart", "()V"⟩
abbrev cX2_events : ByteArray := prog_3_method_9_code
def yX2_events : MethodName := ⟨RX2, "events", "()I"⟩
abbrev cX2_now : ByteArray := prog_3_method_14_code
def yX2_now : MethodName := ⟨RX2, "now", "()Z"⟩
abbrev cX2_at : ByteArray := prog_3_method_15_code
def yX2_at : MethodName := ⟨RX2, "at", "(I)Z"⟩
abbrev cX2_work : ByteArray := prog_3_method_13_code
def yX2_work : MethodName := ⟨RX2, "work", "(I)V"⟩
abbrev cX2_truth : ByteArray := prog_3_method_12_code
def yX2_truth : MethodName := ⟨RX2, "truth", "(IIII)Z"⟩
abbrev cX2_since : ByteArray := prog_3_method_11_code
def yX2_since : MethodName := ⟨RX2, "since", "(III)Z"⟩
abbrev cX2_during : ByteArray := prog_3_method_10_code
def yX2_during : MethodName := ⟨RX2, "during", "(IIIZ)Z"⟩
abbrev cX2_count : ByteArray := prog_3_method_16_code
def yX2_count : MethodName := ⟨RX2, "count", "()I"⟩
abbrev cX2_violation : ByteArray := prog_3_method_17_code
def yX2_violation : MethodName := ⟨RX2, "violation", "(I)I"⟩
abbrev cX2_streak : ByteArray := prog_3_method_18_code
def yX2_streak : MethodName := ⟨RX2, "streak", "()I"⟩
abbrev cX2_wouldHold : ByteArray := prog_3_method_19_code
def yX2_wouldHold : MethodName := ⟨RX2, "wouldHold", "(I)Z"⟩
abbrev cX2_allowed : ByteArray := prog_3_method_20_code
def yX2_allowed : MethodName := ⟨RX2, "allowed", "()I"⟩
theorem q14 : (Jvm.Cond.initialized "PastMonitorModel") ∈ lw_all := lw_g (lw_at lw_m1 2 rfl) rfl
theorem q185 : (Jvm.Cond.instantiable "PastMonitorModel" (7 : Nat)) ∈ lw_all := lw_g (lw_at lw_m1 173 rfl) rfl
theorem q187 : (Jvm.Cond.instanceMethod ({ cls := "PastMonitorModel", name := "<init>", desc := "(I)V" } : Jvm.MethodName)) ∈ lw_all := lw_g (lw_at lw_m1 175 rfl) rfl
theorem q188 : (Jvm.Cond.code ({ cls := "PastMonitorModel", name := "<init>", desc := "(I)V" } : Jvm.MethodName) prog_3_method_1_code (2 : Nat) (Option.none : Option Jvm.ClassFile.FieldType)) ∈ lw_all := lw_g (lw_at lw_m1 176 rfl) rfl
theorem q189 : (Jvm.Cond.methodLink "PastMonitorModel" (1 : Nat) ({ cls := "java/lang/Object", name := "<init>", desc := "()V" } : Jvm.MethodName)) ∈ lw_all := lw_g (lw_at lw_m1 177 rfl) rfl
theorem q190 : (Jvm.Cond.fieldLink "PastMonitorModel" (23 : Nat) "PastMonitorModel" "width" "I") ∈ lw_all := lw_g (lw_at lw_m1 178 rfl) rfl
theorem q191 : (Jvm.Cond.fieldLink "PastMonitorModel" (31 : Nat) "PastMonitorModel" "size" "I") ∈ lw_all := lw_g (lw_at lw_m1 179 rfl) rfl
theorem q192 : (Jvm.Cond.fieldLink "PastMonitorModel" (7 : Nat) "PastMonitorModel" "tokens" "[I") ∈ lw_all := lw_g (lw_at lw_m1 180 rfl) rfl
theorem q193 : (Jvm.Cond.fieldLink "PastMonitorModel" (34 : Nat) "PastMonitorModel" "count" "I") ∈ lw_all := lw_g (lw_at lw_m1 181 rfl) rfl
theorem q194 : (Jvm.Cond.fieldLink "PastMonitorModel" (13 : Nat) "PastMonitorModel" "facts" "[I") ∈ lw_all := lw_g (lw_at lw_m1 182 rfl) rfl
theorem q195 : (Jvm.Cond.fieldLink "PastMonitorModel" (16 : Nat) "PastMonitorModel" "holds" "[Z") ∈ lw_all := lw_g (lw_at lw_m1 183 rfl) rfl
theorem q196 : (Jvm.Cond.fieldLink "PastMonitorModel" (20 : Nat) "PastMonitorModel" "stack" "[I") ∈ lw_all := lw_g (lw_at lw_m1 184 rfl) rfl
theorem q197 : (Jvm.Cond.lays "PastMonitorModel" "PastMonitorModel" "width" "I") ∈ lw_all := lw_g (lw_at lw_m1 185 rfl) rfl
theorem q198 : (Jvm.Cond.soleField "PastMonitorModel" "width") ∈ lw_all := lw_g (lw_at lw_m1 186 rfl) rfl
theorem q199 : (Jvm.Cond.lays "PastMonitorModel" "PastMonitorModel" "size" "I") ∈ lw_all := lw_g (lw_at lw_m1 187 rfl) rfl
theorem q200 : (Jvm.Cond.soleField "PastMonitorModel" "size") ∈ lw_all := lw_g (lw_at lw_m1 188 rfl) rfl
theorem q201 : (Jvm.Cond.lays "PastMonitorModel" "PastMonitorModel" "tokens" "[I") ∈ lw_all := lw_g (lw_at lw_m1 189 rfl) rfl
theorem q202 : (Jvm.Cond.soleField "PastMonitorModel" "tokens") ∈ lw_all := lw_g (lw_at lw_m1 190 rfl) rfl
theorem q203 : (Jvm.Cond.lays "PastMonitorModel" "PastMonitorModel" "count" "I") ∈ lw_all := lw_g (lw_at lw_m1 191 rfl) rfl
theorem q204 : (Jvm.Cond.soleField "PastMonitorModel" "count") ∈ lw_all := lw_g (lw_at lw_m1 192 rfl) rfl
theorem q205 : (Jvm.Cond.lays "PastMonitorModel" "PastMonitorModel" "facts" "[I") ∈ lw_all := lw_g (lw_at lw_m1 193 rfl) rfl
theorem q206 : (Jvm.Cond.soleField "PastMonitorModel" "facts") ∈ lw_all := lw_g (lw_at lw_m1 194 rfl) rfl
theorem q207 : (Jvm.Cond.lays "PastMonitorModel" "PastMonitorModel" "holds" "[Z") ∈ lw_all := lw_g (lw_at lw_m1 195 rfl) rfl
theorem q208 : (Jvm.Cond.soleField "PastMonitorModel" "holds") ∈ lw_all := lw_g (lw_at lw_m1 196 rfl) rfl
theorem q209 : (Jvm.Cond.lays "PastMonitorModel" "PastMonitorModel" "stack" "[I") ∈ lw_all := lw_g (lw_at lw_m1 197 rfl) rfl
theorem q210 : (Jvm.Cond.soleField "PastMonitorModel" "stack") ∈ lw_all := lw_g (lw_at lw_m1 198 rfl) rfl
theorem q211 : (Jvm.Cond.superclass "PastMonitorModel" "java/lang/Object") ∈ lw_all := lw_g (lw_at lw_m1 199 rfl) rfl
theorem q214 : (Jvm.Cond.instanceMethod ({ cls := "PastMonitorModel", name := "feed", desc := "(I)I" } : Jvm.MethodName)) ∈ lw_all := lw_g (lw_at lw_m1 202 rfl) rfl
theorem q215 : (Jvm.Cond.selects "PastMonitorModel" ({ cls := "PastMonitorModel", name := "feed", desc := "(I)I" } : Jvm.MethodName) ({ cls := "PastMonitorModel", name := "feed", desc := "(I)I" } : Jvm.MethodName)) ∈ lw_all := lw_g (lw_at lw_m1 203 rfl) rfl
theorem q216 : (Jvm.Cond.code ({ cls := "PastMonitorModel", name := "feed", desc := "(I)I" } : Jvm.MethodName) prog_3_method_2_code (2 : Nat) (Option.some Jvm.ClassFile.FieldType.int)) ∈ lw_all := lw_g (lw_at lw_m1 204 rfl) rfl
theorem q217 : (Jvm.Cond.methodLink "PastMonitorModel" (27 : Nat) ({ cls := "PastMonitorModel", name := "complete", desc := "()Z" } : Jvm.MethodName)) ∈ lw_all := lw_g (lw_at lw_m1 205 rfl) rfl
theorem q218 : (Jvm.Cond.instanceMethod ({ cls := "PastMonitorModel", name := "complete", desc := "()Z" } : Jvm.MethodName)) ∈ lw_all := lw_g (lw_at lw_m1 206 rfl) rfl
theorem q219 : (Jvm.Cond.selects "PastMonitorModel" ({ cls := "PastMonitorModel", name := "complete", desc := "()Z" } : Jvm.MethodName) ({ cls := "PastMonitorModel", name := "complete", desc := "()Z" } : Jvm.MethodName)) ∈ lw_all := lw_g (lw_at lw_m1 207 rfl) rfl
theorem q220 : (Jvm.Cond.code ({ cls := "PastMonitorModel", name := "complete", desc := "()Z" } : Jvm.MethodName) prog_3_method_4_code (4 : Nat) (Option.some Jvm.ClassFile.FieldType.boolean)) ∈ lw_all := lw_g (lw_at lw_m1 208 rfl) rfl
theorem q222 : (Jvm.Cond.instanceMethod ({ cls := "PastMonitorModel", name := "back", desc := "()I" } : Jvm.MethodName)) ∈ lw_all := lw_g (lw_at lw_m1 210 rfl) rfl
theorem q223 : (Jvm.Cond.selects "PastMonitorModel" ({ cls := "PastMonitorModel", name := "back", desc := "()I" } : Jvm.MethodName) ({ cls := "PastMonitorModel", name := "back", desc := "()I" } : Jvm.MethodName)) ∈ lw_all := lw_g (lw_at lw_m1 211 rfl) rfl
theorem q224 : (Jvm.Cond.code ({ cls := "PastMonitorModel", name := "back", desc := "()I" } : Jvm.MethodName) prog_3_method_3_code (1 : Nat) (Option.some Jvm.ClassFile.FieldType.int)) ∈ lw_all := lw_g (lw_at lw_m1 212 rfl) rfl
theorem q227 : (Jvm.Cond.instanceMethod ({ cls := "PastMonitorModel", name := "window", desc := "()I" } : Jvm.MethodName)) ∈ lw_all := lw_g (lw_at lw_m1 215 rfl) rfl
theorem q228 : (Jvm.Cond.selects "PastMonitorModel" ({ cls := "PastMonitorModel", name := "window", desc := "()I" } : Jvm.MethodName) ({ cls := "PastMonitorModel", name := "window", desc := "()I" } : Jvm.MethodName)) ∈ lw_all := lw_g (lw_at lw_m1 216 rfl) rfl
theorem q229 : (Jvm.Cond.code ({ cls := "PastMonitorModel", name := "window", desc := "()I" } : Jvm.MethodName) prog_3_method_5_code (1 : Nat) (Option.some Jvm.ClassFile.FieldType.int)) ∈ lw_all := lw_g (lw_at lw_m1 217 rfl) rfl
theorem q231 : (Jvm.Cond.instanceMethod ({ cls := "PastMonitorModel", name := "event", desc := "(I)I" } : Jvm.MethodName)) ∈ lw_all := lw_g (lw_at lw_m1 219 rfl) rfl
theorem q232 : (Jvm.Cond.selects "PastMonitorModel" ({ cls := "PastMonitorModel", name := "event", desc := "(I)I" } : Jvm.MethodName) ({ cls := "PastMonitorModel", name := "event", desc := "(I)I" } : Jvm.MethodName)) ∈ lw_all := lw_g (lw_at lw_m1 220 rfl) rfl
theorem q233 : (Jvm.Cond.code ({ cls := "PastMonitorModel", name := "event", desc := "(I)I" } : Jvm.MethodName) prog_3_method_6_code (2 : Nat) (Option.some Jvm.ClassFile.FieldType.int)) ∈ lw_all := lw_g (lw_at lw_m1 221 rfl) rfl
theorem q235 : (Jvm.Cond.instanceMethod ({ cls := "PastMonitorModel", name := "undo", desc := "()I" } : Jvm.MethodName)) ∈ lw_all := lw_g (lw_at lw_m1 223 rfl) rfl
theorem q236 : (Jvm.Cond.selects "PastMonitorModel" ({ cls := "PastMonitorModel", name := "undo", desc := "()I" } : Jvm.MethodName) ({ cls := "PastMonitorModel", name := "undo", desc := "()I" } : Jvm.MethodName)) ∈ lw_all := lw_g (lw_at lw_m1 224 rfl) rfl
theorem q237 : (Jvm.Cond.code ({ cls := "PastMonitorModel", name := "undo", desc := "()I" } : Jvm.MethodName) prog_3_method_7_code (1 : Nat) (Option.some Jvm.ClassFile.FieldType.int)) ∈ lw_all := lw_g (lw_at lw_m1 225 rfl) rfl
theorem q239 : (Jvm.Cond.instanceMethod ({ cls := "PastMonitorModel", name := "restart", desc := "()V" } : Jvm.MethodName)) ∈ lw_all := lw_g (lw_at lw_m1 227 rfl) rfl
theorem q240 : (Jvm.Cond.selects "PastMonitorModel" ({ cls := "PastMonitorModel", name := "restart", desc := "()V" } : Jvm.MethodName) ({ cls := "PastMonitorModel", name := "restart", desc := "()V" } : Jvm.MethodName)) ∈ lw_all := lw_g (lw_at lw_m1 228 rfl) rfl
theorem q241 : (Jvm.Cond.code ({ cls := "PastMonitorModel", name := "restart", desc := "()V" } : Jvm.MethodName) prog_3_method_8_code (1 : Nat) (Option.none : Option Jvm.ClassFile.FieldType)) ∈ lw_all := lw_g (lw_at lw_m1 229 rfl) rfl
theorem q243 : (Jvm.Cond.instanceMethod ({ cls := "PastMonitorModel", name := "events", desc := "()I" } : Jvm.MethodName)) ∈ lw_all := lw_g (lw_at lw_m1 231 rfl) rfl
theorem q244 : (Jvm.Cond.selects "PastMonitorModel" ({ cls := "PastMonitorModel", name := "events", desc := "()I" } : Jvm.MethodName) ({ cls := "PastMonitorModel", name := "events", desc := "()I" } : Jvm.MethodName)) ∈ lw_all := lw_g (lw_at lw_m1 232 rfl) rfl
theorem q245 : (Jvm.Cond.code ({ cls := "PastMonitorModel", name := "events", desc := "()I" } : Jvm.MethodName) prog_3_method_9_code (1 : Nat) (Option.some Jvm.ClassFile.FieldType.int)) ∈ lw_all := lw_g (lw_at lw_m1 233 rfl) rfl
theorem q247 : (Jvm.Cond.instanceMethod ({ cls := "PastMonitorModel", name := "now", desc := "()Z" } : Jvm.MethodName)) ∈ lw_all := lw_g (lw_at lw_m1 235 rfl) rfl
theorem q248 : (Jvm.Cond.selects "PastMonitorModel" ({ cls := "PastMonitorModel", name := "now", desc := "()Z" } : Jvm.MethodName) ({ cls := "PastMonitorModel", name := "now", desc := "()Z" } : Jvm.MethodName)) ∈ lw_all := lw_g (lw_at lw_m1 236 rfl) rfl
theorem q249 : (Jvm.Cond.code ({ cls := "PastMonitorModel", name := "now", desc := "()Z" } : Jvm.MethodName) prog_3_method_14_code (1 : Nat) (Option.some Jvm.ClassFile.FieldType.boolean)) ∈ lw_all := lw_g (lw_at lw_m1 237 rfl) rfl
theorem q250 : (Jvm.Cond.methodLink "PastMonitorModel" (49 : Nat) ({ cls := "PastMonitorModel", name := "at", desc := "(I)Z" } : Jvm.MethodName)) ∈ lw_all := lw_g (lw_at lw_m1 238 rfl) rfl
theorem q251 : (Jvm.Cond.instanceMethod ({ cls := "PastMonitorModel", name := "at", desc := "(I)Z" } : Jvm.MethodName)) ∈ lw_all := lw_g (lw_at lw_m1 239 rfl) rfl
theorem q252 : (Jvm.Cond.selects "PastMonitorModel" ({ cls := "PastMonitorModel", name := "at", desc := "(I)Z" } : Jvm.MethodName) ({ cls := "PastMonitorModel", name := "at", desc := "(I)Z" } : Jvm.MethodName)) ∈ lw_all := lw_g (lw_at lw_m2 0 rfl) rfl
theorem q253 : (Jvm.Cond.code ({ cls := "PastMonitorModel", name := "at", desc := "(I)Z" } : Jvm.MethodName) prog_3_method_15_code (2 : Nat) (Option.some Jvm.ClassFile.FieldType.boolean)) ∈ lw_all := lw_g (lw_at lw_m2 1 rfl) rfl
theorem q254 : (Jvm.Cond.methodLink "PastMonitorModel" (53 : Nat) ({ cls := "PastMonitorModel", name := "work", desc := "(I)V" } : Jvm.MethodName)) ∈ lw_all := lw_g (lw_at lw_m2 2 rfl) rfl
theorem q255 : (Jvm.Cond.privateMethod ({ cls := "PastMonitorModel", name := "work", desc := "(I)V" } : Jvm.MethodName)) ∈ lw_tbl := lw_at lw_m2 3 rfl
theorem q256 : (Jvm.Cond.instanceMethod ({ cls := "PastMonitorModel", name := "work", desc := "(I)V" } : Jvm.MethodName)) ∈ lw_all := lw_g (lw_at lw_m2 4 rfl) rfl
theorem q257 : (Jvm.Cond.code ({ cls := "PastMonitorModel", name := "work", desc := "(I)V" } : Jvm.MethodName) prog_3_method_13_code (9 : Nat) (Option.none : Option Jvm.ClassFile.FieldType)) ∈ lw_all := lw_g (lw_at lw_m2 5 rfl) rfl
theorem q258 : (Jvm.Cond.methodLink "PastMonitorModel" (45 : Nat) ({ cls := "PastMonitorModel", name := "truth", desc := "(IIII)Z" } : Jvm.MethodName)) ∈ lw_all := lw_g (lw_at lw_m2 6 rfl) rfl
theorem q259 : (Jvm.Cond.privateMethod ({ cls := "PastMonitorModel", name := "truth", desc := "(IIII)Z" } : Jvm.MethodName)) ∈ lw_tbl := lw_at lw_m2 7 rfl
theorem q260 : (Jvm.Cond.instanceMethod ({ cls := "PastMonitorModel", name := "truth", desc := "(IIII)Z" } : Jvm.MethodName)) ∈ lw_all := lw_g (lw_at lw_m2 8 rfl) rfl
theorem q261 : (Jvm.Cond.code ({ cls := "PastMonitorModel", name := "truth", desc := "(IIII)Z" } : Jvm.MethodName) prog_3_method_12_code (7 : Nat) (Option.some Jvm.ClassFile.FieldType.boolean)) ∈ lw_all := lw_g (lw_at lw_m2 9 rfl) rfl
theorem q262 : (Jvm.Cond.methodLink "PastMonitorModel" (41 : Nat) ({ cls := "PastMonitorModel", name := "since", desc := "(III)Z" } : Jvm.MethodName)) ∈ lw_all := lw_g (lw_at lw_m2 10 rfl) rfl
theorem q263 : (Jvm.Cond.privateMethod ({ cls := "PastMonitorModel", name := "since", desc := "(III)Z" } : Jvm.MethodName)) ∈ lw_tbl := lw_at lw_m2 11 rfl
theorem q264 : (Jvm.Cond.instanceMethod ({ cls := "PastMonitorModel", name := "since", desc := "(III)Z" } : Jvm.MethodName)) ∈ lw_all := lw_g (lw_at lw_m2 12 rfl) rfl
theorem q265 : (Jvm.Cond.code ({ cls := "PastMonitorModel", name := "since", desc := "(III)Z" } : Jvm.MethodName) prog_3_method_11_code (6 : Nat) (Option.some Jvm.ClassFile.FieldType.boolean)) ∈ lw_all := lw_g (lw_at lw_m2 13 rfl) rfl
theorem q266 : (Jvm.Cond.methodLink "PastMonitorModel" (37 : Nat) ({ cls := "PastMonitorModel", name := "during", desc := "(IIIZ)Z" } : Jvm.MethodName)) ∈ lw_all := lw_g (lw_at lw_m2 14 rfl) rfl
theorem q267 : (Jvm.Cond.privateMethod ({ cls := "PastMonitorModel", name := "during", desc := "(IIIZ)Z" } : Jvm.MethodName)) ∈ lw_tbl := lw_at lw_m2 15 rfl
theorem q268 : (Jvm.Cond.instanceMethod ({ cls := "PastMonitorModel", name := "during", desc := "(IIIZ)Z" } : Jvm.MethodName)) ∈ lw_all := lw_g (lw_at lw_m2 16 rfl) rfl
theorem q269 : (Jvm.Cond.code ({ cls := "PastMonitorModel", name := "during", desc := "(IIIZ)Z" } : Jvm.MethodName) prog_3_method_10_code (7 : Nat) (Option.some Jvm.ClassFile.FieldType.boolean)) ∈ lw_all := lw_g (lw_at lw_m2 17 rfl) rfl
theorem q272 : (Jvm.Cond.instanceMethod ({ cls := "PastMonitorModel", name := "count", desc := "()I" } : Jvm.MethodName)) ∈ lw_all := lw_g (lw_at lw_m2 20 rfl) rfl
theorem q273 : (Jvm.Cond.selects "PastMonitorModel" ({ cls := "PastMonitorModel", name := "count", desc := "()I" } : Jvm.MethodName) ({ cls := "PastMonitorModel", name := "count", desc := "()I" } : Jvm.MethodName)) ∈ lw_all := lw_g (lw_at lw_m2 21 rfl) rfl
theorem q274 : (Jvm.Cond.code ({ cls := "PastMonitorModel", name := "count", desc := "()I" } : Jvm.MethodName) prog_3_method_16_code (3 : Nat) (Option.some Jvm.ClassFile.FieldType.int)) ∈ lw_all := lw_g (lw_at lw_m2 22 rfl) rfl
theorem q276 : (Jvm.Cond.instanceMethod ({ cls := "PastMonitorModel", name := "violation", desc := "(I)I" } : Jvm.MethodName)) ∈ lw_all := lw_g (lw_at lw_m2 24 rfl) rfl
theorem q277 : (Jvm.Cond.selects "PastMonitorModel" ({ cls := "PastMonitorModel", name := "violation", desc := "(I)I" } : Jvm.MethodName) ({ cls := "PastMonitorModel", name := "violation", desc := "(I)I" } : Jvm.MethodName)) ∈ lw_all := lw_g (lw_at lw_m2 25 rfl) rfl
theorem q278 : (Jvm.Cond.code ({ cls := "PastMonitorModel", name := "violation", desc := "(I)I" } : Jvm.MethodName) prog_3_method_17_code (3 : Nat) (Option.some Jvm.ClassFile.FieldType.int)) ∈ lw_all := lw_g (lw_at lw_m2 26 rfl) rfl
theorem q280 : (Jvm.Cond.instanceMethod ({ cls := "PastMonitorModel", name := "streak", desc := "()I" } : Jvm.MethodName)) ∈ lw_all := lw_g (lw_at lw_m2 28 rfl) rfl
theorem q281 : (Jvm.Cond.selects "PastMonitorModel" ({ cls := "PastMonitorModel", name := "streak", desc := "()I" } : Jvm.MethodName) ({ cls := "PastMonitorModel", name := "streak", desc := "()I" } : Jvm.MethodName)) ∈ lw_all := lw_g (lw_at lw_m2 29 rfl) rfl
theorem q282 : (Jvm.Cond.code ({ cls := "PastMonitorModel", name := "streak", desc := "()I" } : Jvm.MethodName) prog_3_method_18_code (2 : Nat) (Option.some Jvm.ClassFile.FieldType.int)) ∈ lw_all := lw_g (lw_at lw_m2 30 rfl) rfl
theorem q284 : (Jvm.Cond.instanceMethod ({ cls := "PastMonitorModel", name := "wouldHold", desc := "(I)Z" } : Jvm.MethodName)) ∈ lw_all := lw_g (lw_at lw_m2 32 rfl) rfl
theorem q285 : (Jvm.Cond.selects "PastMonitorModel" ({ cls := "PastMonitorModel", name := "wouldHold", desc := "(I)Z" } : Jvm.MethodName) ({ cls := "PastMonitorModel", name := "wouldHold", desc := "(I)Z" } : Jvm.MethodName)) ∈ lw_all := lw_g (lw_at lw_m2 33 rfl) rfl
theorem q286 : (Jvm.Cond.code ({ cls := "PastMonitorModel", name := "wouldHold", desc := "(I)Z" } : Jvm.MethodName) prog_3_method_19_code (2 : Nat) (Option.some Jvm.ClassFile.FieldType.boolean)) ∈ lw_all := lw_g (lw_at lw_m2 34 rfl) rfl
theorem q288 : (Jvm.Cond.instanceMethod ({ cls := "PastMonitorModel", name := "allowed", desc := "()I" } : Jvm.MethodName)) ∈ lw_all := lw_g (lw_at lw_m2 36 rfl) rfl
theorem q289 : (Jvm.Cond.selects "PastMonitorModel" ({ cls := "PastMonitorModel", name := "allowed", desc := "()I" } : Jvm.MethodName) ({ cls := "PastMonitorModel", name := "allowed", desc := "()I" } : Jvm.MethodName)) ∈ lw_all := lw_g (lw_at lw_m2 37 rfl) rfl
theorem q290 : (Jvm.Cond.code ({ cls := "PastMonitorModel", name := "allowed", desc := "()I" } : Jvm.MethodName) prog_3_method_20_code (3 : Nat) (Option.some Jvm.ClassFile.FieldType.int)) ∈ lw_all := lw_g (lw_at lw_m2 38 rfl) rfl
theorem q291 : (Jvm.Cond.methodLink "PastMonitorModel" (57 : Nat) ({ cls := "PastMonitorModel", name := "wouldHold", desc := "(I)Z" } : Jvm.MethodName)) ∈ lw_all := lw_g (lw_at lw_m2 39 rfl) rfl
theorem in_X2 : ∀ w ∈ wsX20, w ∈ lw_all := lw_in wsX20 [197, 199, 201, 203, 205, 207, 209] (by decide +kernel) (by decide +kernel)
theorem q78 : (Jvm.Cond.arrayClass Jvm.ClassFile.FieldType.byte) ∈ lw_all := lw_g (lw_at lw_m1 66 rfl) rfl
theorem q79 : (Jvm.Cond.arrayClass Jvm.ClassFile.FieldType.long) ∈ lw_all := lw_g (lw_at lw_m1 67 rfl) rfl
theorem q80 : (Jvm.Cond.arrayClass Jvm.ClassFile.FieldType.boolean) ∈ lw_all := lw_g (lw_at lw_m1 68 rfl) rfl
theorem q81 : (Jvm.Cond.arrayClass Jvm.ClassFile.FieldType.short) ∈ lw_all := lw_g (lw_at lw_m1 69 rfl) rfl
theorem q212 : (Jvm.Cond.arrayClass Jvm.ClassFile.FieldType.int) ∈ lw_all := lw_g (lw_at lw_m1 200 rfl) rfl
/-! the law's own entry -/
abbrev cL_law : ByteArray := code
end
section
set_option maxRecDepth 100000
theorem dX1_init_0 : decode cX1_init 0 = .ok (.aload_n 0, 1) := by decide +kernel
theorem dX1_init_1 : decode cX1_init 1 = .ok (.invokespecial 1, 3) := by decide +kernel
theorem dX1_init_4 : decode cX1_init 4 = .ok (.aload_n 0, 1) := by decide +kernel
theorem dX1_init_5 : decode cX1_init 5 = .ok (.bipush 14, 2) := by decide +kernel
theorem dX1_init_7 : decode cX1_init 7 = .ok (.newarray .byte, 2) := by decide +kernel
theorem dX1_init_9 : decode cX1_init 9 = .ok (.putfield 7, 3) := by decide +kernel
theorem dX1_init_12 : decode cX1_init 12 = .ok (.aload_n 0, 1) := by decide +kernel
theorem dX1_init_13 : decode cX1_init 13 = .ok (.bipush 14, 2) := by decide +kernel
theorem dX1_init_15 : decode cX1_init 15 = .ok (.newarray .byte, 2) := by decide +kernel
theorem dX1_init_17 : decode cX1_init 17 = .ok (.putfield 13, 3) := by decide +kernel
theorem dX1_init_20 : decode cX1_init 20 = .ok (.aload_n 0, 1) := by decide +kernel
theorem dX1_init_21 : decode cX1_init 21 = .ok (.bipush 16, 2) := by decide +kernel
theorem dX1_init_23 : decode cX1_init 23 = .ok (.newarray .byte, 2) := by decide +kernel
theorem dX1_init_25 : decode cX1_init 25 = .ok (.putfield 16, 3) := by decide +kernel
theorem dX1_init_28 : decode cX1_init 28 = .ok (.aload_n 0, 1) := by decide +kernel
theorem dX1_init_29 : decode cX1_init 29 = .ok (.bipush 16, 2) := by decide +kernel
theorem dX1_init_31 : decode cX1_init 31 = .ok (.newarray .byte, 2) := by decide +kernel
theorem dX1_init_33 : decode cX1_init 33 = .ok (.putfield 19, 3) := by decide +kernel
theorem dX1_init_36 : decode cX1_init 36 = .ok (.aload_n 0, 1) := by decide +kernel
theorem dX1_init_37 : decode cX1_init 37 = .ok (.sipush 200, 3) := by decide +kernel
theorem dX1_init_40 : decode cX1_init 40 = .ok (.newarray .byte, 2) := by decide +kernel
theorem dX1_init_42 : decode cX1_init 42 = .ok (.putfield 22, 3) := by decide +kernel
theorem dX1_init_45 : decode cX1_init 45 = .ok (.aload_n 0, 1) := by decide +kernel
theorem dX1_init_46 : decode cX1_init 46 = .ok (.iconst 4, 1) := by decide +kernel
theorem dX1_init_47 : decode cX1_init 47 = .ok (.newarray .long, 2) := by decide +kernel
theorem dX1_init_49 : decode cX1_init 49 = .ok (.putfield 25, 3) := by decide +kernel
theorem dX1_init_52 : decode cX1_init 52 = .ok (.aload_n 0, 1) := by decide +kernel
theorem dX1_init_53 : decode cX1_init 53 = .ok (.bipush 14, 2) := by decide +kernel
theorem dX1_init_55 : decode cX1_init 55 = .ok (.newarray .boolean, 2) := by decide +kernel
theorem dX1_init_57 : decode cX1_init 57 = .ok (.putfield 29, 3) := by decide +kernel
theorem dX1_init_60 : decode cX1_init 60 = .ok (.aload_n 0, 1) := by decide +kernel
theorem dX1_init_61 : decode cX1_init 61 = .ok (.bipush 14, 2) := by decide +kernel
theorem dX1_init_63 : decode cX1_init 63 = .ok (.newarray .boolean, 2) := by decide +kernel
theorem dX1_init_65 : decode cX1_init 65 = .ok (.putfield 33, 3) := by decide +kernel
theorem dX1_init_68 : decode cX1_init 68 = .ok (.aload_n 0, 1) := by decide +kernel
theorem dX1_init_69 : decode cX1_init 69 = .ok (.bipush 14, 2) := by decide +kernel
theorem dX1_init_71 : decode cX1_init 71 = .ok (.newarray .boolean, 2) := by decide +kernel
theorem dX1_init_73 : decode cX1_init 73 = .ok (.putfield 36, 3) := by decide +kernel
theorem dX1_init_76 : decode cX1_init 76 = .ok (.aload_n 0, 1) := by decide +kernel
theorem dX1_init_77 : decode cX1_init 77 = .ok (.bipush 14, 2) := by decide +kernel
theorem dX1_init_79 : decode cX1_init 79 = .ok (.newarray .short, 2) := by decide +kernel
theorem dX1_init_81 : decode cX1_init 81 = .ok (.putfield 39, 3) := by decide +kernel
theorem dX1_init_84 : decode cX1_init 84 = .ok (.aload_n 0, 1) := by decide +kernel
theorem dX1_init_85 : decode cX1_init 85 = .ok (.bipush 14, 2) := by decide +kernel
theorem dX1_init_87 : decode cX1_init 87 = .ok (.newarray .boolean, 2) := by decide +kernel
theorem dX1_init_89 : decode cX1_init 89 = .ok (.putfield 43, 3) := by decide +kernel
theorem dX1_init_92 : decode cX1_init 92 = .ok (.aload_n 0, 1) := by decide +kernel
theorem dX1_init_93 : decode cX1_init 93 = .ok (.bipush 14, 2) := by decide +kernel
theorem dX1_init_95 : decode cX1_init 95 = .ok (.newarray .boolean, 2) := by decide +kernel
theorem dX1_init_97 : decode cX1_init 97 = .ok (.putfield 46, 3) := by decide +kernel
theorem dX1_init_100 : decode cX1_init 100 = .ok (.aload_n 0, 1) := by decide +kernel
theorem dX1_init_101 : decode cX1_init 101 = .ok (.bipush 14, 2) := by decide +kernel
theorem dX1_init_103 : decode cX1_init 103 = .ok (.newarray .short, 2) := by decide +kernel
theorem dX1_init_105 : decode cX1_init 105 = .ok (.putfield 49, 3) := by decide +kernel
theorem dX1_init_108 : decode cX1_init 108 = .ok (.aload_n 0, 1) := by decide +kernel
theorem dX1_init_109 : decode cX1_init 109 = .ok (.iload_n 1, 1) := by decide +kernel
theorem dX1_init_110 : decode cX1_init 110 = .ok (.ifCond .ge 7, 3) := by decide +kernel
theorem dX1_init_113 : decode cX1_init 113 = .ok (.iconst 0, 1) := by decide +kernel
theorem dX1_init_114 : decode cX1_init 114 = .ok (.goto 15, 3) := by decide +kernel
theorem dX1_init_117 : decode cX1_init 117 = .ok (.iload_n 1, 1) := by decide +kernel
theorem dX1_init_118 : decode cX1_init 118 = .ok (.bipush 12, 2) := by decide +kernel
theorem dX1_init_120 : decode cX1_init 120 = .ok (.if_icmp .le 8, 3) := by decide +kernel
theorem dX1_init_123 : decode cX1_init 123 = .ok (.bipush 12, 2) := by decide +kernel
theorem dX1_init_125 : decode cX1_init 125 = .ok (.goto 4, 3) := by decide +kernel
theorem dX1_init_128 : decode cX1_init 128 = .ok (.iload_n 1, 1) := by decide +kernel
theorem dX1_init_129 : decode cX1_init 129 = .ok (.putfield 52, 3) := by decide +kernel
theorem dX1_init_132 : decode cX1_init 132 = .ok (.return_, 1) := by decide +kernel
theorem dX1_feed_0 : decode cX1_feed 0 = .ok (.iload_n 1, 1) := by decide +kernel
theorem dX1_feed_1 : decode cX1_feed 1 = .ok (.ifCond .lt 25, 3) := by decide +kernel
theorem dX1_feed_4 : decode cX1_feed 4 = .ok (.iload_n 1, 1) := by decide +kernel
theorem dX1_feed_5 : decode cX1_feed 5 = .ok (.bipush 12, 2) := by decide +kernel
theorem dX1_feed_7 : decode cX1_feed 7 = .ok (.if_icmp .gt 19, 3) := by decide +kernel
theorem dX1_feed_10 : decode cX1_feed 10 = .ok (.aload_n 0, 1) := by decide +kernel
theorem dX1_feed_11 : decode cX1_feed 11 = .ok (.getfield 56, 3) := by decide +kernel
theorem dX1_feed_14 : decode cX1_feed 14 = .ok (.bipush 14, 2) := by decide +kernel
theorem dX1_feed_16 : decode cX1_feed 16 = .ok (.if_icmp .ge 10, 3) := by decide +kernel
theorem dX1_feed_19 : decode cX1_feed 19 = .ok (.aload_n 0, 1) := by decide +kernel
theorem dX1_feed_20 : decode cX1_feed 20 = .ok (.invokevirtual 59, 3) := by decide +kernel
theorem dX1_feed_23 : decode cX1_feed 23 = .ok (.ifCond .eq 5, 3) := by decide +kernel
theorem dX1_feed_26 : decode cX1_feed 26 = .ok (.iconst (-1), 1) := by decide +kernel
theorem dX1_feed_27 : decode cX1_feed 27 = .ok (.ireturn, 1) := by decide +kernel
theorem dX1_feed_28 : decode cX1_feed 28 = .ok (.aload_n 0, 1) := by decide +kernel
theorem dX1_feed_29 : decode cX1_feed 29 = .ok (.getfield 7, 3) := by decide +kernel
theorem dX1_feed_32 : decode cX1_feed 32 = .ok (.aload_n 0, 1) := by decide +kernel
theorem dX1_feed_33 : decode cX1_feed 33 = .ok (.getfield 56, 3) := by decide +kernel
theorem dX1_feed_36 : decode cX1_feed 36 = .ok (.iload_n 1, 1) := by decide +kernel
theorem dX1_feed_37 : decode cX1_feed 37 = .ok (.i2b, 1) := by decide +kernel
theorem dX1_feed_38 : decode cX1_feed 38 = .ok (.bastore, 1) := by decide +kernel
theorem dX1_feed_39 : decode cX1_feed 39 = .ok (.aload_n 0, 1) := by decide +kernel
theorem dX1_feed_40 : decode cX1_feed 40 = .ok (.dup, 1) := by decide +kernel
theorem dX1_feed_41 : decode cX1_feed 41 = .ok (.getfield 56, 3) := by decide +kernel
theorem dX1_feed_44 : decode cX1_feed 44 = .ok (.iconst 1, 1) := by decide +kernel
theorem dX1_feed_45 : decode cX1_feed 45 = .ok (.iadd, 1) := by decide +kernel
theorem dX1_feed_46 : decode cX1_feed 46 = .ok (.putfield 56, 3) := by decide +kernel
theorem dX1_feed_49 : decode cX1_feed 49 = .ok (.aload_n 0, 1) := by decide +kernel
theorem dX1_feed_50 : decode cX1_feed 50 = .ok (.iconst 0, 1) := by decide +kernel
theorem dX1_feed_51 : decode cX1_feed 51 = .ok (.putfield 63, 3) := by decide +kernel
theorem dX1_feed_54 : decode cX1_feed 54 = .ok (.aload_n 0, 1) := by decide +kernel
theorem dX1_feed_55 : decode cX1_feed 55 = .ok (.getfield 56, 3) := by decide +kernel
theorem dX1_feed_58 : decode cX1_feed 58 = .ok (.ireturn, 1) := by decide +kernel
theorem dX1_complete_0 : decode cX1_complete 0 = .ok (.aload_n 0, 1) := by decide +kernel
theorem dX1_complete_1 : decode cX1_complete 1 = .ok (.iconst 0, 1) := by decide +kernel
theorem dX1_complete_2 : decode cX1_complete 2 = .ok (.putfield 66, 3) := by decide +kernel
theorem dX1_complete_5 : decode cX1_complete 5 = .ok (.iconst 0, 1) := by decide +kernel
theorem dX1_complete_6 : decode cX1_complete 6 = .ok (.istore_n 1, 1) := by decide +kernel
theorem dX1_complete_7 : decode cX1_complete 7 = .ok (.iload_n 1, 1) := by decide +kernel
theorem dX1_complete_8 : decode cX1_complete 8 = .ok (.aload_n 0, 1) := by decide +kernel
theorem dX1_complete_9 : decode cX1_complete 9 = .ok (.getfield 56, 3) := by decide +kernel
theorem dX1_complete_12 : decode cX1_complete 12 = .ok (.if_icmp .ge 67, 3) := by decide +kernel
theorem dX1_complete_15 : decode cX1_complete 15 = .ok (.aload_n 0, 1) := by decide +kernel
theorem dX1_complete_16 : decode cX1_complete 16 = .ok (.getfield 66, 3) := by decide +kernel
theorem dX1_complete_19 : decode cX1_complete 19 = .ok (.ifCond .le 8, 3) := by decide +kernel
theorem dX1_complete_22 : decode cX1_complete 22 = .ok (.aload_n 0, 1) := by decide +kernel
theorem dX1_complete_23 : decode cX1_complete 23 = .ok (.iload_n 1, 1) := by decide +kernel
theorem dX1_complete_24 : decode cX1_complete 24 = .ok (.invokevirtual 69, 3) := by decide +kernel
theorem dX1_complete_27 : decode cX1_complete 27 = .ok (.aload_n 0, 1) := by decide +kernel
theorem dX1_complete_28 : decode cX1_complete 28 = .ok (.getfield 7, 3) := by decide +kernel
theorem dX1_complete_31 : decode cX1_complete 31 = .ok (.iload_n 1, 1) := by decide +kernel
theorem dX1_complete_32 : decode cX1_complete 32 = .ok (.baload, 1) := by decide +kernel
theorem dX1_complete_33 : decode cX1_complete 33 = .ok (.invokestatic 73, 3) := by decide +kernel
theorem dX1_complete_36 : decode cX1_complete 36 = .ok (.istore_n 2, 1) := by decide +kernel
theorem dX1_complete_37 : decode cX1_complete 37 = .ok (.iload_n 2, 1) := by decide +kernel
theorem dX1_complete_38 : decode cX1_complete 38 = .ok (.ifCond .le 35, 3) := by decide +kernel
theorem dX1_complete_41 : decode cX1_complete 41 = .ok (.aload_n 0, 1) := by decide +kernel
theorem dX1_complete_42 : decode cX1_complete 42 = .ok (.getfield 16, 3) := by decide +kernel
theorem dX1_complete_45 : decode cX1_complete 45 = .ok (.aload_n 0, 1) := by decide +kernel
theorem dX1_complete_46 : decode cX1_complete 46 = .ok (.getfield 66, 3) := by decide +kernel
theorem dX1_complete_49 : decode cX1_complete 49 = .ok (.iload_n 1, 1) := by decide +kernel
theorem dX1_complete_50 : decode cX1_complete 50 = .ok (.i2b, 1) := by decide +kernel
theorem dX1_complete_51 : decode cX1_complete 51 = .ok (.bastore, 1) := by decide +kernel
theorem dX1_complete_52 : decode cX1_complete 52 = .ok (.aload_n 0, 1) := by decide +kernel
theorem dX1_complete_53 : decode cX1_complete 53 = .ok (.getfield 19, 3) := by decide +kernel
theorem dX1_complete_56 : decode cX1_complete 56 = .ok (.aload_n 0, 1) := by decide +kernel
theorem dX1_complete_57 : decode cX1_complete 57 = .ok (.getfield 66, 3) := by decide +kernel
theorem dX1_complete_60 : decode cX1_complete 60 = .ok (.iload_n 2, 1) := by decide +kernel
theorem dX1_complete_61 : decode cX1_complete 61 = .ok (.i2b, 1) := by decide +kernel
theorem dX1_complete_62 : decode cX1_complete 62 = .ok (.bastore, 1) := by decide +kernel
theorem dX1_complete_63 : decode cX1_complete 63 = .ok (.aload_n 0, 1) := by decide +kernel
theorem dX1_complete_64 : decode cX1_complete 64 = .ok (.dup, 1) := by decide +kernel
theorem dX1_complete_65 : decode cX1_complete 65 = .ok (.getfield 66, 3) := by decide +kernel
theorem dX1_complete_68 : decode cX1_complete 68 = .ok (.iconst 1, 1) := by decide +kernel
theorem dX1_complete_69 : decode cX1_complete 69 = .ok (.iadd, 1) := by decide +kernel
theorem dX1_complete_70 : decode cX1_complete 70 = .ok (.putfield 66, 3) := by decide +kernel
theorem dX1_complete_73 : decode cX1_complete 73 = .ok (.iinc 1 1, 3) := by decide +kernel
theorem dX1_complete_76 : decode cX1_complete 76 = .ok (.goto (-69), 3) := by decide +kernel
theorem dX1_complete_79 : decode cX1_complete 79 = .ok (.aload_n 0, 1) := by decide +kernel
theorem dX1_complete_80 : decode cX1_complete 80 = .ok (.getfield 56, 3) := by decide +kernel
theorem dX1_complete_83 : decode cX1_complete 83 = .ok (.ifCond .le 14, 3) := by decide +kernel
theorem dX1_complete_86 : decode cX1_complete 86 = .ok (.aload_n 0, 1) := by decide +kernel
theorem dX1_complete_87 : decode cX1_complete 87 = .ok (.getfield 66, 3) := by decide +kernel
theorem dX1_complete_90 : decode cX1_complete 90 = .ok (.ifCond .ne 7, 3) := by decide +kernel
theorem dX1_complete_93 : decode cX1_complete 93 = .ok (.iconst 1, 1) := by decide +kernel
theorem dX1_complete_94 : decode cX1_complete 94 = .ok (.goto 4, 3) := by decide +kernel
theorem dX1_complete_97 : decode cX1_complete 97 = .ok (.iconst 0, 1) := by decide +kernel
theorem dX1_complete_98 : decode cX1_complete 98 = .ok (.ireturn, 1) := by decide +kernel
theorem dX1_attach_0 : decode cX1_attach 0 = .ok (.aload_n 0, 1) := by decide +kernel
theorem dX1_attach_1 : decode cX1_attach 1 = .ok (.getfield 66, 3) := by decide +kernel
theorem dX1_attach_4 : decode cX1_attach 4 = .ok (.iconst 1, 1) := by decide +kernel
theorem dX1_attach_5 : decode cX1_attach 5 = .ok (.isub, 1) := by decide +kernel
theorem dX1_attach_6 : decode cX1_attach 6 = .ok (.istore_n 2, 1) := by decide +kernel
theorem dX1_attach_7 : decode cX1_attach 7 = .ok (.iload_n 1, 1) := by decide +kernel
theorem dX1_attach_8 : decode cX1_attach 8 = .ok (.aload_n 0, 1) := by decide +kernel
theorem dX1_attach_9 : decode cX1_attach 9 = .ok (.getfield 16, 3) := by decide +kernel
theorem dX1_attach_12 : decode cX1_attach 12 = .ok (.iload_n 2, 1) := by decide +kernel
theorem dX1_attach_13 : decode cX1_attach 13 = .ok (.baload, 1) := by decide +kernel
theorem dX1_attach_14 : decode cX1_attach 14 = .ok (.iconst 1, 1) := by decide +kernel
theorem dX1_attach_15 : decode cX1_attach 15 = .ok (.iadd, 1) := by decide +kernel
theorem dX1_attach_16 : decode cX1_attach 16 = .ok (.if_icmp .eq 16, 3) := by decide +kernel
theorem dX1_attach_19 : decode cX1_attach 19 = .ok (.aload_n 0, 1) := by decide +kernel
theorem dX1_attach_20 : decode cX1_attach 20 = .ok (.getfield 13, 3) := by decide +kernel
theorem dX1_attach_23 : decode cX1_attach 23 = .ok (.aload_n 0, 1) := by decide +kernel
theorem dX1_attach_24 : decode cX1_attach 24 = .ok (.getfield 16, 3) := by decide +kernel
theorem dX1_attach_27 : decode cX1_attach 27 = .ok (.iload_n 2, 1) := by decide +kernel
theorem dX1_attach_28 : decode cX1_attach 28 = .ok (.baload, 1) := by decide +kernel
theorem dX1_attach_29 : decode cX1_attach 29 = .ok (.iload_n 1, 1) := by decide +kernel
theorem dX1_attach_30 : decode cX1_attach 30 = .ok (.i2b, 1) := by decide +kernel
theorem dX1_attach_31 : decode cX1_attach 31 = .ok (.bastore, 1) := by decide +kernel
theorem dX1_attach_32 : decode cX1_attach 32 = .ok (.aload_n 0, 1) := by decide +kernel
theorem dX1_attach_33 : decode cX1_attach 33 = .ok (.getfield 19, 3) := by decide +kernel
theorem dX1_attach_36 : decode cX1_attach 36 = .ok (.iload_n 2, 1) := by decide +kernel
theorem dX1_attach_37 : decode cX1_attach 37 = .ok (.dup2, 1) := by decide +kernel
theorem dX1_attach_38 : decode cX1_attach 38 = .ok (.baload, 1) := by decide +kernel
theorem dX1_attach_39 : decode cX1_attach 39 = .ok (.iconst 1, 1) := by decide +kernel
theorem dX1_attach_40 : decode cX1_attach 40 = .ok (.isub, 1) := by decide +kernel
theorem dX1_attach_41 : decode cX1_attach 41 = .ok (.i2b, 1) := by decide +kernel
theorem dX1_attach_42 : decode cX1_attach 42 = .ok (.bastore, 1) := by decide +kernel
theorem dX1_attach_43 : decode cX1_attach 43 = .ok (.aload_n 0, 1) := by decide +kernel
theorem dX1_attach_44 : decode cX1_attach 44 = .ok (.getfield 19, 3) := by decide +kernel
theorem dX1_attach_47 : decode cX1_attach 47 = .ok (.iload_n 2, 1) := by decide +kernel
theorem dX1_attach_48 : decode cX1_attach 48 = .ok (.baload, 1) := by decide +kernel
theorem dX1_attach_49 : decode cX1_attach 49 = .ok (.ifCond .ne 13, 3) := by decide +kernel
theorem dX1_attach_52 : decode cX1_attach 52 = .ok (.aload_n 0, 1) := by decide +kernel
theorem dX1_attach_53 : decode cX1_attach 53 = .ok (.dup, 1) := by decide +kernel
theorem dX1_attach_54 : decode cX1_attach 54 = .ok (.getfield 66, 3) := by decide +kernel
theorem dX1_attach_57 : decode cX1_attach 57 = .ok (.iconst 1, 1) := by decide +kernel
theorem dX1_attach_58 : decode cX1_attach 58 = .ok (.isub, 1) := by decide +kernel
theorem dX1_attach_59 : decode cX1_attach 59 = .ok (.putfield 66, 3) := by decide +kernel
theorem dX1_attach_62 : decode cX1_attach 62 = .ok (.return_, 1) := by decide +kernel
theorem dX1_wants_0 : decode cX1_wants 0 = .ok (.iload_n 0, 1) := by decide +kernel
theorem dX1_wants_1 : decode cX1_wants 1 = .ok (.iconst 5, 1) := by decide +kernel
theorem dX1_wants_2 : decode cX1_wants 2 = .ok (.if_icmp .eq 15, 3) := by decide +kernel
theorem dX1_wants_5 : decode cX1_wants 5 = .ok (.iload_n 0, 1) := by decide +kernel
theorem dX1_wants_6 : decode cX1_wants 6 = .ok (.bipush 6, 2) := by decide +kernel
theorem dX1_wants_8 : decode cX1_wants 8 = .ok (.if_icmp .eq 9, 3) := by decide +kernel
theorem dX1_wants_11 : decode cX1_wants 11 = .ok (.iload_n 0, 1) := by decide +kernel
theorem dX1_wants_12 : decode cX1_wants 12 = .ok (.bipush 10, 2) := by decide +kernel
theorem dX1_wants_14 : decode cX1_wants 14 = .ok (.if_icmp .ne 5, 3) := by decide +kernel
theorem dX1_wants_17 : decode cX1_wants 17 = .ok (.iconst 2, 1) := by decide +kernel
theorem dX1_wants_18 : decode cX1_wants 18 = .ok (.ireturn, 1) := by decide +kernel
theorem dX1_wants_19 : decode cX1_wants 19 = .ok (.iload_n 0, 1) := by decide +kernel
theorem dX1_wants_20 : decode cX1_wants 20 = .ok (.iconst 4, 1) := by decide +kernel
theorem dX1_wants_21 : decode cX1_wants 21 = .ok (.if_icmp .ge 7, 3) := by decide +kernel
theorem dX1_wants_24 : decode cX1_wants 24 = .ok (.iconst 0, 1) := by decide +kernel
theorem dX1_wants_25 : decode cX1_wants 25 = .ok (.goto 4, 3) := by decide +kernel
theorem dX1_wants_28 : decode cX1_wants 28 = .ok (.iconst 1, 1) := by decide +kernel
theorem dX1_wants_29 : decode cX1_wants 29 = .ok (.ireturn, 1) := by decide +kernel
theorem dX1_back_0 : decode cX1_back 0 = .ok (.aload_n 0, 1) := by decide +kernel
theorem dX1_back_1 : decode cX1_back 1 = .ok (.getfield 56, 3) := by decide +kernel
theorem dX1_back_4 : decode cX1_back 4 = .ok (.ifCond .ne 5, 3) := by decide +kernel
theorem dX1_back_7 : decode cX1_back 7 = .ok (.iconst (-1), 1) := by decide +kernel
theorem dX1_back_8 : decode cX1_back 8 = .ok (.ireturn, 1) := by decide +kernel
theorem dX1_back_9 : decode cX1_back 9 = .ok (.aload_n 0, 1) := by decide +kernel
theorem dX1_back_10 : decode cX1_back 10 = .ok (.dup, 1) := by decide +kernel
theorem dX1_back_11 : decode cX1_back 11 = .ok (.getfield 56, 3) := by decide +kernel
theorem dX1_back_14 : decode cX1_back 14 = .ok (.iconst 1, 1) := by decide +kernel
theorem dX1_back_15 : decode cX1_back 15 = .ok (.isub, 1) := by decide +kernel
theorem dX1_back_16 : decode cX1_back 16 = .ok (.putfield 56, 3) := by decide +kernel
theorem dX1_back_19 : decode cX1_back 19 = .ok (.aload_n 0, 1) := by decide +kernel
theorem dX1_back_20 : decode cX1_back 20 = .ok (.iconst 0, 1) := by decide +kernel
theorem dX1_back_21 : decode cX1_back 21 = .ok (.putfield 63, 3) := by decide +kernel
theorem dX1_back_24 : decode cX1_back 24 = .ok (.aload_n 0, 1) := by decide +kernel
theorem dX1_back_25 : decode cX1_back 25 = .ok (.getfield 7, 3) := by decide +kernel
theorem dX1_back_28 : decode cX1_back 28 = .ok (.aload_n 0, 1) := by decide +kernel
theorem dX1_back_29 : decode cX1_back 29 = .ok (.getfield 56, 3) := by decide +kernel
theorem dX1_back_32 : decode cX1_back 32 = .ok (.baload, 1) := by decide +kernel
theorem dX1_back_33 : decode cX1_back 33 = .ok (.ireturn, 1) := by decide +kernel
theorem dX1_window_0 : decode cX1_window 0 = .ok (.aload_n 0, 1) := by decide +kernel
theorem dX1_window_1 : decode cX1_window 1 = .ok (.getfield 52, 3) := by decide +kernel
theorem dX1_window_4 : decode cX1_window 4 = .ok (.ireturn, 1) := by decide +kernel
theorem dX1_event_0 : decode cX1_event 0 = .ok (.iload_n 1, 1) := by decide +kernel
theorem dX1_event_1 : decode cX1_event 1 = .ok (.ifCond .lt 9, 3) := by decide +kernel
theorem dX1_event_4 : decode cX1_event 4 = .ok (.iload_n 1, 1) := by decide +kernel
theorem dX1_event_5 : decode cX1_event 5 = .ok (.bipush 15, 2) := by decide +kernel
theorem dX1_event_7 : decode cX1_event 7 = .ok (.if_icmp .le 5, 3) := by decide +kernel
theorem dX1_event_10 : decode cX1_event 10 = .ok (.iconst (-1), 1) := by decide +kernel
theorem dX1_event_11 : decode cX1_event 11 = .ok (.ireturn, 1) := by decide +kernel
theorem dX1_event_12 : decode cX1_event 12 = .ok (.aload_n 0, 1) := by decide +kernel
theorem dX1_event_13 : decode cX1_event 13 = .ok (.getfield 77, 3) := by decide +kernel
theorem dX1_event_16 : decode cX1_event 16 = .ok (.sipush 200, 3) := by decide +kernel
theorem dX1_event_19 : decode cX1_event 19 = .ok (.if_icmp .lt 6, 3) := by decide +kernel
theorem dX1_event_22 : decode cX1_event 22 = .ok (.bipush (-2), 2) := by decide +kernel
theorem dX1_event_24 : decode cX1_event 24 = .ok (.ireturn, 1) := by decide +kernel
theorem dX1_event_25 : decode cX1_event 25 = .ok (.aload_n 0, 1) := by decide +kernel
theorem dX1_event_26 : decode cX1_event 26 = .ok (.getfield 22, 3) := by decide +kernel
theorem dX1_event_29 : decode cX1_event 29 = .ok (.aload_n 0, 1) := by decide +kernel
theorem dX1_event_30 : decode cX1_event 30 = .ok (.getfield 77, 3) := by decide +kernel
theorem dX1_event_33 : decode cX1_event 33 = .ok (.iload_n 1, 1) := by decide +kernel
theorem dX1_event_34 : decode cX1_event 34 = .ok (.i2b, 1) := by decide +kernel
theorem dX1_event_35 : decode cX1_event 35 = .ok (.bastore, 1) := by decide +kernel
theorem dX1_event_36 : decode cX1_event 36 = .ok (.aload_n 0, 1) := by decide +kernel
theorem dX1_event_37 : decode cX1_event 37 = .ok (.dup, 1) := by decide +kernel
theorem dX1_event_38 : decode cX1_event 38 = .ok (.getfield 77, 3) := by decide +kernel
theorem dX1_event_41 : decode cX1_event 41 = .ok (.iconst 1, 1) := by decide +kernel
theorem dX1_event_42 : decode cX1_event 42 = .ok (.iadd, 1) := by decide +kernel
theorem dX1_event_43 : decode cX1_event 43 = .ok (.putfield 77, 3) := by decide +kernel
theorem dX1_event_46 : decode cX1_event 46 = .ok (.aload_n 0, 1) := by decide +kernel
theorem dX1_event_47 : decode cX1_event 47 = .ok (.getfield 77, 3) := by decide +kernel
theorem dX1_event_50 : decode cX1_event 50 = .ok (.iconst 1, 1) := by decide +kernel
theorem dX1_event_51 : decode cX1_event 51 = .ok (.isub, 1) := by decide +kernel
theorem dX1_event_52 : decode cX1_event 52 = .ok (.ireturn, 1) := by decide +kernel
theorem dX1_undo_0 : decode cX1_undo 0 = .ok (.aload_n 0, 1) := by decide +kernel
theorem dX1_undo_1 : decode cX1_undo 1 = .ok (.getfield 77, 3) := by decide +kernel
theorem dX1_undo_4 : decode cX1_undo 4 = .ok (.ifCond .ne 5, 3) := by decide +kernel
theorem dX1_undo_7 : decode cX1_undo 7 = .ok (.iconst (-1), 1) := by decide +kernel
theorem dX1_undo_8 : decode cX1_undo 8 = .ok (.ireturn, 1) := by decide +kernel
theorem dX1_undo_9 : decode cX1_undo 9 = .ok (.aload_n 0, 1) := by decide +kernel
theorem dX1_undo_10 : decode cX1_undo 10 = .ok (.dup, 1) := by decide +kernel
theorem dX1_undo_11 : decode cX1_undo 11 = .ok (.getfield 77, 3) := by decide +kernel
theorem dX1_undo_14 : decode cX1_undo 14 = .ok (.iconst 1, 1) := by decide +kernel
theorem dX1_undo_15 : decode cX1_undo 15 = .ok (.isub, 1) := by decide +kernel
theorem dX1_undo_16 : decode cX1_undo 16 = .ok (.putfield 77, 3) := by decide +kernel
theorem dX1_undo_19 : decode cX1_undo 19 = .ok (.aload_n 0, 1) := by decide +kernel
theorem dX1_undo_20 : decode cX1_undo 20 = .ok (.getfield 63, 3) := by decide +kernel
end
section
set_option maxRecDepth 100000
theorem dX1_undo_23 : decode cX1_undo 23 = .ok (.aload_n 0, 1) := by decide +kernel
theorem dX1_undo_24 : decode cX1_undo 24 = .ok (.getfield 77, 3) := by decide +kernel
theorem dX1_undo_27 : decode cX1_undo 27 = .ok (.if_icmp .le 8, 3) := by decide +kernel
theorem dX1_undo_30 : decode cX1_undo 30 = .ok (.aload_n 0, 1) := by decide +kernel
theorem dX1_undo_31 : decode cX1_undo 31 = .ok (.iconst 0, 1) := by decide +kernel
theorem dX1_undo_32 : decode cX1_undo 32 = .ok (.putfield 63, 3) := by decide +kernel
theorem dX1_undo_35 : decode cX1_undo 35 = .ok (.aload_n 0, 1) := by decide +kernel
theorem dX1_undo_36 : decode cX1_undo 36 = .ok (.getfield 77, 3) := by decide +kernel
theorem dX1_undo_39 : decode cX1_undo 39 = .ok (.ireturn, 1) := by decide +kernel
theorem dX1_restart_0 : decode cX1_restart 0 = .ok (.aload_n 0, 1) := by decide +kernel
theorem dX1_restart_1 : decode cX1_restart 1 = .ok (.iconst 0, 1) := by decide +kernel
theorem dX1_restart_2 : decode cX1_restart 2 = .ok (.putfield 77, 3) := by decide +kernel
theorem dX1_restart_5 : decode cX1_restart 5 = .ok (.aload_n 0, 1) := by decide +kernel
theorem dX1_restart_6 : decode cX1_restart 6 = .ok (.iconst 0, 1) := by decide +kernel
theorem dX1_restart_7 : decode cX1_restart 7 = .ok (.putfield 63, 3) := by decide +kernel
theorem dX1_restart_10 : decode cX1_restart 10 = .ok (.return_, 1) := by decide +kernel
theorem dX1_events_0 : decode cX1_events 0 = .ok (.aload_n 0, 1) := by decide +kernel
theorem dX1_events_1 : decode cX1_events 1 = .ok (.getfield 77, 3) := by decide +kernel
theorem dX1_events_4 : decode cX1_events 4 = .ok (.ireturn, 1) := by decide +kernel
theorem dX1_now_0 : decode cX1_now 0 = .ok (.aload_n 0, 1) := by decide +kernel
theorem dX1_now_1 : decode cX1_now 1 = .ok (.aload_n 0, 1) := by decide +kernel
theorem dX1_now_2 : decode cX1_now 2 = .ok (.getfield 77, 3) := by decide +kernel
theorem dX1_now_5 : decode cX1_now 5 = .ok (.iconst 1, 1) := by decide +kernel
theorem dX1_now_6 : decode cX1_now 6 = .ok (.isub, 1) := by decide +kernel
theorem dX1_now_7 : decode cX1_now 7 = .ok (.invokevirtual 97, 3) := by decide +kernel
theorem dX1_now_10 : decode cX1_now 10 = .ok (.ireturn, 1) := by decide +kernel
theorem dX1_at_0 : decode cX1_at 0 = .ok (.iload_n 1, 1) := by decide +kernel
theorem dX1_at_1 : decode cX1_at 1 = .ok (.ifCond .lt 30, 3) := by decide +kernel
theorem dX1_at_4 : decode cX1_at 4 = .ok (.iload_n 1, 1) := by decide +kernel
theorem dX1_at_5 : decode cX1_at 5 = .ok (.aload_n 0, 1) := by decide +kernel
theorem dX1_at_6 : decode cX1_at 6 = .ok (.getfield 77, 3) := by decide +kernel
theorem dX1_at_9 : decode cX1_at 9 = .ok (.if_icmp .ge 22, 3) := by decide +kernel
theorem dX1_at_12 : decode cX1_at 12 = .ok (.aload_n 0, 1) := by decide +kernel
theorem dX1_at_13 : decode cX1_at 13 = .ok (.invokevirtual 101, 3) := by decide +kernel
theorem dX1_at_16 : decode cX1_at 16 = .ok (.ifCond .eq 15, 3) := by decide +kernel
theorem dX1_at_19 : decode cX1_at 19 = .ok (.aload_n 0, 1) := by decide +kernel
theorem dX1_at_20 : decode cX1_at 20 = .ok (.iload_n 1, 1) := by decide +kernel
theorem dX1_at_21 : decode cX1_at 21 = .ok (.invokevirtual 104, 3) := by decide +kernel
theorem dX1_at_24 : decode cX1_at 24 = .ok (.ifCond .eq 7, 3) := by decide +kernel
theorem dX1_at_27 : decode cX1_at 27 = .ok (.iconst 1, 1) := by decide +kernel
theorem dX1_at_28 : decode cX1_at 28 = .ok (.goto 4, 3) := by decide +kernel
theorem dX1_at_31 : decode cX1_at 31 = .ok (.iconst 0, 1) := by decide +kernel
theorem dX1_at_32 : decode cX1_at 32 = .ok (.ireturn, 1) := by decide +kernel
theorem dX1_judge_0 : decode cX1_judge 0 = .ok (.aload_n 0, 1) := by decide +kernel
theorem dX1_judge_1 : decode cX1_judge 1 = .ok (.invokevirtual 59, 3) := by decide +kernel
theorem dX1_judge_4 : decode cX1_judge 4 = .ok (.ifCond .ne 5, 3) := by decide +kernel
theorem dX1_judge_7 : decode cX1_judge 7 = .ok (.iconst 0, 1) := by decide +kernel
theorem dX1_judge_8 : decode cX1_judge 8 = .ok (.ireturn, 1) := by decide +kernel
theorem dX1_judge_9 : decode cX1_judge 9 = .ok (.aload_n 0, 1) := by decide +kernel
theorem dX1_judge_10 : decode cX1_judge 10 = .ok (.getfield 63, 3) := by decide +kernel
theorem dX1_judge_13 : decode cX1_judge 13 = .ok (.ifCond .ne 7, 3) := by decide +kernel
theorem dX1_judge_16 : decode cX1_judge 16 = .ok (.aload_n 0, 1) := by decide +kernel
theorem dX1_judge_17 : decode cX1_judge 17 = .ok (.invokevirtual 80, 3) := by decide +kernel
theorem dX1_judge_20 : decode cX1_judge 20 = .ok (.aload_n 0, 1) := by decide +kernel
theorem dX1_judge_21 : decode cX1_judge 21 = .ok (.getfield 63, 3) := by decide +kernel
theorem dX1_judge_24 : decode cX1_judge 24 = .ok (.aload_n 0, 1) := by decide +kernel
theorem dX1_judge_25 : decode cX1_judge 25 = .ok (.getfield 77, 3) := by decide +kernel
theorem dX1_judge_28 : decode cX1_judge 28 = .ok (.if_icmp .ge 89, 3) := by decide +kernel
theorem dX1_judge_31 : decode cX1_judge 31 = .ok (.aload_n 0, 1) := by decide +kernel
theorem dX1_judge_32 : decode cX1_judge 32 = .ok (.aload_n 0, 1) := by decide +kernel
theorem dX1_judge_33 : decode cX1_judge 33 = .ok (.getfield 22, 3) := by decide +kernel
theorem dX1_judge_36 : decode cX1_judge 36 = .ok (.aload_n 0, 1) := by decide +kernel
theorem dX1_judge_37 : decode cX1_judge 37 = .ok (.getfield 63, 3) := by decide +kernel
theorem dX1_judge_40 : decode cX1_judge 40 = .ok (.baload, 1) := by decide +kernel
theorem dX1_judge_41 : decode cX1_judge 41 = .ok (.aload_n 0, 1) := by decide +kernel
theorem dX1_judge_42 : decode cX1_judge 42 = .ok (.getfield 63, 3) := by decide +kernel
theorem dX1_judge_45 : decode cX1_judge 45 = .ok (.invokevirtual 83, 3) := by decide +kernel
theorem dX1_judge_48 : decode cX1_judge 48 = .ok (.istore_n 1, 1) := by decide +kernel
theorem dX1_judge_49 : decode cX1_judge 49 = .ok (.lconst 1, 1) := by decide +kernel
theorem dX1_judge_50 : decode cX1_judge 50 = .ok (.aload_n 0, 1) := by decide +kernel
theorem dX1_judge_51 : decode cX1_judge 51 = .ok (.getfield 63, 3) := by decide +kernel
theorem dX1_judge_54 : decode cX1_judge 54 = .ok (.bipush 63, 2) := by decide +kernel
theorem dX1_judge_56 : decode cX1_judge 56 = .ok (.iand, 1) := by decide +kernel
theorem dX1_judge_57 : decode cX1_judge 57 = .ok (.lshl, 1) := by decide +kernel
theorem dX1_judge_58 : decode cX1_judge 58 = .ok (.lstore_n 2, 1) := by decide +kernel
theorem dX1_judge_59 : decode cX1_judge 59 = .ok (.aload_n 0, 1) := by decide +kernel
theorem dX1_judge_60 : decode cX1_judge 60 = .ok (.getfield 63, 3) := by decide +kernel
theorem dX1_judge_63 : decode cX1_judge 63 = .ok (.bipush 6, 2) := by decide +kernel
theorem dX1_judge_65 : decode cX1_judge 65 = .ok (.ishr, 1) := by decide +kernel
theorem dX1_judge_66 : decode cX1_judge 66 = .ok (.istore 4, 2) := by decide +kernel
theorem dX1_judge_68 : decode cX1_judge 68 = .ok (.aload_n 0, 1) := by decide +kernel
theorem dX1_judge_69 : decode cX1_judge 69 = .ok (.getfield 25, 3) := by decide +kernel
theorem dX1_judge_72 : decode cX1_judge 72 = .ok (.iload 4, 2) := by decide +kernel
theorem dX1_judge_74 : decode cX1_judge 74 = .ok (.iload_n 1, 1) := by decide +kernel
theorem dX1_judge_75 : decode cX1_judge 75 = .ok (.ifCond .eq 15, 3) := by decide +kernel
theorem dX1_judge_78 : decode cX1_judge 78 = .ok (.aload_n 0, 1) := by decide +kernel
theorem dX1_judge_79 : decode cX1_judge 79 = .ok (.getfield 25, 3) := by decide +kernel
theorem dX1_judge_82 : decode cX1_judge 82 = .ok (.iload 4, 2) := by decide +kernel
theorem dX1_judge_84 : decode cX1_judge 84 = .ok (.laload, 1) := by decide +kernel
theorem dX1_judge_85 : decode cX1_judge 85 = .ok (.lload_n 2, 1) := by decide +kernel
theorem dX1_judge_86 : decode cX1_judge 86 = .ok (.lor, 1) := by decide +kernel
theorem dX1_judge_87 : decode cX1_judge 87 = .ok (.goto 16, 3) := by decide +kernel
theorem dX1_judge_90 : decode cX1_judge 90 = .ok (.aload_n 0, 1) := by decide +kernel
theorem dX1_judge_91 : decode cX1_judge 91 = .ok (.getfield 25, 3) := by decide +kernel
theorem dX1_judge_94 : decode cX1_judge 94 = .ok (.iload 4, 2) := by decide +kernel
theorem dX1_judge_96 : decode cX1_judge 96 = .ok (.laload, 1) := by decide +kernel
theorem dX1_judge_97 : decode cX1_judge 97 = .ok (.lload_n 2, 1) := by decide +kernel
theorem dX1_judge_98 : decode cX1_judge 98 = .ok (.ldc2_w 87, 3) := by decide +kernel
theorem dX1_judge_101 : decode cX1_judge 101 = .ok (.lxor, 1) := by decide +kernel
theorem dX1_judge_102 : decode cX1_judge 102 = .ok (.land, 1) := by decide +kernel
theorem dX1_judge_103 : decode cX1_judge 103 = .ok (.lastore, 1) := by decide +kernel
theorem dX1_judge_104 : decode cX1_judge 104 = .ok (.aload_n 0, 1) := by decide +kernel
theorem dX1_judge_105 : decode cX1_judge 105 = .ok (.dup, 1) := by decide +kernel
theorem dX1_judge_106 : decode cX1_judge 106 = .ok (.getfield 63, 3) := by decide +kernel
theorem dX1_judge_109 : decode cX1_judge 109 = .ok (.iconst 1, 1) := by decide +kernel
theorem dX1_judge_110 : decode cX1_judge 110 = .ok (.iadd, 1) := by decide +kernel
theorem dX1_judge_111 : decode cX1_judge 111 = .ok (.putfield 63, 3) := by decide +kernel
theorem dX1_judge_114 : decode cX1_judge 114 = .ok (.goto (-94), 3) := by decide +kernel
theorem dX1_judge_117 : decode cX1_judge 117 = .ok (.iconst 1, 1) := by decide +kernel
theorem dX1_judge_118 : decode cX1_judge 118 = .ok (.ireturn, 1) := by decide +kernel
theorem dX1_begin_0 : decode cX1_begin 0 = .ok (.iconst 0, 1) := by decide +kernel
theorem dX1_begin_1 : decode cX1_begin 1 = .ok (.istore_n 1, 1) := by decide +kernel
theorem dX1_begin_2 : decode cX1_begin 2 = .ok (.iload_n 1, 1) := by decide +kernel
theorem dX1_begin_3 : decode cX1_begin 3 = .ok (.bipush 14, 2) := by decide +kernel
theorem dX1_begin_5 : decode cX1_begin 5 = .ok (.if_icmp .ge 45, 3) := by decide +kernel
theorem dX1_begin_8 : decode cX1_begin 8 = .ok (.aload_n 0, 1) := by decide +kernel
theorem dX1_begin_9 : decode cX1_begin 9 = .ok (.getfield 29, 3) := by decide +kernel
theorem dX1_begin_12 : decode cX1_begin 12 = .ok (.iload_n 1, 1) := by decide +kernel
theorem dX1_begin_13 : decode cX1_begin 13 = .ok (.iconst 0, 1) := by decide +kernel
theorem dX1_begin_14 : decode cX1_begin 14 = .ok (.bastore, 1) := by decide +kernel
theorem dX1_begin_15 : decode cX1_begin 15 = .ok (.aload_n 0, 1) := by decide +kernel
theorem dX1_begin_16 : decode cX1_begin 16 = .ok (.getfield 36, 3) := by decide +kernel
theorem dX1_begin_19 : decode cX1_begin 19 = .ok (.iload_n 1, 1) := by decide +kernel
theorem dX1_begin_20 : decode cX1_begin 20 = .ok (.aload_n 0, 1) := by decide +kernel
theorem dX1_begin_21 : decode cX1_begin 21 = .ok (.getfield 7, 3) := by decide +kernel
theorem dX1_begin_24 : decode cX1_begin 24 = .ok (.iload_n 1, 1) := by decide +kernel
theorem dX1_begin_25 : decode cX1_begin 25 = .ok (.baload, 1) := by decide +kernel
theorem dX1_begin_26 : decode cX1_begin 26 = .ok (.bipush 9, 2) := by decide +kernel
theorem dX1_begin_28 : decode cX1_begin 28 = .ok (.if_icmp .ne 7, 3) := by decide +kernel
theorem dX1_begin_31 : decode cX1_begin 31 = .ok (.iconst 1, 1) := by decide +kernel
theorem dX1_begin_32 : decode cX1_begin 32 = .ok (.goto 4, 3) := by decide +kernel
theorem dX1_begin_35 : decode cX1_begin 35 = .ok (.iconst 0, 1) := by decide +kernel
theorem dX1_begin_36 : decode cX1_begin 36 = .ok (.bastore, 1) := by decide +kernel
theorem dX1_begin_37 : decode cX1_begin 37 = .ok (.aload_n 0, 1) := by decide +kernel
theorem dX1_begin_38 : decode cX1_begin 38 = .ok (.getfield 39, 3) := by decide +kernel
theorem dX1_begin_41 : decode cX1_begin 41 = .ok (.iload_n 1, 1) := by decide +kernel
theorem dX1_begin_42 : decode cX1_begin 42 = .ok (.iconst (-1), 1) := by decide +kernel
theorem dX1_begin_43 : decode cX1_begin 43 = .ok (.sastore, 1) := by decide +kernel
theorem dX1_begin_44 : decode cX1_begin 44 = .ok (.iinc 1 1, 3) := by decide +kernel
theorem dX1_begin_47 : decode cX1_begin 47 = .ok (.goto (-45), 3) := by decide +kernel
theorem dX1_begin_50 : decode cX1_begin 50 = .ok (.return_, 1) := by decide +kernel
theorem dX1_step_0 : decode cX1_step 0 = .ok (.iconst 0, 1) := by decide +kernel
theorem dX1_step_1 : decode cX1_step 1 = .ok (.istore_n 3, 1) := by decide +kernel
theorem dX1_step_2 : decode cX1_step 2 = .ok (.iload_n 3, 1) := by decide +kernel
theorem dX1_step_3 : decode cX1_step 3 = .ok (.aload_n 0, 1) := by decide +kernel
theorem dX1_step_4 : decode cX1_step 4 = .ok (.getfield 56, 3) := by decide +kernel
theorem dX1_step_7 : decode cX1_step 7 = .ok (.if_icmp .ge 21, 3) := by decide +kernel
theorem dX1_step_10 : decode cX1_step 10 = .ok (.aload_n 0, 1) := by decide +kernel
theorem dX1_step_11 : decode cX1_step 11 = .ok (.getfield 33, 3) := by decide +kernel
theorem dX1_step_14 : decode cX1_step 14 = .ok (.iload_n 3, 1) := by decide +kernel
theorem dX1_step_15 : decode cX1_step 15 = .ok (.aload_n 0, 1) := by decide +kernel
theorem dX1_step_16 : decode cX1_step 16 = .ok (.getfield 29, 3) := by decide +kernel
theorem dX1_step_19 : decode cX1_step 19 = .ok (.iload_n 3, 1) := by decide +kernel
theorem dX1_step_20 : decode cX1_step 20 = .ok (.baload, 1) := by decide +kernel
theorem dX1_step_21 : decode cX1_step 21 = .ok (.bastore, 1) := by decide +kernel
theorem dX1_step_22 : decode cX1_step 22 = .ok (.iinc 3 1, 3) := by decide +kernel
theorem dX1_step_25 : decode cX1_step 25 = .ok (.goto (-23), 3) := by decide +kernel
theorem dX1_step_28 : decode cX1_step 28 = .ok (.aload_n 0, 1) := by decide +kernel
theorem dX1_step_29 : decode cX1_step 29 = .ok (.getfield 56, 3) := by decide +kernel
theorem dX1_step_32 : decode cX1_step 32 = .ok (.iconst 1, 1) := by decide +kernel
theorem dX1_step_33 : decode cX1_step 33 = .ok (.isub, 1) := by decide +kernel
theorem dX1_step_34 : decode cX1_step 34 = .ok (.istore_n 3, 1) := by decide +kernel
theorem dX1_step_35 : decode cX1_step 35 = .ok (.iload_n 3, 1) := by decide +kernel
theorem dX1_step_36 : decode cX1_step 36 = .ok (.ifCond .lt 22, 3) := by decide +kernel
theorem dX1_step_39 : decode cX1_step 39 = .ok (.aload_n 0, 1) := by decide +kernel
theorem dX1_step_40 : decode cX1_step 40 = .ok (.getfield 29, 3) := by decide +kernel
theorem dX1_step_43 : decode cX1_step 43 = .ok (.iload_n 3, 1) := by decide +kernel
theorem dX1_step_44 : decode cX1_step 44 = .ok (.aload_n 0, 1) := by decide +kernel
theorem dX1_step_45 : decode cX1_step 45 = .ok (.iload_n 3, 1) := by decide +kernel
theorem dX1_step_46 : decode cX1_step 46 = .ok (.iload_n 1, 1) := by decide +kernel
theorem dX1_step_47 : decode cX1_step 47 = .ok (.iload_n 2, 1) := by decide +kernel
theorem dX1_step_48 : decode cX1_step 48 = .ok (.invokevirtual 89, 3) := by decide +kernel
theorem dX1_step_51 : decode cX1_step 51 = .ok (.bastore, 1) := by decide +kernel
theorem dX1_step_52 : decode cX1_step 52 = .ok (.iinc 3 (-1), 3) := by decide +kernel
theorem dX1_step_55 : decode cX1_step 55 = .ok (.goto (-20), 3) := by decide +kernel
theorem dX1_step_58 : decode cX1_step 58 = .ok (.aload_n 0, 1) := by decide +kernel
theorem dX1_step_59 : decode cX1_step 59 = .ok (.getfield 29, 3) := by decide +kernel
theorem dX1_step_62 : decode cX1_step 62 = .ok (.iconst 0, 1) := by decide +kernel
theorem dX1_step_63 : decode cX1_step 63 = .ok (.baload, 1) := by decide +kernel
theorem dX1_step_64 : decode cX1_step 64 = .ok (.ireturn, 1) := by decide +kernel
theorem dX1_partAt_0 : decode cX1_partAt 0 = .ok (.aload_n 0, 1) := by decide +kernel
theorem dX1_partAt_1 : decode cX1_partAt 1 = .ok (.getfield 7, 3) := by decide +kernel
theorem dX1_partAt_4 : decode cX1_partAt 4 = .ok (.iload_n 1, 1) := by decide +kernel
theorem dX1_partAt_5 : decode cX1_partAt 5 = .ok (.baload, 1) := by decide +kernel
theorem dX1_partAt_6 : decode cX1_partAt 6 = .ok (.istore 4, 2) := by decide +kernel
theorem dX1_partAt_8 : decode cX1_partAt 8 = .ok (.iload 4, 2) := by decide +kernel
theorem dX1_partAt_10 : decode cX1_partAt 10 = .ok (.iconst 4, 1) := by decide +kernel
theorem dX1_partAt_11 : decode cX1_partAt 11 = .ok (.if_icmp .ge 18, 3) := by decide +kernel
theorem dX1_partAt_14 : decode cX1_partAt 14 = .ok (.iload_n 2, 1) := by decide +kernel
theorem dX1_partAt_15 : decode cX1_partAt 15 = .ok (.iload 4, 2) := by decide +kernel
theorem dX1_partAt_17 : decode cX1_partAt 17 = .ok (.ishr, 1) := by decide +kernel
theorem dX1_partAt_18 : decode cX1_partAt 18 = .ok (.iconst 1, 1) := by decide +kernel
theorem dX1_partAt_19 : decode cX1_partAt 19 = .ok (.iand, 1) := by decide +kernel
theorem dX1_partAt_20 : decode cX1_partAt 20 = .ok (.ifCond .eq 7, 3) := by decide +kernel
theorem dX1_partAt_23 : decode cX1_partAt 23 = .ok (.iconst 1, 1) := by decide +kernel
theorem dX1_partAt_24 : decode cX1_partAt 24 = .ok (.goto 4, 3) := by decide +kernel
theorem dX1_partAt_27 : decode cX1_partAt 27 = .ok (.iconst 0, 1) := by decide +kernel
theorem dX1_partAt_28 : decode cX1_partAt 28 = .ok (.ireturn, 1) := by decide +kernel
theorem dX1_partAt_29 : decode cX1_partAt 29 = .ok (.aload_n 0, 1) := by decide +kernel
theorem dX1_partAt_30 : decode cX1_partAt 30 = .ok (.getfield 29, 3) := by decide +kernel
theorem dX1_partAt_33 : decode cX1_partAt 33 = .ok (.iload_n 1, 1) := by decide +kernel
theorem dX1_partAt_34 : decode cX1_partAt 34 = .ok (.iconst 1, 1) := by decide +kernel
theorem dX1_partAt_35 : decode cX1_partAt 35 = .ok (.iadd, 1) := by decide +kernel
theorem dX1_partAt_36 : decode cX1_partAt 36 = .ok (.baload, 1) := by decide +kernel
theorem dX1_partAt_37 : decode cX1_partAt 37 = .ok (.istore 5, 2) := by decide +kernel
theorem dX1_partAt_39 : decode cX1_partAt 39 = .ok (.iload 4, 2) := by decide +kernel
theorem dX1_partAt_41 : decode cX1_partAt 41 = .ok (.tableswitch 113 4 7 #[31, 42, 67, 92], 31) := by decide +kernel
theorem dX1_partAt_72 : decode cX1_partAt 72 = .ok (.iload 5, 2) := by decide +kernel
theorem dX1_partAt_74 : decode cX1_partAt 74 = .ok (.ifCond .ne 7, 3) := by decide +kernel
theorem dX1_partAt_77 : decode cX1_partAt 77 = .ok (.iconst 1, 1) := by decide +kernel
theorem dX1_partAt_78 : decode cX1_partAt 78 = .ok (.goto 4, 3) := by decide +kernel
theorem dX1_partAt_81 : decode cX1_partAt 81 = .ok (.iconst 0, 1) := by decide +kernel
theorem dX1_partAt_82 : decode cX1_partAt 82 = .ok (.ireturn, 1) := by decide +kernel
theorem dX1_partAt_83 : decode cX1_partAt 83 = .ok (.iload 5, 2) := by decide +kernel
theorem dX1_partAt_85 : decode cX1_partAt 85 = .ok (.ifCond .eq 21, 3) := by decide +kernel
theorem dX1_partAt_88 : decode cX1_partAt 88 = .ok (.aload_n 0, 1) := by decide +kernel
theorem dX1_partAt_89 : decode cX1_partAt 89 = .ok (.getfield 29, 3) := by decide +kernel
theorem dX1_partAt_92 : decode cX1_partAt 92 = .ok (.aload_n 0, 1) := by decide +kernel
theorem dX1_partAt_93 : decode cX1_partAt 93 = .ok (.getfield 13, 3) := by decide +kernel
theorem dX1_partAt_96 : decode cX1_partAt 96 = .ok (.iload_n 1, 1) := by decide +kernel
theorem dX1_partAt_97 : decode cX1_partAt 97 = .ok (.baload, 1) := by decide +kernel
theorem dX1_partAt_98 : decode cX1_partAt 98 = .ok (.baload, 1) := by decide +kernel
theorem dX1_partAt_99 : decode cX1_partAt 99 = .ok (.ifCond .eq 7, 3) := by decide +kernel
theorem dX1_partAt_102 : decode cX1_partAt 102 = .ok (.iconst 1, 1) := by decide +kernel
theorem dX1_partAt_103 : decode cX1_partAt 103 = .ok (.goto 4, 3) := by decide +kernel
theorem dX1_partAt_106 : decode cX1_partAt 106 = .ok (.iconst 0, 1) := by decide +kernel
theorem dX1_partAt_107 : decode cX1_partAt 107 = .ok (.ireturn, 1) := by decide +kernel
theorem dX1_partAt_108 : decode cX1_partAt 108 = .ok (.iload 5, 2) := by decide +kernel
theorem dX1_partAt_110 : decode cX1_partAt 110 = .ok (.ifCond .ne 17, 3) := by decide +kernel
theorem dX1_partAt_113 : decode cX1_partAt 113 = .ok (.aload_n 0, 1) := by decide +kernel
theorem dX1_partAt_114 : decode cX1_partAt 114 = .ok (.getfield 29, 3) := by decide +kernel
theorem dX1_partAt_117 : decode cX1_partAt 117 = .ok (.aload_n 0, 1) := by decide +kernel
theorem dX1_partAt_118 : decode cX1_partAt 118 = .ok (.getfield 13, 3) := by decide +kernel
theorem dX1_partAt_121 : decode cX1_partAt 121 = .ok (.iload_n 1, 1) := by decide +kernel
theorem dX1_partAt_122 : decode cX1_partAt 122 = .ok (.baload, 1) := by decide +kernel
theorem dX1_partAt_123 : decode cX1_partAt 123 = .ok (.baload, 1) := by decide +kernel
theorem dX1_partAt_124 : decode cX1_partAt 124 = .ok (.ifCond .eq 7, 3) := by decide +kernel
theorem dX1_partAt_127 : decode cX1_partAt 127 = .ok (.iconst 1, 1) := by decide +kernel
theorem dX1_partAt_128 : decode cX1_partAt 128 = .ok (.goto 4, 3) := by decide +kernel
theorem dX1_partAt_131 : decode cX1_partAt 131 = .ok (.iconst 0, 1) := by decide +kernel
theorem dX1_partAt_132 : decode cX1_partAt 132 = .ok (.ireturn, 1) := by decide +kernel
theorem dX1_partAt_133 : decode cX1_partAt 133 = .ok (.iload_n 3, 1) := by decide +kernel
theorem dX1_partAt_134 : decode cX1_partAt 134 = .ok (.ifCond .le 18, 3) := by decide +kernel
theorem dX1_partAt_137 : decode cX1_partAt 137 = .ok (.aload_n 0, 1) := by decide +kernel
theorem dX1_partAt_138 : decode cX1_partAt 138 = .ok (.getfield 33, 3) := by decide +kernel
theorem dX1_partAt_141 : decode cX1_partAt 141 = .ok (.iload_n 1, 1) := by decide +kernel
theorem dX1_partAt_142 : decode cX1_partAt 142 = .ok (.iconst 1, 1) := by decide +kernel
theorem dX1_partAt_143 : decode cX1_partAt 143 = .ok (.iadd, 1) := by decide +kernel
theorem dX1_partAt_144 : decode cX1_partAt 144 = .ok (.baload, 1) := by decide +kernel
theorem dX1_partAt_145 : decode cX1_partAt 145 = .ok (.ifCond .eq 7, 3) := by decide +kernel
theorem dX1_partAt_148 : decode cX1_partAt 148 = .ok (.iconst 1, 1) := by decide +kernel
theorem dX1_partAt_149 : decode cX1_partAt 149 = .ok (.goto 4, 3) := by decide +kernel
theorem dX1_partAt_152 : decode cX1_partAt 152 = .ok (.iconst 0, 1) := by decide +kernel
theorem dX1_partAt_153 : decode cX1_partAt 153 = .ok (.ireturn, 1) := by decide +kernel
theorem dX1_partAt_154 : decode cX1_partAt 154 = .ok (.aload_n 0, 1) := by decide +kernel
theorem dX1_partAt_155 : decode cX1_partAt 155 = .ok (.iload_n 1, 1) := by decide +kernel
theorem dX1_partAt_156 : decode cX1_partAt 156 = .ok (.iload 5, 2) := by decide +kernel
theorem dX1_partAt_158 : decode cX1_partAt 158 = .ok (.iload_n 3, 1) := by decide +kernel
theorem dX1_partAt_159 : decode cX1_partAt 159 = .ok (.invokevirtual 93, 3) := by decide +kernel
theorem dX1_partAt_162 : decode cX1_partAt 162 = .ok (.ireturn, 1) := by decide +kernel
theorem dX1_remembering_0 : decode cX1_remembering 0 = .ok (.aload_n 0, 1) := by decide +kernel
theorem dX1_remembering_1 : decode cX1_remembering 1 = .ok (.getfield 7, 3) := by decide +kernel
theorem dX1_remembering_4 : decode cX1_remembering 4 = .ok (.iload_n 1, 1) := by decide +kernel
theorem dX1_remembering_5 : decode cX1_remembering 5 = .ok (.baload, 1) := by decide +kernel
theorem dX1_remembering_6 : decode cX1_remembering 6 = .ok (.istore 4, 2) := by decide +kernel
theorem dX1_remembering_8 : decode cX1_remembering 8 = .ok (.iload 4, 2) := by decide +kernel
theorem dX1_remembering_10 : decode cX1_remembering 10 = .ok (.bipush 11, 2) := by decide +kernel
theorem dX1_remembering_12 : decode cX1_remembering 12 = .ok (.if_icmp .eq 10, 3) := by decide +kernel
theorem dX1_remembering_15 : decode cX1_remembering 15 = .ok (.iload 4, 2) := by decide +kernel
theorem dX1_remembering_17 : decode cX1_remembering 17 = .ok (.bipush 12, 2) := by decide +kernel
theorem dX1_remembering_19 : decode cX1_remembering 19 = .ok (.if_icmp .ne 81, 3) := by decide +kernel
theorem dX1_remembering_22 : decode cX1_remembering 22 = .ok (.iload_n 2, 1) := by decide +kernel
theorem dX1_remembering_23 : decode cX1_remembering 23 = .ok (.iload 4, 2) := by decide +kernel
theorem dX1_remembering_25 : decode cX1_remembering 25 = .ok (.bipush 11, 2) := by decide +kernel
theorem dX1_remembering_27 : decode cX1_remembering 27 = .ok (.if_icmp .ne 7, 3) := by decide +kernel
theorem dX1_remembering_30 : decode cX1_remembering 30 = .ok (.iconst 1, 1) := by decide +kernel
theorem dX1_remembering_31 : decode cX1_remembering 31 = .ok (.goto 4, 3) := by decide +kernel
theorem dX1_remembering_34 : decode cX1_remembering 34 = .ok (.iconst 0, 1) := by decide +kernel
theorem dX1_remembering_35 : decode cX1_remembering 35 = .ok (.if_icmp .ne 11, 3) := by decide +kernel
theorem dX1_remembering_38 : decode cX1_remembering 38 = .ok (.aload_n 0, 1) := by decide +kernel
theorem dX1_remembering_39 : decode cX1_remembering 39 = .ok (.getfield 39, 3) := by decide +kernel
theorem dX1_remembering_42 : decode cX1_remembering 42 = .ok (.iload_n 1, 1) := by decide +kernel
theorem dX1_remembering_43 : decode cX1_remembering 43 = .ok (.iload_n 3, 1) := by decide +kernel
end
section
set_option maxRecDepth 100000
theorem dX1_remembering_44 : decode cX1_remembering 44 = .ok (.i2s, 1) := by decide +kernel
theorem dX1_remembering_45 : decode cX1_remembering 45 = .ok (.sastore, 1) := by decide +kernel
theorem dX1_remembering_46 : decode cX1_remembering 46 = .ok (.aload_n 0, 1) := by decide +kernel
theorem dX1_remembering_47 : decode cX1_remembering 47 = .ok (.getfield 39, 3) := by decide +kernel
theorem dX1_remembering_50 : decode cX1_remembering 50 = .ok (.iload_n 1, 1) := by decide +kernel
theorem dX1_remembering_51 : decode cX1_remembering 51 = .ok (.saload, 1) := by decide +kernel
theorem dX1_remembering_52 : decode cX1_remembering 52 = .ok (.ifCond .lt 22, 3) := by decide +kernel
theorem dX1_remembering_55 : decode cX1_remembering 55 = .ok (.iload_n 3, 1) := by decide +kernel
theorem dX1_remembering_56 : decode cX1_remembering 56 = .ok (.aload_n 0, 1) := by decide +kernel
theorem dX1_remembering_57 : decode cX1_remembering 57 = .ok (.getfield 39, 3) := by decide +kernel
theorem dX1_remembering_60 : decode cX1_remembering 60 = .ok (.iload_n 1, 1) := by decide +kernel
theorem dX1_remembering_61 : decode cX1_remembering 61 = .ok (.saload, 1) := by decide +kernel
theorem dX1_remembering_62 : decode cX1_remembering 62 = .ok (.isub, 1) := by decide +kernel
theorem dX1_remembering_63 : decode cX1_remembering 63 = .ok (.aload_n 0, 1) := by decide +kernel
theorem dX1_remembering_64 : decode cX1_remembering 64 = .ok (.getfield 52, 3) := by decide +kernel
theorem dX1_remembering_67 : decode cX1_remembering 67 = .ok (.if_icmp .gt 7, 3) := by decide +kernel
theorem dX1_remembering_70 : decode cX1_remembering 70 = .ok (.iconst 1, 1) := by decide +kernel
theorem dX1_remembering_71 : decode cX1_remembering 71 = .ok (.goto 4, 3) := by decide +kernel
theorem dX1_remembering_74 : decode cX1_remembering 74 = .ok (.iconst 0, 1) := by decide +kernel
theorem dX1_remembering_75 : decode cX1_remembering 75 = .ok (.istore 5, 2) := by decide +kernel
theorem dX1_remembering_77 : decode cX1_remembering 77 = .ok (.iload 5, 2) := by decide +kernel
theorem dX1_remembering_79 : decode cX1_remembering 79 = .ok (.iload 4, 2) := by decide +kernel
theorem dX1_remembering_81 : decode cX1_remembering 81 = .ok (.bipush 11, 2) := by decide +kernel
theorem dX1_remembering_83 : decode cX1_remembering 83 = .ok (.if_icmp .ne 7, 3) := by decide +kernel
theorem dX1_remembering_86 : decode cX1_remembering 86 = .ok (.iconst 1, 1) := by decide +kernel
theorem dX1_remembering_87 : decode cX1_remembering 87 = .ok (.goto 4, 3) := by decide +kernel
theorem dX1_remembering_90 : decode cX1_remembering 90 = .ok (.iconst 0, 1) := by decide +kernel
theorem dX1_remembering_91 : decode cX1_remembering 91 = .ok (.if_icmp .ne 7, 3) := by decide +kernel
theorem dX1_remembering_94 : decode cX1_remembering 94 = .ok (.iconst 1, 1) := by decide +kernel
theorem dX1_remembering_95 : decode cX1_remembering 95 = .ok (.goto 4, 3) := by decide +kernel
theorem dX1_remembering_98 : decode cX1_remembering 98 = .ok (.iconst 0, 1) := by decide +kernel
theorem dX1_remembering_99 : decode cX1_remembering 99 = .ok (.ireturn, 1) := by decide +kernel
theorem dX1_remembering_100 : decode cX1_remembering 100 = .ok (.iload 4, 2) := by decide +kernel
theorem dX1_remembering_102 : decode cX1_remembering 102 = .ok (.bipush 8, 2) := by decide +kernel
theorem dX1_remembering_104 : decode cX1_remembering 104 = .ok (.if_icmp .ne 16, 3) := by decide +kernel
theorem dX1_remembering_107 : decode cX1_remembering 107 = .ok (.aload_n 0, 1) := by decide +kernel
theorem dX1_remembering_108 : decode cX1_remembering 108 = .ok (.getfield 36, 3) := by decide +kernel
theorem dX1_remembering_111 : decode cX1_remembering 111 = .ok (.iload_n 1, 1) := by decide +kernel
theorem dX1_remembering_112 : decode cX1_remembering 112 = .ok (.dup2, 1) := by decide +kernel
theorem dX1_remembering_113 : decode cX1_remembering 113 = .ok (.baload, 1) := by decide +kernel
theorem dX1_remembering_114 : decode cX1_remembering 114 = .ok (.iload_n 2, 1) := by decide +kernel
theorem dX1_remembering_115 : decode cX1_remembering 115 = .ok (.ior, 1) := by decide +kernel
theorem dX1_remembering_116 : decode cX1_remembering 116 = .ok (.bastore, 1) := by decide +kernel
theorem dX1_remembering_117 : decode cX1_remembering 117 = .ok (.goto 61, 3) := by decide +kernel
theorem dX1_remembering_120 : decode cX1_remembering 120 = .ok (.iload 4, 2) := by decide +kernel
theorem dX1_remembering_122 : decode cX1_remembering 122 = .ok (.bipush 9, 2) := by decide +kernel
theorem dX1_remembering_124 : decode cX1_remembering 124 = .ok (.if_icmp .ne 16, 3) := by decide +kernel
theorem dX1_remembering_127 : decode cX1_remembering 127 = .ok (.aload_n 0, 1) := by decide +kernel
theorem dX1_remembering_128 : decode cX1_remembering 128 = .ok (.getfield 36, 3) := by decide +kernel
theorem dX1_remembering_131 : decode cX1_remembering 131 = .ok (.iload_n 1, 1) := by decide +kernel
theorem dX1_remembering_132 : decode cX1_remembering 132 = .ok (.dup2, 1) := by decide +kernel
theorem dX1_remembering_133 : decode cX1_remembering 133 = .ok (.baload, 1) := by decide +kernel
theorem dX1_remembering_134 : decode cX1_remembering 134 = .ok (.iload_n 2, 1) := by decide +kernel
theorem dX1_remembering_135 : decode cX1_remembering 135 = .ok (.iand, 1) := by decide +kernel
theorem dX1_remembering_136 : decode cX1_remembering 136 = .ok (.bastore, 1) := by decide +kernel
theorem dX1_remembering_137 : decode cX1_remembering 137 = .ok (.goto 41, 3) := by decide +kernel
theorem dX1_remembering_140 : decode cX1_remembering 140 = .ok (.aload_n 0, 1) := by decide +kernel
theorem dX1_remembering_141 : decode cX1_remembering 141 = .ok (.getfield 36, 3) := by decide +kernel
theorem dX1_remembering_144 : decode cX1_remembering 144 = .ok (.iload_n 1, 1) := by decide +kernel
theorem dX1_remembering_145 : decode cX1_remembering 145 = .ok (.aload_n 0, 1) := by decide +kernel
theorem dX1_remembering_146 : decode cX1_remembering 146 = .ok (.getfield 29, 3) := by decide +kernel
theorem dX1_remembering_149 : decode cX1_remembering 149 = .ok (.aload_n 0, 1) := by decide +kernel
theorem dX1_remembering_150 : decode cX1_remembering 150 = .ok (.getfield 13, 3) := by decide +kernel
theorem dX1_remembering_153 : decode cX1_remembering 153 = .ok (.iload_n 1, 1) := by decide +kernel
theorem dX1_remembering_154 : decode cX1_remembering 154 = .ok (.baload, 1) := by decide +kernel
theorem dX1_remembering_155 : decode cX1_remembering 155 = .ok (.baload, 1) := by decide +kernel
theorem dX1_remembering_156 : decode cX1_remembering 156 = .ok (.ifCond .ne 16, 3) := by decide +kernel
theorem dX1_remembering_159 : decode cX1_remembering 159 = .ok (.iload_n 2, 1) := by decide +kernel
theorem dX1_remembering_160 : decode cX1_remembering 160 = .ok (.ifCond .eq 16, 3) := by decide +kernel
theorem dX1_remembering_163 : decode cX1_remembering 163 = .ok (.aload_n 0, 1) := by decide +kernel
theorem dX1_remembering_164 : decode cX1_remembering 164 = .ok (.getfield 36, 3) := by decide +kernel
theorem dX1_remembering_167 : decode cX1_remembering 167 = .ok (.iload_n 1, 1) := by decide +kernel
theorem dX1_remembering_168 : decode cX1_remembering 168 = .ok (.baload, 1) := by decide +kernel
theorem dX1_remembering_169 : decode cX1_remembering 169 = .ok (.ifCond .eq 7, 3) := by decide +kernel
theorem dX1_remembering_172 : decode cX1_remembering 172 = .ok (.iconst 1, 1) := by decide +kernel
theorem dX1_remembering_173 : decode cX1_remembering 173 = .ok (.goto 4, 3) := by decide +kernel
theorem dX1_remembering_176 : decode cX1_remembering 176 = .ok (.iconst 0, 1) := by decide +kernel
theorem dX1_remembering_177 : decode cX1_remembering 177 = .ok (.bastore, 1) := by decide +kernel
theorem dX1_remembering_178 : decode cX1_remembering 178 = .ok (.aload_n 0, 1) := by decide +kernel
theorem dX1_remembering_179 : decode cX1_remembering 179 = .ok (.getfield 36, 3) := by decide +kernel
theorem dX1_remembering_182 : decode cX1_remembering 182 = .ok (.iload_n 1, 1) := by decide +kernel
theorem dX1_remembering_183 : decode cX1_remembering 183 = .ok (.baload, 1) := by decide +kernel
theorem dX1_remembering_184 : decode cX1_remembering 184 = .ok (.ireturn, 1) := by decide +kernel
theorem dX1_wasTrue_0 : decode cX1_wasTrue 0 = .ok (.aload_n 0, 1) := by decide +kernel
theorem dX1_wasTrue_1 : decode cX1_wasTrue 1 = .ok (.getfield 25, 3) := by decide +kernel
theorem dX1_wasTrue_4 : decode cX1_wasTrue 4 = .ok (.iload_n 1, 1) := by decide +kernel
theorem dX1_wasTrue_5 : decode cX1_wasTrue 5 = .ok (.bipush 6, 2) := by decide +kernel
theorem dX1_wasTrue_7 : decode cX1_wasTrue 7 = .ok (.ishr, 1) := by decide +kernel
theorem dX1_wasTrue_8 : decode cX1_wasTrue 8 = .ok (.laload, 1) := by decide +kernel
theorem dX1_wasTrue_9 : decode cX1_wasTrue 9 = .ok (.iload_n 1, 1) := by decide +kernel
theorem dX1_wasTrue_10 : decode cX1_wasTrue 10 = .ok (.bipush 63, 2) := by decide +kernel
theorem dX1_wasTrue_12 : decode cX1_wasTrue 12 = .ok (.iand, 1) := by decide +kernel
theorem dX1_wasTrue_13 : decode cX1_wasTrue 13 = .ok (.lushr, 1) := by decide +kernel
theorem dX1_wasTrue_14 : decode cX1_wasTrue 14 = .ok (.lconst 1, 1) := by decide +kernel
theorem dX1_wasTrue_15 : decode cX1_wasTrue 15 = .ok (.land, 1) := by decide +kernel
theorem dX1_wasTrue_16 : decode cX1_wasTrue 16 = .ok (.lconst 0, 1) := by decide +kernel
theorem dX1_wasTrue_17 : decode cX1_wasTrue 17 = .ok (.lcmp, 1) := by decide +kernel
theorem dX1_wasTrue_18 : decode cX1_wasTrue 18 = .ok (.ifCond .eq 7, 3) := by decide +kernel
theorem dX1_wasTrue_21 : decode cX1_wasTrue 21 = .ok (.iconst 1, 1) := by decide +kernel
theorem dX1_wasTrue_22 : decode cX1_wasTrue 22 = .ok (.goto 4, 3) := by decide +kernel
theorem dX1_wasTrue_25 : decode cX1_wasTrue 25 = .ok (.iconst 0, 1) := by decide +kernel
theorem dX1_wasTrue_26 : decode cX1_wasTrue 26 = .ok (.ireturn, 1) := by decide +kernel
theorem dX1_count_0 : decode cX1_count 0 = .ok (.aload_n 0, 1) := by decide +kernel
theorem dX1_count_1 : decode cX1_count 1 = .ok (.invokevirtual 101, 3) := by decide +kernel
theorem dX1_count_4 : decode cX1_count 4 = .ok (.ifCond .ne 5, 3) := by decide +kernel
theorem dX1_count_7 : decode cX1_count 7 = .ok (.iconst (-1), 1) := by decide +kernel
theorem dX1_count_8 : decode cX1_count 8 = .ok (.ireturn, 1) := by decide +kernel
theorem dX1_count_9 : decode cX1_count 9 = .ok (.iconst 0, 1) := by decide +kernel
theorem dX1_count_10 : decode cX1_count 10 = .ok (.istore_n 1, 1) := by decide +kernel
theorem dX1_count_11 : decode cX1_count 11 = .ok (.iconst 0, 1) := by decide +kernel
theorem dX1_count_12 : decode cX1_count 12 = .ok (.istore_n 2, 1) := by decide +kernel
theorem dX1_count_13 : decode cX1_count 13 = .ok (.iload_n 2, 1) := by decide +kernel
theorem dX1_count_14 : decode cX1_count 14 = .ok (.aload_n 0, 1) := by decide +kernel
theorem dX1_count_15 : decode cX1_count 15 = .ok (.getfield 77, 3) := by decide +kernel
theorem dX1_count_18 : decode cX1_count 18 = .ok (.if_icmp .ge 25, 3) := by decide +kernel
theorem dX1_count_21 : decode cX1_count 21 = .ok (.iload_n 1, 1) := by decide +kernel
theorem dX1_count_22 : decode cX1_count 22 = .ok (.aload_n 0, 1) := by decide +kernel
theorem dX1_count_23 : decode cX1_count 23 = .ok (.iload_n 2, 1) := by decide +kernel
theorem dX1_count_24 : decode cX1_count 24 = .ok (.invokevirtual 104, 3) := by decide +kernel
theorem dX1_count_27 : decode cX1_count 27 = .ok (.ifCond .eq 7, 3) := by decide +kernel
theorem dX1_count_30 : decode cX1_count 30 = .ok (.iconst 1, 1) := by decide +kernel
theorem dX1_count_31 : decode cX1_count 31 = .ok (.goto 4, 3) := by decide +kernel
theorem dX1_count_34 : decode cX1_count 34 = .ok (.iconst 0, 1) := by decide +kernel
theorem dX1_count_35 : decode cX1_count 35 = .ok (.iadd, 1) := by decide +kernel
theorem dX1_count_36 : decode cX1_count 36 = .ok (.istore_n 1, 1) := by decide +kernel
theorem dX1_count_37 : decode cX1_count 37 = .ok (.iinc 2 1, 3) := by decide +kernel
theorem dX1_count_40 : decode cX1_count 40 = .ok (.goto (-27), 3) := by decide +kernel
theorem dX1_count_43 : decode cX1_count 43 = .ok (.iload_n 1, 1) := by decide +kernel
theorem dX1_count_44 : decode cX1_count 44 = .ok (.ireturn, 1) := by decide +kernel
theorem dX1_violation_0 : decode cX1_violation 0 = .ok (.iload_n 1, 1) := by decide +kernel
theorem dX1_violation_1 : decode cX1_violation 1 = .ok (.ifCond .lt 10, 3) := by decide +kernel
theorem dX1_violation_4 : decode cX1_violation 4 = .ok (.aload_n 0, 1) := by decide +kernel
theorem dX1_violation_5 : decode cX1_violation 5 = .ok (.invokevirtual 101, 3) := by decide +kernel
theorem dX1_violation_8 : decode cX1_violation 8 = .ok (.ifCond .ne 5, 3) := by decide +kernel
theorem dX1_violation_11 : decode cX1_violation 11 = .ok (.iconst (-1), 1) := by decide +kernel
theorem dX1_violation_12 : decode cX1_violation 12 = .ok (.ireturn, 1) := by decide +kernel
theorem dX1_violation_13 : decode cX1_violation 13 = .ok (.iload_n 1, 1) := by decide +kernel
theorem dX1_violation_14 : decode cX1_violation 14 = .ok (.istore_n 2, 1) := by decide +kernel
theorem dX1_violation_15 : decode cX1_violation 15 = .ok (.iload_n 2, 1) := by decide +kernel
theorem dX1_violation_16 : decode cX1_violation 16 = .ok (.aload_n 0, 1) := by decide +kernel
theorem dX1_violation_17 : decode cX1_violation 17 = .ok (.getfield 77, 3) := by decide +kernel
theorem dX1_violation_20 : decode cX1_violation 20 = .ok (.if_icmp .ge 19, 3) := by decide +kernel
theorem dX1_violation_23 : decode cX1_violation 23 = .ok (.aload_n 0, 1) := by decide +kernel
theorem dX1_violation_24 : decode cX1_violation 24 = .ok (.iload_n 2, 1) := by decide +kernel
theorem dX1_violation_25 : decode cX1_violation 25 = .ok (.invokevirtual 104, 3) := by decide +kernel
theorem dX1_violation_28 : decode cX1_violation 28 = .ok (.ifCond .ne 5, 3) := by decide +kernel
theorem dX1_violation_31 : decode cX1_violation 31 = .ok (.iload_n 2, 1) := by decide +kernel
theorem dX1_violation_32 : decode cX1_violation 32 = .ok (.ireturn, 1) := by decide +kernel
theorem dX1_violation_33 : decode cX1_violation 33 = .ok (.iinc 2 1, 3) := by decide +kernel
theorem dX1_violation_36 : decode cX1_violation 36 = .ok (.goto (-21), 3) := by decide +kernel
theorem dX1_violation_39 : decode cX1_violation 39 = .ok (.iconst (-1), 1) := by decide +kernel
theorem dX1_violation_40 : decode cX1_violation 40 = .ok (.ireturn, 1) := by decide +kernel
theorem dX1_streak_0 : decode cX1_streak 0 = .ok (.aload_n 0, 1) := by decide +kernel
theorem dX1_streak_1 : decode cX1_streak 1 = .ok (.invokevirtual 101, 3) := by decide +kernel
theorem dX1_streak_4 : decode cX1_streak 4 = .ok (.ifCond .ne 5, 3) := by decide +kernel
theorem dX1_streak_7 : decode cX1_streak 7 = .ok (.iconst (-1), 1) := by decide +kernel
theorem dX1_streak_8 : decode cX1_streak 8 = .ok (.ireturn, 1) := by decide +kernel
theorem dX1_streak_9 : decode cX1_streak 9 = .ok (.iconst 0, 1) := by decide +kernel
theorem dX1_streak_10 : decode cX1_streak 10 = .ok (.istore_n 1, 1) := by decide +kernel
theorem dX1_streak_11 : decode cX1_streak 11 = .ok (.iload_n 1, 1) := by decide +kernel
theorem dX1_streak_12 : decode cX1_streak 12 = .ok (.aload_n 0, 1) := by decide +kernel
theorem dX1_streak_13 : decode cX1_streak 13 = .ok (.getfield 77, 3) := by decide +kernel
theorem dX1_streak_16 : decode cX1_streak 16 = .ok (.if_icmp .ge 24, 3) := by decide +kernel
theorem dX1_streak_19 : decode cX1_streak 19 = .ok (.aload_n 0, 1) := by decide +kernel
theorem dX1_streak_20 : decode cX1_streak 20 = .ok (.aload_n 0, 1) := by decide +kernel
theorem dX1_streak_21 : decode cX1_streak 21 = .ok (.getfield 77, 3) := by decide +kernel
theorem dX1_streak_24 : decode cX1_streak 24 = .ok (.iconst 1, 1) := by decide +kernel
theorem dX1_streak_25 : decode cX1_streak 25 = .ok (.isub, 1) := by decide +kernel
theorem dX1_streak_26 : decode cX1_streak 26 = .ok (.iload_n 1, 1) := by decide +kernel
theorem dX1_streak_27 : decode cX1_streak 27 = .ok (.isub, 1) := by decide +kernel
theorem dX1_streak_28 : decode cX1_streak 28 = .ok (.invokevirtual 104, 3) := by decide +kernel
theorem dX1_streak_31 : decode cX1_streak 31 = .ok (.ifCond .eq 9, 3) := by decide +kernel
theorem dX1_streak_34 : decode cX1_streak 34 = .ok (.iinc 1 1, 3) := by decide +kernel
theorem dX1_streak_37 : decode cX1_streak 37 = .ok (.goto (-26), 3) := by decide +kernel
theorem dX1_streak_40 : decode cX1_streak 40 = .ok (.iload_n 1, 1) := by decide +kernel
theorem dX1_streak_41 : decode cX1_streak 41 = .ok (.ireturn, 1) := by decide +kernel
theorem dX1_wouldHold_0 : decode cX1_wouldHold 0 = .ok (.iload_n 1, 1) := by decide +kernel
theorem dX1_wouldHold_1 : decode cX1_wouldHold 1 = .ok (.ifCond .lt 28, 3) := by decide +kernel
theorem dX1_wouldHold_4 : decode cX1_wouldHold 4 = .ok (.iload_n 1, 1) := by decide +kernel
theorem dX1_wouldHold_5 : decode cX1_wouldHold 5 = .ok (.bipush 15, 2) := by decide +kernel
theorem dX1_wouldHold_7 : decode cX1_wouldHold 7 = .ok (.if_icmp .gt 22, 3) := by decide +kernel
theorem dX1_wouldHold_10 : decode cX1_wouldHold 10 = .ok (.aload_n 0, 1) := by decide +kernel
theorem dX1_wouldHold_11 : decode cX1_wouldHold 11 = .ok (.invokevirtual 101, 3) := by decide +kernel
theorem dX1_wouldHold_14 : decode cX1_wouldHold 14 = .ok (.ifCond .eq 15, 3) := by decide +kernel
theorem dX1_wouldHold_17 : decode cX1_wouldHold 17 = .ok (.aload_n 0, 1) := by decide +kernel
theorem dX1_wouldHold_18 : decode cX1_wouldHold 18 = .ok (.iload_n 1, 1) := by decide +kernel
theorem dX1_wouldHold_19 : decode cX1_wouldHold 19 = .ok (.invokevirtual 107, 3) := by decide +kernel
theorem dX1_wouldHold_22 : decode cX1_wouldHold 22 = .ok (.ifCond .eq 7, 3) := by decide +kernel
theorem dX1_wouldHold_25 : decode cX1_wouldHold 25 = .ok (.iconst 1, 1) := by decide +kernel
theorem dX1_wouldHold_26 : decode cX1_wouldHold 26 = .ok (.goto 4, 3) := by decide +kernel
theorem dX1_wouldHold_29 : decode cX1_wouldHold 29 = .ok (.iconst 0, 1) := by decide +kernel
theorem dX1_wouldHold_30 : decode cX1_wouldHold 30 = .ok (.ireturn, 1) := by decide +kernel
theorem dX1_imagine_0 : decode cX1_imagine 0 = .ok (.iconst 0, 1) := by decide +kernel
theorem dX1_imagine_1 : decode cX1_imagine 1 = .ok (.istore_n 2, 1) := by decide +kernel
theorem dX1_imagine_2 : decode cX1_imagine 2 = .ok (.iload_n 2, 1) := by decide +kernel
theorem dX1_imagine_3 : decode cX1_imagine 3 = .ok (.bipush 14, 2) := by decide +kernel
theorem dX1_imagine_5 : decode cX1_imagine 5 = .ok (.if_icmp .ge 45, 3) := by decide +kernel
theorem dX1_imagine_8 : decode cX1_imagine 8 = .ok (.aload_n 0, 1) := by decide +kernel
theorem dX1_imagine_9 : decode cX1_imagine 9 = .ok (.getfield 43, 3) := by decide +kernel
theorem dX1_imagine_12 : decode cX1_imagine 12 = .ok (.iload_n 2, 1) := by decide +kernel
theorem dX1_imagine_13 : decode cX1_imagine 13 = .ok (.aload_n 0, 1) := by decide +kernel
theorem dX1_imagine_14 : decode cX1_imagine 14 = .ok (.getfield 29, 3) := by decide +kernel
theorem dX1_imagine_17 : decode cX1_imagine 17 = .ok (.iload_n 2, 1) := by decide +kernel
theorem dX1_imagine_18 : decode cX1_imagine 18 = .ok (.baload, 1) := by decide +kernel
theorem dX1_imagine_19 : decode cX1_imagine 19 = .ok (.bastore, 1) := by decide +kernel
theorem dX1_imagine_20 : decode cX1_imagine 20 = .ok (.aload_n 0, 1) := by decide +kernel
theorem dX1_imagine_21 : decode cX1_imagine 21 = .ok (.getfield 46, 3) := by decide +kernel
theorem dX1_imagine_24 : decode cX1_imagine 24 = .ok (.iload_n 2, 1) := by decide +kernel
theorem dX1_imagine_25 : decode cX1_imagine 25 = .ok (.aload_n 0, 1) := by decide +kernel
theorem dX1_imagine_26 : decode cX1_imagine 26 = .ok (.getfield 36, 3) := by decide +kernel
theorem dX1_imagine_29 : decode cX1_imagine 29 = .ok (.iload_n 2, 1) := by decide +kernel
theorem dX1_imagine_30 : decode cX1_imagine 30 = .ok (.baload, 1) := by decide +kernel
theorem dX1_imagine_31 : decode cX1_imagine 31 = .ok (.bastore, 1) := by decide +kernel
theorem dX1_imagine_32 : decode cX1_imagine 32 = .ok (.aload_n 0, 1) := by decide +kernel
theorem dX1_imagine_33 : decode cX1_imagine 33 = .ok (.getfield 49, 3) := by decide +kernel
theorem dX1_imagine_36 : decode cX1_imagine 36 = .ok (.iload_n 2, 1) := by decide +kernel
theorem dX1_imagine_37 : decode cX1_imagine 37 = .ok (.aload_n 0, 1) := by decide +kernel
theorem dX1_imagine_38 : decode cX1_imagine 38 = .ok (.getfield 39, 3) := by decide +kernel
theorem dX1_imagine_41 : decode cX1_imagine 41 = .ok (.iload_n 2, 1) := by decide +kernel
theorem dX1_imagine_42 : decode cX1_imagine 42 = .ok (.saload, 1) := by decide +kernel
theorem dX1_imagine_43 : decode cX1_imagine 43 = .ok (.sastore, 1) := by decide +kernel
theorem dX1_imagine_44 : decode cX1_imagine 44 = .ok (.iinc 2 1, 3) := by decide +kernel
theorem dX1_imagine_47 : decode cX1_imagine 47 = .ok (.goto (-45), 3) := by decide +kernel
theorem dX1_imagine_50 : decode cX1_imagine 50 = .ok (.aload_n 0, 1) := by decide +kernel
theorem dX1_imagine_51 : decode cX1_imagine 51 = .ok (.iload_n 1, 1) := by decide +kernel
theorem dX1_imagine_52 : decode cX1_imagine 52 = .ok (.aload_n 0, 1) := by decide +kernel
theorem dX1_imagine_53 : decode cX1_imagine 53 = .ok (.getfield 77, 3) := by decide +kernel
theorem dX1_imagine_56 : decode cX1_imagine 56 = .ok (.invokevirtual 83, 3) := by decide +kernel
theorem dX1_imagine_59 : decode cX1_imagine 59 = .ok (.istore_n 2, 1) := by decide +kernel
theorem dX1_imagine_60 : decode cX1_imagine 60 = .ok (.iconst 0, 1) := by decide +kernel
theorem dX1_imagine_61 : decode cX1_imagine 61 = .ok (.istore_n 3, 1) := by decide +kernel
theorem dX1_imagine_62 : decode cX1_imagine 62 = .ok (.iload_n 3, 1) := by decide +kernel
theorem dX1_imagine_63 : decode cX1_imagine 63 = .ok (.bipush 14, 2) := by decide +kernel
theorem dX1_imagine_65 : decode cX1_imagine 65 = .ok (.if_icmp .ge 45, 3) := by decide +kernel
theorem dX1_imagine_68 : decode cX1_imagine 68 = .ok (.aload_n 0, 1) := by decide +kernel
theorem dX1_imagine_69 : decode cX1_imagine 69 = .ok (.getfield 29, 3) := by decide +kernel
theorem dX1_imagine_72 : decode cX1_imagine 72 = .ok (.iload_n 3, 1) := by decide +kernel
theorem dX1_imagine_73 : decode cX1_imagine 73 = .ok (.aload_n 0, 1) := by decide +kernel
theorem dX1_imagine_74 : decode cX1_imagine 74 = .ok (.getfield 43, 3) := by decide +kernel
theorem dX1_imagine_77 : decode cX1_imagine 77 = .ok (.iload_n 3, 1) := by decide +kernel
theorem dX1_imagine_78 : decode cX1_imagine 78 = .ok (.baload, 1) := by decide +kernel
theorem dX1_imagine_79 : decode cX1_imagine 79 = .ok (.bastore, 1) := by decide +kernel
theorem dX1_imagine_80 : decode cX1_imagine 80 = .ok (.aload_n 0, 1) := by decide +kernel
theorem dX1_imagine_81 : decode cX1_imagine 81 = .ok (.getfield 36, 3) := by decide +kernel
theorem dX1_imagine_84 : decode cX1_imagine 84 = .ok (.iload_n 3, 1) := by decide +kernel
theorem dX1_imagine_85 : decode cX1_imagine 85 = .ok (.aload_n 0, 1) := by decide +kernel
theorem dX1_imagine_86 : decode cX1_imagine 86 = .ok (.getfield 46, 3) := by decide +kernel
theorem dX1_imagine_89 : decode cX1_imagine 89 = .ok (.iload_n 3, 1) := by decide +kernel
theorem dX1_imagine_90 : decode cX1_imagine 90 = .ok (.baload, 1) := by decide +kernel
theorem dX1_imagine_91 : decode cX1_imagine 91 = .ok (.bastore, 1) := by decide +kernel
theorem dX1_imagine_92 : decode cX1_imagine 92 = .ok (.aload_n 0, 1) := by decide +kernel
theorem dX1_imagine_93 : decode cX1_imagine 93 = .ok (.getfield 39, 3) := by decide +kernel
theorem dX1_imagine_96 : decode cX1_imagine 96 = .ok (.iload_n 3, 1) := by decide +kernel
theorem dX1_imagine_97 : decode cX1_imagine 97 = .ok (.aload_n 0, 1) := by decide +kernel
theorem dX1_imagine_98 : decode cX1_imagine 98 = .ok (.getfield 49, 3) := by decide +kernel
theorem dX1_imagine_101 : decode cX1_imagine 101 = .ok (.iload_n 3, 1) := by decide +kernel
theorem dX1_imagine_102 : decode cX1_imagine 102 = .ok (.saload, 1) := by decide +kernel
theorem dX1_imagine_103 : decode cX1_imagine 103 = .ok (.sastore, 1) := by decide +kernel
theorem dX1_imagine_104 : decode cX1_imagine 104 = .ok (.iinc 3 1, 3) := by decide +kernel
theorem dX1_imagine_107 : decode cX1_imagine 107 = .ok (.goto (-45), 3) := by decide +kernel
theorem dX1_imagine_110 : decode cX1_imagine 110 = .ok (.iload_n 2, 1) := by decide +kernel
theorem dX1_imagine_111 : decode cX1_imagine 111 = .ok (.ireturn, 1) := by decide +kernel
theorem dX1_allowed_0 : decode cX1_allowed 0 = .ok (.iconst 0, 1) := by decide +kernel
theorem dX1_allowed_1 : decode cX1_allowed 1 = .ok (.istore_n 1, 1) := by decide +kernel
theorem dX1_allowed_2 : decode cX1_allowed 2 = .ok (.iconst 0, 1) := by decide +kernel
theorem dX1_allowed_3 : decode cX1_allowed 3 = .ok (.istore_n 2, 1) := by decide +kernel
theorem dX1_allowed_4 : decode cX1_allowed 4 = .ok (.iload_n 2, 1) := by decide +kernel
theorem dX1_allowed_5 : decode cX1_allowed 5 = .ok (.bipush 16, 2) := by decide +kernel
theorem dX1_allowed_7 : decode cX1_allowed 7 = .ok (.if_icmp .ge 25, 3) := by decide +kernel
theorem dX1_allowed_10 : decode cX1_allowed 10 = .ok (.iload_n 1, 1) := by decide +kernel
theorem dX1_allowed_11 : decode cX1_allowed 11 = .ok (.aload_n 0, 1) := by decide +kernel
theorem dX1_allowed_12 : decode cX1_allowed 12 = .ok (.iload_n 2, 1) := by decide +kernel
theorem dX1_allowed_13 : decode cX1_allowed 13 = .ok (.invokevirtual 110, 3) := by decide +kernel
theorem dX1_allowed_16 : decode cX1_allowed 16 = .ok (.ifCond .eq 7, 3) := by decide +kernel
theorem dX1_allowed_19 : decode cX1_allowed 19 = .ok (.iconst 1, 1) := by decide +kernel
theorem dX1_allowed_20 : decode cX1_allowed 20 = .ok (.goto 4, 3) := by decide +kernel
theorem dX1_allowed_23 : decode cX1_allowed 23 = .ok (.iconst 0, 1) := by decide +kernel
theorem dX1_allowed_24 : decode cX1_allowed 24 = .ok (.iadd, 1) := by decide +kernel
theorem dX1_allowed_25 : decode cX1_allowed 25 = .ok (.istore_n 1, 1) := by decide +kernel
theorem dX1_allowed_26 : decode cX1_allowed 26 = .ok (.iinc 2 1, 3) := by decide +kernel
theorem dX1_allowed_29 : decode cX1_allowed 29 = .ok (.goto (-25), 3) := by decide +kernel
theorem dX1_allowed_32 : decode cX1_allowed 32 = .ok (.iload_n 1, 1) := by decide +kernel
theorem dX1_allowed_33 : decode cX1_allowed 33 = .ok (.ireturn, 1) := by decide +kernel
end
section
set_option maxRecDepth 100000
theorem dX2_init_0 : decode cX2_init 0 = .ok (.aload_n 0, 1) := by decide +kernel
theorem dX2_init_1 : decode cX2_init 1 = .ok (.invokespecial 1, 3) := by decide +kernel
theorem dX2_init_4 : decode cX2_init 4 = .ok (.aload_n 0, 1) := by decide +kernel
theorem dX2_init_5 : decode cX2_init 5 = .ok (.bipush 14, 2) := by decide +kernel
theorem dX2_init_7 : decode cX2_init 7 = .ok (.newarray .int, 2) := by decide +kernel
theorem dX2_init_9 : decode cX2_init 9 = .ok (.putfield 7, 3) := by decide +kernel
theorem dX2_init_12 : decode cX2_init 12 = .ok (.aload_n 0, 1) := by decide +kernel
theorem dX2_init_13 : decode cX2_init 13 = .ok (.sipush 201, 3) := by decide +kernel
theorem dX2_init_16 : decode cX2_init 16 = .ok (.newarray .int, 2) := by decide +kernel
theorem dX2_init_18 : decode cX2_init 18 = .ok (.putfield 13, 3) := by decide +kernel
theorem dX2_init_21 : decode cX2_init 21 = .ok (.aload_n 0, 1) := by decide +kernel
theorem dX2_init_22 : decode cX2_init 22 = .ok (.sipush 2814, 3) := by decide +kernel
theorem dX2_init_25 : decode cX2_init 25 = .ok (.newarray .boolean, 2) := by decide +kernel
theorem dX2_init_27 : decode cX2_init 27 = .ok (.putfield 16, 3) := by decide +kernel
theorem dX2_init_30 : decode cX2_init 30 = .ok (.aload_n 0, 1) := by decide +kernel
theorem dX2_init_31 : decode cX2_init 31 = .ok (.bipush 15, 2) := by decide +kernel
theorem dX2_init_33 : decode cX2_init 33 = .ok (.newarray .int, 2) := by decide +kernel
theorem dX2_init_35 : decode cX2_init 35 = .ok (.putfield 20, 3) := by decide +kernel
theorem dX2_init_38 : decode cX2_init 38 = .ok (.aload_n 0, 1) := by decide +kernel
theorem dX2_init_39 : decode cX2_init 39 = .ok (.iload_n 1, 1) := by decide +kernel
theorem dX2_init_40 : decode cX2_init 40 = .ok (.ifCond .ge 7, 3) := by decide +kernel
theorem dX2_init_43 : decode cX2_init 43 = .ok (.iconst 0, 1) := by decide +kernel
theorem dX2_init_44 : decode cX2_init 44 = .ok (.goto 15, 3) := by decide +kernel
theorem dX2_init_47 : decode cX2_init 47 = .ok (.iload_n 1, 1) := by decide +kernel
theorem dX2_init_48 : decode cX2_init 48 = .ok (.bipush 12, 2) := by decide +kernel
theorem dX2_init_50 : decode cX2_init 50 = .ok (.if_icmp .le 8, 3) := by decide +kernel
theorem dX2_init_53 : decode cX2_init 53 = .ok (.bipush 12, 2) := by decide +kernel
theorem dX2_init_55 : decode cX2_init 55 = .ok (.goto 4, 3) := by decide +kernel
theorem dX2_init_58 : decode cX2_init 58 = .ok (.iload_n 1, 1) := by decide +kernel
theorem dX2_init_59 : decode cX2_init 59 = .ok (.putfield 23, 3) := by decide +kernel
theorem dX2_init_62 : decode cX2_init 62 = .ok (.return_, 1) := by decide +kernel
theorem dX2_feed_0 : decode cX2_feed 0 = .ok (.iload_n 1, 1) := by decide +kernel
theorem dX2_feed_1 : decode cX2_feed 1 = .ok (.ifCond .lt 25, 3) := by decide +kernel
theorem dX2_feed_4 : decode cX2_feed 4 = .ok (.iload_n 1, 1) := by decide +kernel
theorem dX2_feed_5 : decode cX2_feed 5 = .ok (.bipush 12, 2) := by decide +kernel
theorem dX2_feed_7 : decode cX2_feed 7 = .ok (.if_icmp .gt 19, 3) := by decide +kernel
theorem dX2_feed_10 : decode cX2_feed 10 = .ok (.aload_n 0, 1) := by decide +kernel
theorem dX2_feed_11 : decode cX2_feed 11 = .ok (.invokevirtual 27, 3) := by decide +kernel
theorem dX2_feed_14 : decode cX2_feed 14 = .ok (.ifCond .ne 12, 3) := by decide +kernel
theorem dX2_feed_17 : decode cX2_feed 17 = .ok (.aload_n 0, 1) := by decide +kernel
theorem dX2_feed_18 : decode cX2_feed 18 = .ok (.getfield 31, 3) := by decide +kernel
theorem dX2_feed_21 : decode cX2_feed 21 = .ok (.bipush 14, 2) := by decide +kernel
theorem dX2_feed_23 : decode cX2_feed 23 = .ok (.if_icmp .lt 5, 3) := by decide +kernel
theorem dX2_feed_26 : decode cX2_feed 26 = .ok (.iconst (-1), 1) := by decide +kernel
theorem dX2_feed_27 : decode cX2_feed 27 = .ok (.ireturn, 1) := by decide +kernel
theorem dX2_feed_28 : decode cX2_feed 28 = .ok (.aload_n 0, 1) := by decide +kernel
theorem dX2_feed_29 : decode cX2_feed 29 = .ok (.getfield 7, 3) := by decide +kernel
theorem dX2_feed_32 : decode cX2_feed 32 = .ok (.aload_n 0, 1) := by decide +kernel
theorem dX2_feed_33 : decode cX2_feed 33 = .ok (.getfield 31, 3) := by decide +kernel
theorem dX2_feed_36 : decode cX2_feed 36 = .ok (.iload_n 1, 1) := by decide +kernel
theorem dX2_feed_37 : decode cX2_feed 37 = .ok (.iastore, 1) := by decide +kernel
theorem dX2_feed_38 : decode cX2_feed 38 = .ok (.aload_n 0, 1) := by decide +kernel
theorem dX2_feed_39 : decode cX2_feed 39 = .ok (.dup, 1) := by decide +kernel
theorem dX2_feed_40 : decode cX2_feed 40 = .ok (.getfield 31, 3) := by decide +kernel
theorem dX2_feed_43 : decode cX2_feed 43 = .ok (.iconst 1, 1) := by decide +kernel
theorem dX2_feed_44 : decode cX2_feed 44 = .ok (.iadd, 1) := by decide +kernel
theorem dX2_feed_45 : decode cX2_feed 45 = .ok (.putfield 31, 3) := by decide +kernel
theorem dX2_feed_48 : decode cX2_feed 48 = .ok (.aload_n 0, 1) := by decide +kernel
theorem dX2_feed_49 : decode cX2_feed 49 = .ok (.getfield 31, 3) := by decide +kernel
theorem dX2_feed_52 : decode cX2_feed 52 = .ok (.ireturn, 1) := by decide +kernel
theorem dX2_complete_0 : decode cX2_complete 0 = .ok (.iconst 1, 1) := by decide +kernel
theorem dX2_complete_1 : decode cX2_complete 1 = .ok (.istore_n 1, 1) := by decide +kernel
theorem dX2_complete_2 : decode cX2_complete 2 = .ok (.iconst 0, 1) := by decide +kernel
theorem dX2_complete_3 : decode cX2_complete 3 = .ok (.istore_n 2, 1) := by decide +kernel
theorem dX2_complete_4 : decode cX2_complete 4 = .ok (.iload_n 2, 1) := by decide +kernel
theorem dX2_complete_5 : decode cX2_complete 5 = .ok (.aload_n 0, 1) := by decide +kernel
theorem dX2_complete_6 : decode cX2_complete 6 = .ok (.getfield 31, 3) := by decide +kernel
theorem dX2_complete_9 : decode cX2_complete 9 = .ok (.if_icmp .ge 52, 3) := by decide +kernel
theorem dX2_complete_12 : decode cX2_complete 12 = .ok (.aload_n 0, 1) := by decide +kernel
theorem dX2_complete_13 : decode cX2_complete 13 = .ok (.getfield 7, 3) := by decide +kernel
theorem dX2_complete_16 : decode cX2_complete 16 = .ok (.iload_n 2, 1) := by decide +kernel
theorem dX2_complete_17 : decode cX2_complete 17 = .ok (.iaload, 1) := by decide +kernel
theorem dX2_complete_18 : decode cX2_complete 18 = .ok (.istore_n 3, 1) := by decide +kernel
theorem dX2_complete_19 : decode cX2_complete 19 = .ok (.iload_n 3, 1) := by decide +kernel
theorem dX2_complete_20 : decode cX2_complete 20 = .ok (.iconst 3, 1) := by decide +kernel
theorem dX2_complete_21 : decode cX2_complete 21 = .ok (.if_icmp .gt 9, 3) := by decide +kernel
theorem dX2_complete_24 : decode cX2_complete 24 = .ok (.iload_n 1, 1) := by decide +kernel
theorem dX2_complete_25 : decode cX2_complete 25 = .ok (.iconst 1, 1) := by decide +kernel
theorem dX2_complete_26 : decode cX2_complete 26 = .ok (.isub, 1) := by decide +kernel
theorem dX2_complete_27 : decode cX2_complete 27 = .ok (.goto 27, 3) := by decide +kernel
theorem dX2_complete_30 : decode cX2_complete 30 = .ok (.iload_n 3, 1) := by decide +kernel
theorem dX2_complete_31 : decode cX2_complete 31 = .ok (.iconst 5, 1) := by decide +kernel
theorem dX2_complete_32 : decode cX2_complete 32 = .ok (.if_icmp .eq 15, 3) := by decide +kernel
theorem dX2_complete_35 : decode cX2_complete 35 = .ok (.iload_n 3, 1) := by decide +kernel
theorem dX2_complete_36 : decode cX2_complete 36 = .ok (.bipush 6, 2) := by decide +kernel
theorem dX2_complete_38 : decode cX2_complete 38 = .ok (.if_icmp .eq 9, 3) := by decide +kernel
theorem dX2_complete_41 : decode cX2_complete 41 = .ok (.iload_n 3, 1) := by decide +kernel
theorem dX2_complete_42 : decode cX2_complete 42 = .ok (.bipush 10, 2) := by decide +kernel
theorem dX2_complete_44 : decode cX2_complete 44 = .ok (.if_icmp .ne 9, 3) := by decide +kernel
theorem dX2_complete_47 : decode cX2_complete 47 = .ok (.iload_n 1, 1) := by decide +kernel
theorem dX2_complete_48 : decode cX2_complete 48 = .ok (.iconst 1, 1) := by decide +kernel
theorem dX2_complete_49 : decode cX2_complete 49 = .ok (.iadd, 1) := by decide +kernel
theorem dX2_complete_50 : decode cX2_complete 50 = .ok (.goto 4, 3) := by decide +kernel
theorem dX2_complete_53 : decode cX2_complete 53 = .ok (.iload_n 1, 1) := by decide +kernel
theorem dX2_complete_54 : decode cX2_complete 54 = .ok (.istore_n 1, 1) := by decide +kernel
theorem dX2_complete_55 : decode cX2_complete 55 = .ok (.iinc 2 1, 3) := by decide +kernel
theorem dX2_complete_58 : decode cX2_complete 58 = .ok (.goto (-54), 3) := by decide +kernel
theorem dX2_complete_61 : decode cX2_complete 61 = .ok (.iload_n 1, 1) := by decide +kernel
theorem dX2_complete_62 : decode cX2_complete 62 = .ok (.ifCond .ne 7, 3) := by decide +kernel
theorem dX2_complete_65 : decode cX2_complete 65 = .ok (.iconst 1, 1) := by decide +kernel
theorem dX2_complete_66 : decode cX2_complete 66 = .ok (.goto 4, 3) := by decide +kernel
theorem dX2_complete_69 : decode cX2_complete 69 = .ok (.iconst 0, 1) := by decide +kernel
theorem dX2_complete_70 : decode cX2_complete 70 = .ok (.ireturn, 1) := by decide +kernel
theorem dX2_back_0 : decode cX2_back 0 = .ok (.aload_n 0, 1) := by decide +kernel
theorem dX2_back_1 : decode cX2_back 1 = .ok (.getfield 31, 3) := by decide +kernel
theorem dX2_back_4 : decode cX2_back 4 = .ok (.ifCond .ne 5, 3) := by decide +kernel
theorem dX2_back_7 : decode cX2_back 7 = .ok (.iconst (-1), 1) := by decide +kernel
theorem dX2_back_8 : decode cX2_back 8 = .ok (.ireturn, 1) := by decide +kernel
theorem dX2_back_9 : decode cX2_back 9 = .ok (.aload_n 0, 1) := by decide +kernel
theorem dX2_back_10 : decode cX2_back 10 = .ok (.dup, 1) := by decide +kernel
theorem dX2_back_11 : decode cX2_back 11 = .ok (.getfield 31, 3) := by decide +kernel
theorem dX2_back_14 : decode cX2_back 14 = .ok (.iconst 1, 1) := by decide +kernel
theorem dX2_back_15 : decode cX2_back 15 = .ok (.isub, 1) := by decide +kernel
theorem dX2_back_16 : decode cX2_back 16 = .ok (.putfield 31, 3) := by decide +kernel
theorem dX2_back_19 : decode cX2_back 19 = .ok (.aload_n 0, 1) := by decide +kernel
theorem dX2_back_20 : decode cX2_back 20 = .ok (.getfield 7, 3) := by decide +kernel
theorem dX2_back_23 : decode cX2_back 23 = .ok (.aload_n 0, 1) := by decide +kernel
theorem dX2_back_24 : decode cX2_back 24 = .ok (.getfield 31, 3) := by decide +kernel
theorem dX2_back_27 : decode cX2_back 27 = .ok (.iaload, 1) := by decide +kernel
theorem dX2_back_28 : decode cX2_back 28 = .ok (.ireturn, 1) := by decide +kernel
theorem dX2_window_0 : decode cX2_window 0 = .ok (.aload_n 0, 1) := by decide +kernel
theorem dX2_window_1 : decode cX2_window 1 = .ok (.getfield 23, 3) := by decide +kernel
theorem dX2_window_4 : decode cX2_window 4 = .ok (.ireturn, 1) := by decide +kernel
theorem dX2_event_0 : decode cX2_event 0 = .ok (.iload_n 1, 1) := by decide +kernel
theorem dX2_event_1 : decode cX2_event 1 = .ok (.ifCond .lt 9, 3) := by decide +kernel
theorem dX2_event_4 : decode cX2_event 4 = .ok (.iload_n 1, 1) := by decide +kernel
theorem dX2_event_5 : decode cX2_event 5 = .ok (.bipush 15, 2) := by decide +kernel
theorem dX2_event_7 : decode cX2_event 7 = .ok (.if_icmp .le 5, 3) := by decide +kernel
theorem dX2_event_10 : decode cX2_event 10 = .ok (.iconst (-1), 1) := by decide +kernel
theorem dX2_event_11 : decode cX2_event 11 = .ok (.ireturn, 1) := by decide +kernel
theorem dX2_event_12 : decode cX2_event 12 = .ok (.aload_n 0, 1) := by decide +kernel
theorem dX2_event_13 : decode cX2_event 13 = .ok (.getfield 34, 3) := by decide +kernel
theorem dX2_event_16 : decode cX2_event 16 = .ok (.sipush 200, 3) := by decide +kernel
theorem dX2_event_19 : decode cX2_event 19 = .ok (.if_icmp .lt 6, 3) := by decide +kernel
theorem dX2_event_22 : decode cX2_event 22 = .ok (.bipush (-2), 2) := by decide +kernel
theorem dX2_event_24 : decode cX2_event 24 = .ok (.ireturn, 1) := by decide +kernel
theorem dX2_event_25 : decode cX2_event 25 = .ok (.aload_n 0, 1) := by decide +kernel
theorem dX2_event_26 : decode cX2_event 26 = .ok (.getfield 13, 3) := by decide +kernel
theorem dX2_event_29 : decode cX2_event 29 = .ok (.aload_n 0, 1) := by decide +kernel
theorem dX2_event_30 : decode cX2_event 30 = .ok (.getfield 34, 3) := by decide +kernel
theorem dX2_event_33 : decode cX2_event 33 = .ok (.iload_n 1, 1) := by decide +kernel
theorem dX2_event_34 : decode cX2_event 34 = .ok (.iastore, 1) := by decide +kernel
theorem dX2_event_35 : decode cX2_event 35 = .ok (.aload_n 0, 1) := by decide +kernel
theorem dX2_event_36 : decode cX2_event 36 = .ok (.dup, 1) := by decide +kernel
theorem dX2_event_37 : decode cX2_event 37 = .ok (.getfield 34, 3) := by decide +kernel
theorem dX2_event_40 : decode cX2_event 40 = .ok (.iconst 1, 1) := by decide +kernel
theorem dX2_event_41 : decode cX2_event 41 = .ok (.iadd, 1) := by decide +kernel
theorem dX2_event_42 : decode cX2_event 42 = .ok (.putfield 34, 3) := by decide +kernel
theorem dX2_event_45 : decode cX2_event 45 = .ok (.aload_n 0, 1) := by decide +kernel
theorem dX2_event_46 : decode cX2_event 46 = .ok (.getfield 34, 3) := by decide +kernel
theorem dX2_event_49 : decode cX2_event 49 = .ok (.iconst 1, 1) := by decide +kernel
theorem dX2_event_50 : decode cX2_event 50 = .ok (.isub, 1) := by decide +kernel
theorem dX2_event_51 : decode cX2_event 51 = .ok (.ireturn, 1) := by decide +kernel
theorem dX2_undo_0 : decode cX2_undo 0 = .ok (.aload_n 0, 1) := by decide +kernel
theorem dX2_undo_1 : decode cX2_undo 1 = .ok (.getfield 34, 3) := by decide +kernel
theorem dX2_undo_4 : decode cX2_undo 4 = .ok (.ifCond .ne 5, 3) := by decide +kernel
theorem dX2_undo_7 : decode cX2_undo 7 = .ok (.iconst (-1), 1) := by decide +kernel
theorem dX2_undo_8 : decode cX2_undo 8 = .ok (.ireturn, 1) := by decide +kernel
theorem dX2_undo_9 : decode cX2_undo 9 = .ok (.aload_n 0, 1) := by decide +kernel
theorem dX2_undo_10 : decode cX2_undo 10 = .ok (.dup, 1) := by decide +kernel
theorem dX2_undo_11 : decode cX2_undo 11 = .ok (.getfield 34, 3) := by decide +kernel
theorem dX2_undo_14 : decode cX2_undo 14 = .ok (.iconst 1, 1) := by decide +kernel
theorem dX2_undo_15 : decode cX2_undo 15 = .ok (.isub, 1) := by decide +kernel
theorem dX2_undo_16 : decode cX2_undo 16 = .ok (.putfield 34, 3) := by decide +kernel
theorem dX2_undo_19 : decode cX2_undo 19 = .ok (.aload_n 0, 1) := by decide +kernel
theorem dX2_undo_20 : decode cX2_undo 20 = .ok (.getfield 34, 3) := by decide +kernel
theorem dX2_undo_23 : decode cX2_undo 23 = .ok (.ireturn, 1) := by decide +kernel
theorem dX2_restart_0 : decode cX2_restart 0 = .ok (.aload_n 0, 1) := by decide +kernel
theorem dX2_restart_1 : decode cX2_restart 1 = .ok (.iconst 0, 1) := by decide +kernel
theorem dX2_restart_2 : decode cX2_restart 2 = .ok (.putfield 34, 3) := by decide +kernel
theorem dX2_restart_5 : decode cX2_restart 5 = .ok (.return_, 1) := by decide +kernel
theorem dX2_events_0 : decode cX2_events 0 = .ok (.aload_n 0, 1) := by decide +kernel
theorem dX2_events_1 : decode cX2_events 1 = .ok (.getfield 34, 3) := by decide +kernel
theorem dX2_events_4 : decode cX2_events 4 = .ok (.ireturn, 1) := by decide +kernel
theorem dX2_now_0 : decode cX2_now 0 = .ok (.aload_n 0, 1) := by decide +kernel
theorem dX2_now_1 : decode cX2_now 1 = .ok (.aload_n 0, 1) := by decide +kernel
theorem dX2_now_2 : decode cX2_now 2 = .ok (.getfield 34, 3) := by decide +kernel
theorem dX2_now_5 : decode cX2_now 5 = .ok (.iconst 1, 1) := by decide +kernel
theorem dX2_now_6 : decode cX2_now 6 = .ok (.isub, 1) := by decide +kernel
theorem dX2_now_7 : decode cX2_now 7 = .ok (.invokevirtual 49, 3) := by decide +kernel
theorem dX2_now_10 : decode cX2_now 10 = .ok (.ireturn, 1) := by decide +kernel
theorem dX2_at_0 : decode cX2_at 0 = .ok (.iload_n 1, 1) := by decide +kernel
theorem dX2_at_1 : decode cX2_at 1 = .ok (.ifCond .lt 18, 3) := by decide +kernel
theorem dX2_at_4 : decode cX2_at 4 = .ok (.iload_n 1, 1) := by decide +kernel
theorem dX2_at_5 : decode cX2_at 5 = .ok (.aload_n 0, 1) := by decide +kernel
theorem dX2_at_6 : decode cX2_at 6 = .ok (.getfield 34, 3) := by decide +kernel
theorem dX2_at_9 : decode cX2_at 9 = .ok (.if_icmp .ge 10, 3) := by decide +kernel
theorem dX2_at_12 : decode cX2_at 12 = .ok (.aload_n 0, 1) := by decide +kernel
theorem dX2_at_13 : decode cX2_at 13 = .ok (.invokevirtual 27, 3) := by decide +kernel
theorem dX2_at_16 : decode cX2_at 16 = .ok (.ifCond .ne 5, 3) := by decide +kernel
theorem dX2_at_19 : decode cX2_at 19 = .ok (.iconst 0, 1) := by decide +kernel
theorem dX2_at_20 : decode cX2_at 20 = .ok (.ireturn, 1) := by decide +kernel
theorem dX2_at_21 : decode cX2_at 21 = .ok (.aload_n 0, 1) := by decide +kernel
theorem dX2_at_22 : decode cX2_at 22 = .ok (.aload_n 0, 1) := by decide +kernel
theorem dX2_at_23 : decode cX2_at 23 = .ok (.getfield 34, 3) := by decide +kernel
theorem dX2_at_26 : decode cX2_at 26 = .ok (.invokevirtual 53, 3) := by decide +kernel
theorem dX2_at_29 : decode cX2_at 29 = .ok (.aload_n 0, 1) := by decide +kernel
theorem dX2_at_30 : decode cX2_at 30 = .ok (.getfield 16, 3) := by decide +kernel
theorem dX2_at_33 : decode cX2_at 33 = .ok (.iload_n 1, 1) := by decide +kernel
theorem dX2_at_34 : decode cX2_at 34 = .ok (.baload, 1) := by decide +kernel
theorem dX2_at_35 : decode cX2_at 35 = .ok (.ireturn, 1) := by decide +kernel
theorem dX2_work_0 : decode cX2_work 0 = .ok (.iconst 0, 1) := by decide +kernel
theorem dX2_work_1 : decode cX2_work 1 = .ok (.istore_n 2, 1) := by decide +kernel
theorem dX2_work_2 : decode cX2_work 2 = .ok (.aload_n 0, 1) := by decide +kernel
theorem dX2_work_3 : decode cX2_work 3 = .ok (.getfield 31, 3) := by decide +kernel
theorem dX2_work_6 : decode cX2_work 6 = .ok (.iconst 1, 1) := by decide +kernel
theorem dX2_work_7 : decode cX2_work 7 = .ok (.isub, 1) := by decide +kernel
theorem dX2_work_8 : decode cX2_work 8 = .ok (.istore_n 3, 1) := by decide +kernel
theorem dX2_work_9 : decode cX2_work 9 = .ok (.iload_n 3, 1) := by decide +kernel
theorem dX2_work_10 : decode cX2_work 10 = .ok (.ifCond .lt 157, 3) := by decide +kernel
theorem dX2_work_13 : decode cX2_work 13 = .ok (.aload_n 0, 1) := by decide +kernel
theorem dX2_work_14 : decode cX2_work 14 = .ok (.getfield 7, 3) := by decide +kernel
theorem dX2_work_17 : decode cX2_work 17 = .ok (.iload_n 3, 1) := by decide +kernel
theorem dX2_work_18 : decode cX2_work 18 = .ok (.iaload, 1) := by decide +kernel
theorem dX2_work_19 : decode cX2_work 19 = .ok (.istore 4, 2) := by decide +kernel
theorem dX2_work_21 : decode cX2_work 21 = .ok (.iload 4, 2) := by decide +kernel
theorem dX2_work_23 : decode cX2_work 23 = .ok (.iconst 3, 1) := by decide +kernel
theorem dX2_work_24 : decode cX2_work 24 = .ok (.if_icmp .gt 7, 3) := by decide +kernel
theorem dX2_work_27 : decode cX2_work 27 = .ok (.iconst 0, 1) := by decide +kernel
theorem dX2_work_28 : decode cX2_work 28 = .ok (.goto 28, 3) := by decide +kernel
theorem dX2_work_31 : decode cX2_work 31 = .ok (.iload 4, 2) := by decide +kernel
theorem dX2_work_33 : decode cX2_work 33 = .ok (.iconst 5, 1) := by decide +kernel
theorem dX2_work_34 : decode cX2_work 34 = .ok (.if_icmp .eq 17, 3) := by decide +kernel
theorem dX2_work_37 : decode cX2_work 37 = .ok (.iload 4, 2) := by decide +kernel
theorem dX2_work_39 : decode cX2_work 39 = .ok (.bipush 6, 2) := by decide +kernel
theorem dX2_work_41 : decode cX2_work 41 = .ok (.if_icmp .eq 10, 3) := by decide +kernel
theorem dX2_work_44 : decode cX2_work 44 = .ok (.iload 4, 2) := by decide +kernel
theorem dX2_work_46 : decode cX2_work 46 = .ok (.bipush 10, 2) := by decide +kernel
theorem dX2_work_48 : decode cX2_work 48 = .ok (.if_icmp .ne 7, 3) := by decide +kernel
theorem dX2_work_51 : decode cX2_work 51 = .ok (.iconst 2, 1) := by decide +kernel
theorem dX2_work_52 : decode cX2_work 52 = .ok (.goto 4, 3) := by decide +kernel
theorem dX2_work_55 : decode cX2_work 55 = .ok (.iconst 1, 1) := by decide +kernel
theorem dX2_work_56 : decode cX2_work 56 = .ok (.istore 5, 2) := by decide +kernel
theorem dX2_work_58 : decode cX2_work 58 = .ok (.iload_n 2, 1) := by decide +kernel
theorem dX2_work_59 : decode cX2_work 59 = .ok (.iconst 1, 1) := by decide +kernel
theorem dX2_work_60 : decode cX2_work 60 = .ok (.if_icmp .lt 14, 3) := by decide +kernel
theorem dX2_work_63 : decode cX2_work 63 = .ok (.aload_n 0, 1) := by decide +kernel
theorem dX2_work_64 : decode cX2_work 64 = .ok (.getfield 20, 3) := by decide +kernel
theorem dX2_work_67 : decode cX2_work 67 = .ok (.iload_n 2, 1) := by decide +kernel
theorem dX2_work_68 : decode cX2_work 68 = .ok (.iconst 1, 1) := by decide +kernel
theorem dX2_work_69 : decode cX2_work 69 = .ok (.isub, 1) := by decide +kernel
theorem dX2_work_70 : decode cX2_work 70 = .ok (.iaload, 1) := by decide +kernel
theorem dX2_work_71 : decode cX2_work 71 = .ok (.goto 4, 3) := by decide +kernel
theorem dX2_work_74 : decode cX2_work 74 = .ok (.iconst 0, 1) := by decide +kernel
theorem dX2_work_75 : decode cX2_work 75 = .ok (.istore 6, 2) := by decide +kernel
theorem dX2_work_77 : decode cX2_work 77 = .ok (.iload_n 2, 1) := by decide +kernel
theorem dX2_work_78 : decode cX2_work 78 = .ok (.iconst 2, 1) := by decide +kernel
theorem dX2_work_79 : decode cX2_work 79 = .ok (.if_icmp .lt 14, 3) := by decide +kernel
theorem dX2_work_82 : decode cX2_work 82 = .ok (.aload_n 0, 1) := by decide +kernel
theorem dX2_work_83 : decode cX2_work 83 = .ok (.getfield 20, 3) := by decide +kernel
theorem dX2_work_86 : decode cX2_work 86 = .ok (.iload_n 2, 1) := by decide +kernel
theorem dX2_work_87 : decode cX2_work 87 = .ok (.iconst 2, 1) := by decide +kernel
theorem dX2_work_88 : decode cX2_work 88 = .ok (.isub, 1) := by decide +kernel
theorem dX2_work_89 : decode cX2_work 89 = .ok (.iaload, 1) := by decide +kernel
theorem dX2_work_90 : decode cX2_work 90 = .ok (.goto 4, 3) := by decide +kernel
theorem dX2_work_93 : decode cX2_work 93 = .ok (.iconst 0, 1) := by decide +kernel
theorem dX2_work_94 : decode cX2_work 94 = .ok (.istore 7, 2) := by decide +kernel
theorem dX2_work_96 : decode cX2_work 96 = .ok (.iconst 0, 1) := by decide +kernel
theorem dX2_work_97 : decode cX2_work 97 = .ok (.istore 8, 2) := by decide +kernel
theorem dX2_work_99 : decode cX2_work 99 = .ok (.iload 8, 2) := by decide +kernel
theorem dX2_work_101 : decode cX2_work 101 = .ok (.iload_n 1, 1) := by decide +kernel
theorem dX2_work_102 : decode cX2_work 102 = .ok (.if_icmp .ge 34, 3) := by decide +kernel
theorem dX2_work_105 : decode cX2_work 105 = .ok (.aload_n 0, 1) := by decide +kernel
theorem dX2_work_106 : decode cX2_work 106 = .ok (.getfield 16, 3) := by decide +kernel
theorem dX2_work_109 : decode cX2_work 109 = .ok (.sipush 201, 3) := by decide +kernel
theorem dX2_work_112 : decode cX2_work 112 = .ok (.iload_n 3, 1) := by decide +kernel
theorem dX2_work_113 : decode cX2_work 113 = .ok (.imul, 1) := by decide +kernel
theorem dX2_work_114 : decode cX2_work 114 = .ok (.iload 8, 2) := by decide +kernel
theorem dX2_work_116 : decode cX2_work 116 = .ok (.iadd, 1) := by decide +kernel
theorem dX2_work_117 : decode cX2_work 117 = .ok (.aload_n 0, 1) := by decide +kernel
theorem dX2_work_118 : decode cX2_work 118 = .ok (.iload 4, 2) := by decide +kernel
theorem dX2_work_120 : decode cX2_work 120 = .ok (.iload 6, 2) := by decide +kernel
theorem dX2_work_122 : decode cX2_work 122 = .ok (.iload 7, 2) := by decide +kernel
theorem dX2_work_124 : decode cX2_work 124 = .ok (.iload 8, 2) := by decide +kernel
theorem dX2_work_126 : decode cX2_work 126 = .ok (.invokevirtual 45, 3) := by decide +kernel
theorem dX2_work_129 : decode cX2_work 129 = .ok (.bastore, 1) := by decide +kernel
theorem dX2_work_130 : decode cX2_work 130 = .ok (.iinc 8 1, 3) := by decide +kernel
theorem dX2_work_133 : decode cX2_work 133 = .ok (.goto (-34), 3) := by decide +kernel
theorem dX2_work_136 : decode cX2_work 136 = .ok (.iload_n 2, 1) := by decide +kernel
theorem dX2_work_137 : decode cX2_work 137 = .ok (.iload 5, 2) := by decide +kernel
theorem dX2_work_139 : decode cX2_work 139 = .ok (.if_icmp .lt 10, 3) := by decide +kernel
theorem dX2_work_142 : decode cX2_work 142 = .ok (.iload_n 2, 1) := by decide +kernel
theorem dX2_work_143 : decode cX2_work 143 = .ok (.iload 5, 2) := by decide +kernel
theorem dX2_work_145 : decode cX2_work 145 = .ok (.isub, 1) := by decide +kernel
theorem dX2_work_146 : decode cX2_work 146 = .ok (.goto 4, 3) := by decide +kernel
theorem dX2_work_149 : decode cX2_work 149 = .ok (.iconst 0, 1) := by decide +kernel
theorem dX2_work_150 : decode cX2_work 150 = .ok (.istore_n 2, 1) := by decide +kernel
theorem dX2_work_151 : decode cX2_work 151 = .ok (.aload_n 0, 1) := by decide +kernel
theorem dX2_work_152 : decode cX2_work 152 = .ok (.getfield 20, 3) := by decide +kernel
theorem dX2_work_155 : decode cX2_work 155 = .ok (.iload_n 2, 1) := by decide +kernel
theorem dX2_work_156 : decode cX2_work 156 = .ok (.iload_n 3, 1) := by decide +kernel
theorem dX2_work_157 : decode cX2_work 157 = .ok (.iastore, 1) := by decide +kernel
theorem dX2_work_158 : decode cX2_work 158 = .ok (.iinc 2 1, 3) := by decide +kernel
theorem dX2_work_161 : decode cX2_work 161 = .ok (.iinc 3 (-1), 3) := by decide +kernel
theorem dX2_work_164 : decode cX2_work 164 = .ok (.goto (-155), 3) := by decide +kernel
theorem dX2_work_167 : decode cX2_work 167 = .ok (.return_, 1) := by decide +kernel
theorem dX2_truth_0 : decode cX2_truth 0 = .ok (.iload_n 1, 1) := by decide +kernel
theorem dX2_truth_1 : decode cX2_truth 1 = .ok (.iconst 3, 1) := by decide +kernel
theorem dX2_truth_2 : decode cX2_truth 2 = .ok (.if_icmp .gt 24, 3) := by decide +kernel
theorem dX2_truth_5 : decode cX2_truth 5 = .ok (.aload_n 0, 1) := by decide +kernel
theorem dX2_truth_6 : decode cX2_truth 6 = .ok (.getfield 13, 3) := by decide +kernel
theorem dX2_truth_9 : decode cX2_truth 9 = .ok (.iload 4, 2) := by decide +kernel
theorem dX2_truth_11 : decode cX2_truth 11 = .ok (.iaload, 1) := by decide +kernel
theorem dX2_truth_12 : decode cX2_truth 12 = .ok (.iload_n 1, 1) := by decide +kernel
theorem dX2_truth_13 : decode cX2_truth 13 = .ok (.ishr, 1) := by decide +kernel
theorem dX2_truth_14 : decode cX2_truth 14 = .ok (.iconst 1, 1) := by decide +kernel
theorem dX2_truth_15 : decode cX2_truth 15 = .ok (.iand, 1) := by decide +kernel
theorem dX2_truth_16 : decode cX2_truth 16 = .ok (.iconst 1, 1) := by decide +kernel
theorem dX2_truth_17 : decode cX2_truth 17 = .ok (.if_icmp .ne 7, 3) := by decide +kernel
theorem dX2_truth_20 : decode cX2_truth 20 = .ok (.iconst 1, 1) := by decide +kernel
theorem dX2_truth_21 : decode cX2_truth 21 = .ok (.goto 4, 3) := by decide +kernel
theorem dX2_truth_24 : decode cX2_truth 24 = .ok (.iconst 0, 1) := by decide +kernel
theorem dX2_truth_25 : decode cX2_truth 25 = .ok (.ireturn, 1) := by decide +kernel
theorem dX2_truth_26 : decode cX2_truth 26 = .ok (.aload_n 0, 1) := by decide +kernel
theorem dX2_truth_27 : decode cX2_truth 27 = .ok (.getfield 16, 3) := by decide +kernel
theorem dX2_truth_30 : decode cX2_truth 30 = .ok (.sipush 201, 3) := by decide +kernel
theorem dX2_truth_33 : decode cX2_truth 33 = .ok (.iload_n 2, 1) := by decide +kernel
end
section
set_option maxRecDepth 100000
theorem dX2_truth_34 : decode cX2_truth 34 = .ok (.imul, 1) := by decide +kernel
theorem dX2_truth_35 : decode cX2_truth 35 = .ok (.iload 4, 2) := by decide +kernel
theorem dX2_truth_37 : decode cX2_truth 37 = .ok (.iadd, 1) := by decide +kernel
theorem dX2_truth_38 : decode cX2_truth 38 = .ok (.baload, 1) := by decide +kernel
theorem dX2_truth_39 : decode cX2_truth 39 = .ok (.istore 5, 2) := by decide +kernel
theorem dX2_truth_41 : decode cX2_truth 41 = .ok (.aload_n 0, 1) := by decide +kernel
theorem dX2_truth_42 : decode cX2_truth 42 = .ok (.getfield 16, 3) := by decide +kernel
theorem dX2_truth_45 : decode cX2_truth 45 = .ok (.sipush 201, 3) := by decide +kernel
theorem dX2_truth_48 : decode cX2_truth 48 = .ok (.iload_n 3, 1) := by decide +kernel
theorem dX2_truth_49 : decode cX2_truth 49 = .ok (.imul, 1) := by decide +kernel
theorem dX2_truth_50 : decode cX2_truth 50 = .ok (.iload 4, 2) := by decide +kernel
theorem dX2_truth_52 : decode cX2_truth 52 = .ok (.iadd, 1) := by decide +kernel
theorem dX2_truth_53 : decode cX2_truth 53 = .ok (.baload, 1) := by decide +kernel
theorem dX2_truth_54 : decode cX2_truth 54 = .ok (.istore 6, 2) := by decide +kernel
theorem dX2_truth_56 : decode cX2_truth 56 = .ok (.iload_n 1, 1) := by decide +kernel
theorem dX2_truth_57 : decode cX2_truth 57 = .ok (.bipush 6, 2) := by decide +kernel
theorem dX2_truth_59 : decode cX2_truth 59 = .ok (.if_icmp .gt 60, 3) := by decide +kernel
theorem dX2_truth_62 : decode cX2_truth 62 = .ok (.iload_n 1, 1) := by decide +kernel
theorem dX2_truth_63 : decode cX2_truth 63 = .ok (.iconst 4, 1) := by decide +kernel
theorem dX2_truth_64 : decode cX2_truth 64 = .ok (.if_icmp .ne 16, 3) := by decide +kernel
theorem dX2_truth_67 : decode cX2_truth 67 = .ok (.iload 5, 2) := by decide +kernel
theorem dX2_truth_69 : decode cX2_truth 69 = .ok (.ifCond .ne 7, 3) := by decide +kernel
theorem dX2_truth_72 : decode cX2_truth 72 = .ok (.iconst 1, 1) := by decide +kernel
theorem dX2_truth_73 : decode cX2_truth 73 = .ok (.goto 45, 3) := by decide +kernel
theorem dX2_truth_76 : decode cX2_truth 76 = .ok (.iconst 0, 1) := by decide +kernel
theorem dX2_truth_77 : decode cX2_truth 77 = .ok (.goto 41, 3) := by decide +kernel
theorem dX2_truth_80 : decode cX2_truth 80 = .ok (.iload_n 1, 1) := by decide +kernel
theorem dX2_truth_81 : decode cX2_truth 81 = .ok (.iconst 5, 1) := by decide +kernel
theorem dX2_truth_82 : decode cX2_truth 82 = .ok (.if_icmp .ne 21, 3) := by decide +kernel
theorem dX2_truth_85 : decode cX2_truth 85 = .ok (.iload 5, 2) := by decide +kernel
theorem dX2_truth_87 : decode cX2_truth 87 = .ok (.ifCond .eq 12, 3) := by decide +kernel
theorem dX2_truth_90 : decode cX2_truth 90 = .ok (.iload 6, 2) := by decide +kernel
theorem dX2_truth_92 : decode cX2_truth 92 = .ok (.ifCond .eq 7, 3) := by decide +kernel
theorem dX2_truth_95 : decode cX2_truth 95 = .ok (.iconst 1, 1) := by decide +kernel
theorem dX2_truth_96 : decode cX2_truth 96 = .ok (.goto 22, 3) := by decide +kernel
theorem dX2_truth_99 : decode cX2_truth 99 = .ok (.iconst 0, 1) := by decide +kernel
theorem dX2_truth_100 : decode cX2_truth 100 = .ok (.goto 18, 3) := by decide +kernel
theorem dX2_truth_103 : decode cX2_truth 103 = .ok (.iload 5, 2) := by decide +kernel
theorem dX2_truth_105 : decode cX2_truth 105 = .ok (.ifCond .ne 8, 3) := by decide +kernel
theorem dX2_truth_108 : decode cX2_truth 108 = .ok (.iload 6, 2) := by decide +kernel
theorem dX2_truth_110 : decode cX2_truth 110 = .ok (.ifCond .eq 7, 3) := by decide +kernel
theorem dX2_truth_113 : decode cX2_truth 113 = .ok (.iconst 1, 1) := by decide +kernel
theorem dX2_truth_114 : decode cX2_truth 114 = .ok (.goto 4, 3) := by decide +kernel
theorem dX2_truth_117 : decode cX2_truth 117 = .ok (.iconst 0, 1) := by decide +kernel
theorem dX2_truth_118 : decode cX2_truth 118 = .ok (.ireturn, 1) := by decide +kernel
theorem dX2_truth_119 : decode cX2_truth 119 = .ok (.iload_n 1, 1) := by decide +kernel
theorem dX2_truth_120 : decode cX2_truth 120 = .ok (.bipush 7, 2) := by decide +kernel
theorem dX2_truth_122 : decode cX2_truth 122 = .ok (.if_icmp .ne 32, 3) := by decide +kernel
theorem dX2_truth_125 : decode cX2_truth 125 = .ok (.iload 4, 2) := by decide +kernel
theorem dX2_truth_127 : decode cX2_truth 127 = .ok (.ifCond .le 25, 3) := by decide +kernel
theorem dX2_truth_130 : decode cX2_truth 130 = .ok (.aload_n 0, 1) := by decide +kernel
theorem dX2_truth_131 : decode cX2_truth 131 = .ok (.getfield 16, 3) := by decide +kernel
theorem dX2_truth_134 : decode cX2_truth 134 = .ok (.sipush 201, 3) := by decide +kernel
theorem dX2_truth_137 : decode cX2_truth 137 = .ok (.iload_n 2, 1) := by decide +kernel
theorem dX2_truth_138 : decode cX2_truth 138 = .ok (.imul, 1) := by decide +kernel
theorem dX2_truth_139 : decode cX2_truth 139 = .ok (.iload 4, 2) := by decide +kernel
theorem dX2_truth_141 : decode cX2_truth 141 = .ok (.iadd, 1) := by decide +kernel
theorem dX2_truth_142 : decode cX2_truth 142 = .ok (.iconst 1, 1) := by decide +kernel
theorem dX2_truth_143 : decode cX2_truth 143 = .ok (.isub, 1) := by decide +kernel
theorem dX2_truth_144 : decode cX2_truth 144 = .ok (.baload, 1) := by decide +kernel
theorem dX2_truth_145 : decode cX2_truth 145 = .ok (.ifCond .eq 7, 3) := by decide +kernel
theorem dX2_truth_148 : decode cX2_truth 148 = .ok (.iconst 1, 1) := by decide +kernel
theorem dX2_truth_149 : decode cX2_truth 149 = .ok (.goto 4, 3) := by decide +kernel
theorem dX2_truth_152 : decode cX2_truth 152 = .ok (.iconst 0, 1) := by decide +kernel
theorem dX2_truth_153 : decode cX2_truth 153 = .ok (.ireturn, 1) := by decide +kernel
theorem dX2_truth_154 : decode cX2_truth 154 = .ok (.iload_n 1, 1) := by decide +kernel
theorem dX2_truth_155 : decode cX2_truth 155 = .ok (.bipush 10, 2) := by decide +kernel
theorem dX2_truth_157 : decode cX2_truth 157 = .ok (.if_icmp .ne 12, 3) := by decide +kernel
theorem dX2_truth_160 : decode cX2_truth 160 = .ok (.aload_n 0, 1) := by decide +kernel
theorem dX2_truth_161 : decode cX2_truth 161 = .ok (.iload_n 2, 1) := by decide +kernel
theorem dX2_truth_162 : decode cX2_truth 162 = .ok (.iload_n 3, 1) := by decide +kernel
theorem dX2_truth_163 : decode cX2_truth 163 = .ok (.iload 4, 2) := by decide +kernel
theorem dX2_truth_165 : decode cX2_truth 165 = .ok (.invokevirtual 41, 3) := by decide +kernel
theorem dX2_truth_168 : decode cX2_truth 168 = .ok (.ireturn, 1) := by decide +kernel
theorem dX2_truth_169 : decode cX2_truth 169 = .ok (.aload_n 0, 1) := by decide +kernel
theorem dX2_truth_170 : decode cX2_truth 170 = .ok (.iload_n 2, 1) := by decide +kernel
theorem dX2_truth_171 : decode cX2_truth 171 = .ok (.iload_n 1, 1) := by decide +kernel
theorem dX2_truth_172 : decode cX2_truth 172 = .ok (.bipush 9, 2) := by decide +kernel
theorem dX2_truth_174 : decode cX2_truth 174 = .ok (.if_icmp .gt 7, 3) := by decide +kernel
theorem dX2_truth_177 : decode cX2_truth 177 = .ok (.iconst 0, 1) := by decide +kernel
theorem dX2_truth_178 : decode cX2_truth 178 = .ok (.goto 10, 3) := by decide +kernel
theorem dX2_truth_181 : decode cX2_truth 181 = .ok (.iload 4, 2) := by decide +kernel
theorem dX2_truth_183 : decode cX2_truth 183 = .ok (.aload_n 0, 1) := by decide +kernel
theorem dX2_truth_184 : decode cX2_truth 184 = .ok (.getfield 23, 3) := by decide +kernel
theorem dX2_truth_187 : decode cX2_truth 187 = .ok (.isub, 1) := by decide +kernel
theorem dX2_truth_188 : decode cX2_truth 188 = .ok (.iload 4, 2) := by decide +kernel
theorem dX2_truth_190 : decode cX2_truth 190 = .ok (.iload_n 1, 1) := by decide +kernel
theorem dX2_truth_191 : decode cX2_truth 191 = .ok (.bipush 9, 2) := by decide +kernel
theorem dX2_truth_193 : decode cX2_truth 193 = .ok (.if_icmp .eq 9, 3) := by decide +kernel
theorem dX2_truth_196 : decode cX2_truth 196 = .ok (.iload_n 1, 1) := by decide +kernel
theorem dX2_truth_197 : decode cX2_truth 197 = .ok (.bipush 12, 2) := by decide +kernel
theorem dX2_truth_199 : decode cX2_truth 199 = .ok (.if_icmp .ne 7, 3) := by decide +kernel
theorem dX2_truth_202 : decode cX2_truth 202 = .ok (.iconst 1, 1) := by decide +kernel
theorem dX2_truth_203 : decode cX2_truth 203 = .ok (.goto 4, 3) := by decide +kernel
theorem dX2_truth_206 : decode cX2_truth 206 = .ok (.iconst 0, 1) := by decide +kernel
theorem dX2_truth_207 : decode cX2_truth 207 = .ok (.invokevirtual 37, 3) := by decide +kernel
theorem dX2_truth_210 : decode cX2_truth 210 = .ok (.ireturn, 1) := by decide +kernel
theorem dX2_since_0 : decode cX2_since 0 = .ok (.iconst 0, 1) := by decide +kernel
theorem dX2_since_1 : decode cX2_since 1 = .ok (.istore 4, 2) := by decide +kernel
theorem dX2_since_3 : decode cX2_since 3 = .ok (.iconst 0, 1) := by decide +kernel
theorem dX2_since_4 : decode cX2_since 4 = .ok (.istore 5, 2) := by decide +kernel
theorem dX2_since_6 : decode cX2_since 6 = .ok (.iload 5, 2) := by decide +kernel
theorem dX2_since_8 : decode cX2_since 8 = .ok (.iload_n 3, 1) := by decide +kernel
theorem dX2_since_9 : decode cX2_since 9 = .ok (.if_icmp .gt 51, 3) := by decide +kernel
theorem dX2_since_12 : decode cX2_since 12 = .ok (.iload 4, 2) := by decide +kernel
theorem dX2_since_14 : decode cX2_since 14 = .ok (.ifCond .ne 33, 3) := by decide +kernel
theorem dX2_since_17 : decode cX2_since 17 = .ok (.aload_n 0, 1) := by decide +kernel
theorem dX2_since_18 : decode cX2_since 18 = .ok (.getfield 16, 3) := by decide +kernel
theorem dX2_since_21 : decode cX2_since 21 = .ok (.sipush 201, 3) := by decide +kernel
theorem dX2_since_24 : decode cX2_since 24 = .ok (.iload_n 2, 1) := by decide +kernel
theorem dX2_since_25 : decode cX2_since 25 = .ok (.imul, 1) := by decide +kernel
theorem dX2_since_26 : decode cX2_since 26 = .ok (.iload 5, 2) := by decide +kernel
theorem dX2_since_28 : decode cX2_since 28 = .ok (.iadd, 1) := by decide +kernel
theorem dX2_since_29 : decode cX2_since 29 = .ok (.baload, 1) := by decide +kernel
theorem dX2_since_30 : decode cX2_since 30 = .ok (.ifCond .eq 21, 3) := by decide +kernel
theorem dX2_since_33 : decode cX2_since 33 = .ok (.aload_n 0, 1) := by decide +kernel
theorem dX2_since_34 : decode cX2_since 34 = .ok (.iload_n 1, 1) := by decide +kernel
theorem dX2_since_35 : decode cX2_since 35 = .ok (.iload 5, 2) := by decide +kernel
theorem dX2_since_37 : decode cX2_since 37 = .ok (.iconst 1, 1) := by decide +kernel
theorem dX2_since_38 : decode cX2_since 38 = .ok (.iadd, 1) := by decide +kernel
theorem dX2_since_39 : decode cX2_since 39 = .ok (.iload_n 3, 1) := by decide +kernel
theorem dX2_since_40 : decode cX2_since 40 = .ok (.iconst 1, 1) := by decide +kernel
theorem dX2_since_41 : decode cX2_since 41 = .ok (.invokevirtual 37, 3) := by decide +kernel
theorem dX2_since_44 : decode cX2_since 44 = .ok (.ifCond .eq 7, 3) := by decide +kernel
theorem dX2_since_47 : decode cX2_since 47 = .ok (.iconst 1, 1) := by decide +kernel
theorem dX2_since_48 : decode cX2_since 48 = .ok (.goto 4, 3) := by decide +kernel
theorem dX2_since_51 : decode cX2_since 51 = .ok (.iconst 0, 1) := by decide +kernel
theorem dX2_since_52 : decode cX2_since 52 = .ok (.istore 4, 2) := by decide +kernel
theorem dX2_since_54 : decode cX2_since 54 = .ok (.iinc 5 1, 3) := by decide +kernel
theorem dX2_since_57 : decode cX2_since 57 = .ok (.goto (-51), 3) := by decide +kernel
theorem dX2_since_60 : decode cX2_since 60 = .ok (.iload 4, 2) := by decide +kernel
theorem dX2_since_62 : decode cX2_since 62 = .ok (.ireturn, 1) := by decide +kernel
theorem dX2_during_0 : decode cX2_during 0 = .ok (.iload 4, 2) := by decide +kernel
theorem dX2_during_2 : decode cX2_during 2 = .ok (.istore 5, 2) := by decide +kernel
theorem dX2_during_4 : decode cX2_during 4 = .ok (.iload_n 2, 1) := by decide +kernel
theorem dX2_during_5 : decode cX2_during 5 = .ok (.ifCond .ge 7, 3) := by decide +kernel
theorem dX2_during_8 : decode cX2_during 8 = .ok (.iconst 0, 1) := by decide +kernel
theorem dX2_during_9 : decode cX2_during 9 = .ok (.goto 4, 3) := by decide +kernel
theorem dX2_during_12 : decode cX2_during 12 = .ok (.iload_n 2, 1) := by decide +kernel
theorem dX2_during_13 : decode cX2_during 13 = .ok (.istore 6, 2) := by decide +kernel
theorem dX2_during_15 : decode cX2_during 15 = .ok (.iload 6, 2) := by decide +kernel
theorem dX2_during_17 : decode cX2_during 17 = .ok (.iload_n 3, 1) := by decide +kernel
theorem dX2_during_18 : decode cX2_during 18 = .ok (.if_icmp .gt 71, 3) := by decide +kernel
theorem dX2_during_21 : decode cX2_during 21 = .ok (.iload 4, 2) := by decide +kernel
theorem dX2_during_23 : decode cX2_during 23 = .ok (.ifCond .eq 32, 3) := by decide +kernel
theorem dX2_during_26 : decode cX2_during 26 = .ok (.iload 5, 2) := by decide +kernel
theorem dX2_during_28 : decode cX2_during 28 = .ok (.ifCond .eq 23, 3) := by decide +kernel
theorem dX2_during_31 : decode cX2_during 31 = .ok (.aload_n 0, 1) := by decide +kernel
theorem dX2_during_32 : decode cX2_during 32 = .ok (.getfield 16, 3) := by decide +kernel
theorem dX2_during_35 : decode cX2_during 35 = .ok (.sipush 201, 3) := by decide +kernel
theorem dX2_during_38 : decode cX2_during 38 = .ok (.iload_n 1, 1) := by decide +kernel
theorem dX2_during_39 : decode cX2_during 39 = .ok (.imul, 1) := by decide +kernel
theorem dX2_during_40 : decode cX2_during 40 = .ok (.iload 6, 2) := by decide +kernel
theorem dX2_during_42 : decode cX2_during 42 = .ok (.iadd, 1) := by decide +kernel
theorem dX2_during_43 : decode cX2_during 43 = .ok (.baload, 1) := by decide +kernel
theorem dX2_during_44 : decode cX2_during 44 = .ok (.ifCond .eq 7, 3) := by decide +kernel
theorem dX2_during_47 : decode cX2_during 47 = .ok (.iconst 1, 1) := by decide +kernel
theorem dX2_during_48 : decode cX2_during 48 = .ok (.goto 33, 3) := by decide +kernel
theorem dX2_during_51 : decode cX2_during 51 = .ok (.iconst 0, 1) := by decide +kernel
theorem dX2_during_52 : decode cX2_during 52 = .ok (.goto 29, 3) := by decide +kernel
theorem dX2_during_55 : decode cX2_during 55 = .ok (.iload 5, 2) := by decide +kernel
theorem dX2_during_57 : decode cX2_during 57 = .ok (.ifCond .ne 19, 3) := by decide +kernel
theorem dX2_during_60 : decode cX2_during 60 = .ok (.aload_n 0, 1) := by decide +kernel
theorem dX2_during_61 : decode cX2_during 61 = .ok (.getfield 16, 3) := by decide +kernel
theorem dX2_during_64 : decode cX2_during 64 = .ok (.sipush 201, 3) := by decide +kernel
theorem dX2_during_67 : decode cX2_during 67 = .ok (.iload_n 1, 1) := by decide +kernel
theorem dX2_during_68 : decode cX2_during 68 = .ok (.imul, 1) := by decide +kernel
theorem dX2_during_69 : decode cX2_during 69 = .ok (.iload 6, 2) := by decide +kernel
theorem dX2_during_71 : decode cX2_during 71 = .ok (.iadd, 1) := by decide +kernel
theorem dX2_during_72 : decode cX2_during 72 = .ok (.baload, 1) := by decide +kernel
theorem dX2_during_73 : decode cX2_during 73 = .ok (.ifCond .eq 7, 3) := by decide +kernel
theorem dX2_during_76 : decode cX2_during 76 = .ok (.iconst 1, 1) := by decide +kernel
theorem dX2_during_77 : decode cX2_during 77 = .ok (.goto 4, 3) := by decide +kernel
theorem dX2_during_80 : decode cX2_during 80 = .ok (.iconst 0, 1) := by decide +kernel
theorem dX2_during_81 : decode cX2_during 81 = .ok (.istore 5, 2) := by decide +kernel
theorem dX2_during_83 : decode cX2_during 83 = .ok (.iinc 6 1, 3) := by decide +kernel
theorem dX2_during_86 : decode cX2_during 86 = .ok (.goto (-71), 3) := by decide +kernel
theorem dX2_during_89 : decode cX2_during 89 = .ok (.iload 5, 2) := by decide +kernel
theorem dX2_during_91 : decode cX2_during 91 = .ok (.ireturn, 1) := by decide +kernel
theorem dX2_count_0 : decode cX2_count 0 = .ok (.aload_n 0, 1) := by decide +kernel
theorem dX2_count_1 : decode cX2_count 1 = .ok (.invokevirtual 27, 3) := by decide +kernel
theorem dX2_count_4 : decode cX2_count 4 = .ok (.ifCond .ne 5, 3) := by decide +kernel
theorem dX2_count_7 : decode cX2_count 7 = .ok (.iconst (-1), 1) := by decide +kernel
theorem dX2_count_8 : decode cX2_count 8 = .ok (.ireturn, 1) := by decide +kernel
theorem dX2_count_9 : decode cX2_count 9 = .ok (.aload_n 0, 1) := by decide +kernel
theorem dX2_count_10 : decode cX2_count 10 = .ok (.aload_n 0, 1) := by decide +kernel
theorem dX2_count_11 : decode cX2_count 11 = .ok (.getfield 34, 3) := by decide +kernel
theorem dX2_count_14 : decode cX2_count 14 = .ok (.invokevirtual 53, 3) := by decide +kernel
theorem dX2_count_17 : decode cX2_count 17 = .ok (.iconst 0, 1) := by decide +kernel
theorem dX2_count_18 : decode cX2_count 18 = .ok (.istore_n 1, 1) := by decide +kernel
theorem dX2_count_19 : decode cX2_count 19 = .ok (.iconst 0, 1) := by decide +kernel
theorem dX2_count_20 : decode cX2_count 20 = .ok (.istore_n 2, 1) := by decide +kernel
theorem dX2_count_21 : decode cX2_count 21 = .ok (.iload_n 2, 1) := by decide +kernel
theorem dX2_count_22 : decode cX2_count 22 = .ok (.aload_n 0, 1) := by decide +kernel
theorem dX2_count_23 : decode cX2_count 23 = .ok (.getfield 34, 3) := by decide +kernel
theorem dX2_count_26 : decode cX2_count 26 = .ok (.if_icmp .ge 26, 3) := by decide +kernel
theorem dX2_count_29 : decode cX2_count 29 = .ok (.iload_n 1, 1) := by decide +kernel
theorem dX2_count_30 : decode cX2_count 30 = .ok (.aload_n 0, 1) := by decide +kernel
theorem dX2_count_31 : decode cX2_count 31 = .ok (.getfield 16, 3) := by decide +kernel
theorem dX2_count_34 : decode cX2_count 34 = .ok (.iload_n 2, 1) := by decide +kernel
theorem dX2_count_35 : decode cX2_count 35 = .ok (.baload, 1) := by decide +kernel
theorem dX2_count_36 : decode cX2_count 36 = .ok (.ifCond .eq 7, 3) := by decide +kernel
theorem dX2_count_39 : decode cX2_count 39 = .ok (.iconst 1, 1) := by decide +kernel
theorem dX2_count_40 : decode cX2_count 40 = .ok (.goto 4, 3) := by decide +kernel
theorem dX2_count_43 : decode cX2_count 43 = .ok (.iconst 0, 1) := by decide +kernel
theorem dX2_count_44 : decode cX2_count 44 = .ok (.iadd, 1) := by decide +kernel
theorem dX2_count_45 : decode cX2_count 45 = .ok (.istore_n 1, 1) := by decide +kernel
theorem dX2_count_46 : decode cX2_count 46 = .ok (.iinc 2 1, 3) := by decide +kernel
theorem dX2_count_49 : decode cX2_count 49 = .ok (.goto (-28), 3) := by decide +kernel
theorem dX2_count_52 : decode cX2_count 52 = .ok (.iload_n 1, 1) := by decide +kernel
theorem dX2_count_53 : decode cX2_count 53 = .ok (.ireturn, 1) := by decide +kernel
theorem dX2_violation_0 : decode cX2_violation 0 = .ok (.iload_n 1, 1) := by decide +kernel
theorem dX2_violation_1 : decode cX2_violation 1 = .ok (.ifCond .lt 10, 3) := by decide +kernel
theorem dX2_violation_4 : decode cX2_violation 4 = .ok (.aload_n 0, 1) := by decide +kernel
theorem dX2_violation_5 : decode cX2_violation 5 = .ok (.invokevirtual 27, 3) := by decide +kernel
theorem dX2_violation_8 : decode cX2_violation 8 = .ok (.ifCond .ne 5, 3) := by decide +kernel
theorem dX2_violation_11 : decode cX2_violation 11 = .ok (.iconst (-1), 1) := by decide +kernel
theorem dX2_violation_12 : decode cX2_violation 12 = .ok (.ireturn, 1) := by decide +kernel
theorem dX2_violation_13 : decode cX2_violation 13 = .ok (.aload_n 0, 1) := by decide +kernel
theorem dX2_violation_14 : decode cX2_violation 14 = .ok (.aload_n 0, 1) := by decide +kernel
theorem dX2_violation_15 : decode cX2_violation 15 = .ok (.getfield 34, 3) := by decide +kernel
theorem dX2_violation_18 : decode cX2_violation 18 = .ok (.invokevirtual 53, 3) := by decide +kernel
theorem dX2_violation_21 : decode cX2_violation 21 = .ok (.iload_n 1, 1) := by decide +kernel
theorem dX2_violation_22 : decode cX2_violation 22 = .ok (.istore_n 2, 1) := by decide +kernel
theorem dX2_violation_23 : decode cX2_violation 23 = .ok (.iload_n 2, 1) := by decide +kernel
theorem dX2_violation_24 : decode cX2_violation 24 = .ok (.aload_n 0, 1) := by decide +kernel
theorem dX2_violation_25 : decode cX2_violation 25 = .ok (.getfield 34, 3) := by decide +kernel
theorem dX2_violation_28 : decode cX2_violation 28 = .ok (.if_icmp .ge 20, 3) := by decide +kernel
theorem dX2_violation_31 : decode cX2_violation 31 = .ok (.aload_n 0, 1) := by decide +kernel
theorem dX2_violation_32 : decode cX2_violation 32 = .ok (.getfield 16, 3) := by decide +kernel
theorem dX2_violation_35 : decode cX2_violation 35 = .ok (.iload_n 2, 1) := by decide +kernel
theorem dX2_violation_36 : decode cX2_violation 36 = .ok (.baload, 1) := by decide +kernel
theorem dX2_violation_37 : decode cX2_violation 37 = .ok (.ifCond .ne 5, 3) := by decide +kernel
theorem dX2_violation_40 : decode cX2_violation 40 = .ok (.iload_n 2, 1) := by decide +kernel
theorem dX2_violation_41 : decode cX2_violation 41 = .ok (.ireturn, 1) := by decide +kernel
theorem dX2_violation_42 : decode cX2_violation 42 = .ok (.iinc 2 1, 3) := by decide +kernel
theorem dX2_violation_45 : decode cX2_violation 45 = .ok (.goto (-22), 3) := by decide +kernel
theorem dX2_violation_48 : decode cX2_violation 48 = .ok (.iconst (-1), 1) := by decide +kernel
theorem dX2_violation_49 : decode cX2_violation 49 = .ok (.ireturn, 1) := by decide +kernel
theorem dX2_streak_0 : decode cX2_streak 0 = .ok (.aload_n 0, 1) := by decide +kernel
theorem dX2_streak_1 : decode cX2_streak 1 = .ok (.invokevirtual 27, 3) := by decide +kernel
theorem dX2_streak_4 : decode cX2_streak 4 = .ok (.ifCond .ne 5, 3) := by decide +kernel
theorem dX2_streak_7 : decode cX2_streak 7 = .ok (.iconst (-1), 1) := by decide +kernel
theorem dX2_streak_8 : decode cX2_streak 8 = .ok (.ireturn, 1) := by decide +kernel
theorem dX2_streak_9 : decode cX2_streak 9 = .ok (.aload_n 0, 1) := by decide +kernel
theorem dX2_streak_10 : decode cX2_streak 10 = .ok (.aload_n 0, 1) := by decide +kernel
theorem dX2_streak_11 : decode cX2_streak 11 = .ok (.getfield 34, 3) := by decide +kernel
theorem dX2_streak_14 : decode cX2_streak 14 = .ok (.invokevirtual 53, 3) := by decide +kernel
theorem dX2_streak_17 : decode cX2_streak 17 = .ok (.iconst 0, 1) := by decide +kernel
theorem dX2_streak_18 : decode cX2_streak 18 = .ok (.istore_n 1, 1) := by decide +kernel
theorem dX2_streak_19 : decode cX2_streak 19 = .ok (.iload_n 1, 1) := by decide +kernel
theorem dX2_streak_20 : decode cX2_streak 20 = .ok (.aload_n 0, 1) := by decide +kernel
theorem dX2_streak_21 : decode cX2_streak 21 = .ok (.getfield 34, 3) := by decide +kernel
theorem dX2_streak_24 : decode cX2_streak 24 = .ok (.if_icmp .ge 25, 3) := by decide +kernel
theorem dX2_streak_27 : decode cX2_streak 27 = .ok (.aload_n 0, 1) := by decide +kernel
theorem dX2_streak_28 : decode cX2_streak 28 = .ok (.getfield 16, 3) := by decide +kernel
theorem dX2_streak_31 : decode cX2_streak 31 = .ok (.aload_n 0, 1) := by decide +kernel
theorem dX2_streak_32 : decode cX2_streak 32 = .ok (.getfield 34, 3) := by decide +kernel
theorem dX2_streak_35 : decode cX2_streak 35 = .ok (.iconst 1, 1) := by decide +kernel
theorem dX2_streak_36 : decode cX2_streak 36 = .ok (.isub, 1) := by decide +kernel
theorem dX2_streak_37 : decode cX2_streak 37 = .ok (.iload_n 1, 1) := by decide +kernel
theorem dX2_streak_38 : decode cX2_streak 38 = .ok (.isub, 1) := by decide +kernel
theorem dX2_streak_39 : decode cX2_streak 39 = .ok (.baload, 1) := by decide +kernel
theorem dX2_streak_40 : decode cX2_streak 40 = .ok (.ifCond .eq 9, 3) := by decide +kernel
theorem dX2_streak_43 : decode cX2_streak 43 = .ok (.iinc 1 1, 3) := by decide +kernel
theorem dX2_streak_46 : decode cX2_streak 46 = .ok (.goto (-27), 3) := by decide +kernel
theorem dX2_streak_49 : decode cX2_streak 49 = .ok (.iload_n 1, 1) := by decide +kernel
theorem dX2_streak_50 : decode cX2_streak 50 = .ok (.ireturn, 1) := by decide +kernel
theorem dX2_wouldHold_0 : decode cX2_wouldHold 0 = .ok (.iload_n 1, 1) := by decide +kernel
theorem dX2_wouldHold_1 : decode cX2_wouldHold 1 = .ok (.ifCond .lt 16, 3) := by decide +kernel
theorem dX2_wouldHold_4 : decode cX2_wouldHold 4 = .ok (.iload_n 1, 1) := by decide +kernel
theorem dX2_wouldHold_5 : decode cX2_wouldHold 5 = .ok (.bipush 15, 2) := by decide +kernel
theorem dX2_wouldHold_7 : decode cX2_wouldHold 7 = .ok (.if_icmp .gt 10, 3) := by decide +kernel
theorem dX2_wouldHold_10 : decode cX2_wouldHold 10 = .ok (.aload_n 0, 1) := by decide +kernel
theorem dX2_wouldHold_11 : decode cX2_wouldHold 11 = .ok (.invokevirtual 27, 3) := by decide +kernel
theorem dX2_wouldHold_14 : decode cX2_wouldHold 14 = .ok (.ifCond .ne 5, 3) := by decide +kernel
theorem dX2_wouldHold_17 : decode cX2_wouldHold 17 = .ok (.iconst 0, 1) := by decide +kernel
theorem dX2_wouldHold_18 : decode cX2_wouldHold 18 = .ok (.ireturn, 1) := by decide +kernel
theorem dX2_wouldHold_19 : decode cX2_wouldHold 19 = .ok (.aload_n 0, 1) := by decide +kernel
theorem dX2_wouldHold_20 : decode cX2_wouldHold 20 = .ok (.getfield 13, 3) := by decide +kernel
theorem dX2_wouldHold_23 : decode cX2_wouldHold 23 = .ok (.aload_n 0, 1) := by decide +kernel
theorem dX2_wouldHold_24 : decode cX2_wouldHold 24 = .ok (.getfield 34, 3) := by decide +kernel
theorem dX2_wouldHold_27 : decode cX2_wouldHold 27 = .ok (.iload_n 1, 1) := by decide +kernel
theorem dX2_wouldHold_28 : decode cX2_wouldHold 28 = .ok (.iastore, 1) := by decide +kernel
theorem dX2_wouldHold_29 : decode cX2_wouldHold 29 = .ok (.aload_n 0, 1) := by decide +kernel
theorem dX2_wouldHold_30 : decode cX2_wouldHold 30 = .ok (.aload_n 0, 1) := by decide +kernel
theorem dX2_wouldHold_31 : decode cX2_wouldHold 31 = .ok (.getfield 34, 3) := by decide +kernel
theorem dX2_wouldHold_34 : decode cX2_wouldHold 34 = .ok (.iconst 1, 1) := by decide +kernel
theorem dX2_wouldHold_35 : decode cX2_wouldHold 35 = .ok (.iadd, 1) := by decide +kernel
theorem dX2_wouldHold_36 : decode cX2_wouldHold 36 = .ok (.invokevirtual 53, 3) := by decide +kernel
theorem dX2_wouldHold_39 : decode cX2_wouldHold 39 = .ok (.aload_n 0, 1) := by decide +kernel
theorem dX2_wouldHold_40 : decode cX2_wouldHold 40 = .ok (.getfield 16, 3) := by decide +kernel
theorem dX2_wouldHold_43 : decode cX2_wouldHold 43 = .ok (.aload_n 0, 1) := by decide +kernel
theorem dX2_wouldHold_44 : decode cX2_wouldHold 44 = .ok (.getfield 34, 3) := by decide +kernel
theorem dX2_wouldHold_47 : decode cX2_wouldHold 47 = .ok (.baload, 1) := by decide +kernel
theorem dX2_wouldHold_48 : decode cX2_wouldHold 48 = .ok (.ireturn, 1) := by decide +kernel
theorem dX2_allowed_0 : decode cX2_allowed 0 = .ok (.iconst 0, 1) := by decide +kernel
theorem dX2_allowed_1 : decode cX2_allowed 1 = .ok (.istore_n 1, 1) := by decide +kernel
theorem dX2_allowed_2 : decode cX2_allowed 2 = .ok (.iconst 0, 1) := by decide +kernel
theorem dX2_allowed_3 : decode cX2_allowed 3 = .ok (.istore_n 2, 1) := by decide +kernel
theorem dX2_allowed_4 : decode cX2_allowed 4 = .ok (.iload_n 2, 1) := by decide +kernel
theorem dX2_allowed_5 : decode cX2_allowed 5 = .ok (.bipush 16, 2) := by decide +kernel
theorem dX2_allowed_7 : decode cX2_allowed 7 = .ok (.if_icmp .ge 25, 3) := by decide +kernel
theorem dX2_allowed_10 : decode cX2_allowed 10 = .ok (.iload_n 1, 1) := by decide +kernel
theorem dX2_allowed_11 : decode cX2_allowed 11 = .ok (.aload_n 0, 1) := by decide +kernel
theorem dX2_allowed_12 : decode cX2_allowed 12 = .ok (.iload_n 2, 1) := by decide +kernel
theorem dX2_allowed_13 : decode cX2_allowed 13 = .ok (.invokevirtual 57, 3) := by decide +kernel
theorem dX2_allowed_16 : decode cX2_allowed 16 = .ok (.ifCond .eq 7, 3) := by decide +kernel
theorem dX2_allowed_19 : decode cX2_allowed 19 = .ok (.iconst 1, 1) := by decide +kernel
theorem dX2_allowed_20 : decode cX2_allowed 20 = .ok (.goto 4, 3) := by decide +kernel
theorem dX2_allowed_23 : decode cX2_allowed 23 = .ok (.iconst 0, 1) := by decide +kernel
theorem dX2_allowed_24 : decode cX2_allowed 24 = .ok (.iadd, 1) := by decide +kernel
theorem dX2_allowed_25 : decode cX2_allowed 25 = .ok (.istore_n 1, 1) := by decide +kernel
theorem dX2_allowed_26 : decode cX2_allowed 26 = .ok (.iinc 2 1, 3) := by decide +kernel
theorem dX2_allowed_29 : decode cX2_allowed 29 = .ok (.goto (-25), 3) := by decide +kernel
theorem dX2_allowed_32 : decode cX2_allowed 32 = .ok (.iload_n 1, 1) := by decide +kernel
theorem dX2_allowed_33 : decode cX2_allowed 33 = .ok (.ireturn, 1) := by decide +kernel
end
section
set_option maxRecDepth 100000
theorem dJ0_init_0 : decode cJ0_init 0 = .ok (.return_, 1) := by decide +kernel
theorem dX0_cell_0 : decode cX0_cell 0 = .ok (.iload_n 1, 1) := by decide +kernel
theorem dX0_cell_1 : decode cX0_cell 1 = .ok (.aload_n 0, 1) := by decide +kernel
theorem dX0_cell_2 : decode cX0_cell 2 = .ok (.arraylength, 1) := by decide +kernel
theorem dX0_cell_3 : decode cX0_cell 3 = .ok (.if_icmp .ge 9, 3) := by decide +kernel
theorem dX0_cell_6 : decode cX0_cell 6 = .ok (.aload_n 0, 1) := by decide +kernel
theorem dX0_cell_7 : decode cX0_cell 7 = .ok (.iload_n 1, 1) := by decide +kernel
theorem dX0_cell_8 : decode cX0_cell 8 = .ok (.iaload, 1) := by decide +kernel
theorem dX0_cell_9 : decode cX0_cell 9 = .ok (.goto 4, 3) := by decide +kernel
theorem dX0_cell_12 : decode cX0_cell 12 = .ok (.iconst 0, 1) := by decide +kernel
theorem dX0_cell_13 : decode cX0_cell 13 = .ok (.ireturn, 1) := by decide +kernel
theorem dL_law_0 : decode cL_law 0 = .ok (.new 7, 3) := by decide +kernel
theorem dL_law_3 : decode cL_law 3 = .ok (.dup, 1) := by decide +kernel
theorem dL_law_4 : decode cL_law 4 = .ok (.aload_n 0, 1) := by decide +kernel
theorem dL_law_5 : decode cL_law 5 = .ok (.iconst 0, 1) := by decide +kernel
theorem dL_law_6 : decode cL_law 6 = .ok (.invokestatic 9, 3) := by decide +kernel
theorem dL_law_9 : decode cL_law 9 = .ok (.invokespecial 15, 3) := by decide +kernel
theorem dL_law_12 : decode cL_law 12 = .ok (.astore_n 1, 1) := by decide +kernel
theorem dL_law_13 : decode cL_law 13 = .ok (.new 18, 3) := by decide +kernel
theorem dL_law_16 : decode cL_law 16 = .ok (.dup, 1) := by decide +kernel
theorem dL_law_17 : decode cL_law 17 = .ok (.aload_n 0, 1) := by decide +kernel
theorem dL_law_18 : decode cL_law 18 = .ok (.iconst 0, 1) := by decide +kernel
theorem dL_law_19 : decode cL_law 19 = .ok (.invokestatic 9, 3) := by decide +kernel
theorem dL_law_22 : decode cL_law 22 = .ok (.invokespecial 20, 3) := by decide +kernel
theorem dL_law_25 : decode cL_law 25 = .ok (.astore_n 2, 1) := by decide +kernel
theorem dL_law_26 : decode cL_law 26 = .ok (.iconst 1, 1) := by decide +kernel
theorem dL_law_27 : decode cL_law 27 = .ok (.istore_n 3, 1) := by decide +kernel
theorem dL_law_28 : decode cL_law 28 = .ok (.iload_n 3, 1) := by decide +kernel
theorem dL_law_29 : decode cL_law 29 = .ok (.aload_n 0, 1) := by decide +kernel
theorem dL_law_30 : decode cL_law 30 = .ok (.arraylength, 1) := by decide +kernel
theorem dL_law_31 : decode cL_law 31 = .ok (.iconst 2, 1) := by decide +kernel
theorem dL_law_32 : decode cL_law 32 = .ok (.isub, 1) := by decide +kernel
theorem dL_law_33 : decode cL_law 33 = .ok (.if_icmp .gt 332, 3) := by decide +kernel
theorem dL_law_36 : decode cL_law 36 = .ok (.aload_n 0, 1) := by decide +kernel
theorem dL_law_37 : decode cL_law 37 = .ok (.iload_n 3, 1) := by decide +kernel
theorem dL_law_38 : decode cL_law 38 = .ok (.iaload, 1) := by decide +kernel
theorem dL_law_39 : decode cL_law 39 = .ok (.bipush 15, 2) := by decide +kernel
theorem dL_law_41 : decode cL_law 41 = .ok (.iand, 1) := by decide +kernel
theorem dL_law_42 : decode cL_law 42 = .ok (.tableswitch 317 0 14 #[74, 97, 110, 123, 136, 159, 172, 183, 196, 209, 232, 245, 268, 281, 304], 74) := by decide +kernel
theorem dL_law_116 : decode cL_law 116 = .ok (.aload_n 1, 1) := by decide +kernel
theorem dL_law_117 : decode cL_law 117 = .ok (.aload_n 0, 1) := by decide +kernel
theorem dL_law_118 : decode cL_law 118 = .ok (.iload_n 3, 1) := by decide +kernel
theorem dL_law_119 : decode cL_law 119 = .ok (.iconst 1, 1) := by decide +kernel
theorem dL_law_120 : decode cL_law 120 = .ok (.iadd, 1) := by decide +kernel
theorem dL_law_121 : decode cL_law 121 = .ok (.iaload, 1) := by decide +kernel
theorem dL_law_122 : decode cL_law 122 = .ok (.invokevirtual 21, 3) := by decide +kernel
theorem dL_law_125 : decode cL_law 125 = .ok (.aload_n 2, 1) := by decide +kernel
theorem dL_law_126 : decode cL_law 126 = .ok (.aload_n 0, 1) := by decide +kernel
theorem dL_law_127 : decode cL_law 127 = .ok (.iload_n 3, 1) := by decide +kernel
theorem dL_law_128 : decode cL_law 128 = .ok (.iconst 1, 1) := by decide +kernel
theorem dL_law_129 : decode cL_law 129 = .ok (.iadd, 1) := by decide +kernel
theorem dL_law_130 : decode cL_law 130 = .ok (.iaload, 1) := by decide +kernel
theorem dL_law_131 : decode cL_law 131 = .ok (.invokevirtual 25, 3) := by decide +kernel
theorem dL_law_134 : decode cL_law 134 = .ok (.if_icmp .eq 225, 3) := by decide +kernel
theorem dL_law_137 : decode cL_law 137 = .ok (.iconst 0, 1) := by decide +kernel
theorem dL_law_138 : decode cL_law 138 = .ok (.ireturn, 1) := by decide +kernel
theorem dL_law_139 : decode cL_law 139 = .ok (.aload_n 1, 1) := by decide +kernel
theorem dL_law_140 : decode cL_law 140 = .ok (.invokevirtual 26, 3) := by decide +kernel
theorem dL_law_143 : decode cL_law 143 = .ok (.aload_n 2, 1) := by decide +kernel
theorem dL_law_144 : decode cL_law 144 = .ok (.invokevirtual 30, 3) := by decide +kernel
theorem dL_law_147 : decode cL_law 147 = .ok (.if_icmp .eq 212, 3) := by decide +kernel
theorem dL_law_150 : decode cL_law 150 = .ok (.iconst 0, 1) := by decide +kernel
theorem dL_law_151 : decode cL_law 151 = .ok (.ireturn, 1) := by decide +kernel
theorem dL_law_152 : decode cL_law 152 = .ok (.aload_n 1, 1) := by decide +kernel
theorem dL_law_153 : decode cL_law 153 = .ok (.invokevirtual 31, 3) := by decide +kernel
theorem dL_law_156 : decode cL_law 156 = .ok (.aload_n 2, 1) := by decide +kernel
theorem dL_law_157 : decode cL_law 157 = .ok (.invokevirtual 35, 3) := by decide +kernel
theorem dL_law_160 : decode cL_law 160 = .ok (.if_icmp .eq 199, 3) := by decide +kernel
theorem dL_law_163 : decode cL_law 163 = .ok (.iconst 0, 1) := by decide +kernel
theorem dL_law_164 : decode cL_law 164 = .ok (.ireturn, 1) := by decide +kernel
theorem dL_law_165 : decode cL_law 165 = .ok (.aload_n 1, 1) := by decide +kernel
theorem dL_law_166 : decode cL_law 166 = .ok (.invokevirtual 36, 3) := by decide +kernel
theorem dL_law_169 : decode cL_law 169 = .ok (.aload_n 2, 1) := by decide +kernel
theorem dL_law_170 : decode cL_law 170 = .ok (.invokevirtual 39, 3) := by decide +kernel
theorem dL_law_173 : decode cL_law 173 = .ok (.if_icmp .eq 186, 3) := by decide +kernel
theorem dL_law_176 : decode cL_law 176 = .ok (.iconst 0, 1) := by decide +kernel
theorem dL_law_177 : decode cL_law 177 = .ok (.ireturn, 1) := by decide +kernel
theorem dL_law_178 : decode cL_law 178 = .ok (.aload_n 1, 1) := by decide +kernel
theorem dL_law_179 : decode cL_law 179 = .ok (.aload_n 0, 1) := by decide +kernel
theorem dL_law_180 : decode cL_law 180 = .ok (.iload_n 3, 1) := by decide +kernel
theorem dL_law_181 : decode cL_law 181 = .ok (.iconst 1, 1) := by decide +kernel
theorem dL_law_182 : decode cL_law 182 = .ok (.iadd, 1) := by decide +kernel
theorem dL_law_183 : decode cL_law 183 = .ok (.iaload, 1) := by decide +kernel
theorem dL_law_184 : decode cL_law 184 = .ok (.invokevirtual 40, 3) := by decide +kernel
theorem dL_law_187 : decode cL_law 187 = .ok (.aload_n 2, 1) := by decide +kernel
theorem dL_law_188 : decode cL_law 188 = .ok (.aload_n 0, 1) := by decide +kernel
theorem dL_law_189 : decode cL_law 189 = .ok (.iload_n 3, 1) := by decide +kernel
theorem dL_law_190 : decode cL_law 190 = .ok (.iconst 1, 1) := by decide +kernel
theorem dL_law_191 : decode cL_law 191 = .ok (.iadd, 1) := by decide +kernel
theorem dL_law_192 : decode cL_law 192 = .ok (.iaload, 1) := by decide +kernel
theorem dL_law_193 : decode cL_law 193 = .ok (.invokevirtual 43, 3) := by decide +kernel
theorem dL_law_196 : decode cL_law 196 = .ok (.if_icmp .eq 163, 3) := by decide +kernel
theorem dL_law_199 : decode cL_law 199 = .ok (.iconst 0, 1) := by decide +kernel
theorem dL_law_200 : decode cL_law 200 = .ok (.ireturn, 1) := by decide +kernel
theorem dL_law_201 : decode cL_law 201 = .ok (.aload_n 1, 1) := by decide +kernel
theorem dL_law_202 : decode cL_law 202 = .ok (.invokevirtual 44, 3) := by decide +kernel
theorem dL_law_205 : decode cL_law 205 = .ok (.aload_n 2, 1) := by decide +kernel
theorem dL_law_206 : decode cL_law 206 = .ok (.invokevirtual 47, 3) := by decide +kernel
end
section
set_option maxRecDepth 100000
theorem dL_law_209 : decode cL_law 209 = .ok (.if_icmp .eq 150, 3) := by decide +kernel
theorem dL_law_212 : decode cL_law 212 = .ok (.iconst 0, 1) := by decide +kernel
theorem dL_law_213 : decode cL_law 213 = .ok (.ireturn, 1) := by decide +kernel
theorem dL_law_214 : decode cL_law 214 = .ok (.aload_n 1, 1) := by decide +kernel
theorem dL_law_215 : decode cL_law 215 = .ok (.invokevirtual 48, 3) := by decide +kernel
theorem dL_law_218 : decode cL_law 218 = .ok (.aload_n 2, 1) := by decide +kernel
theorem dL_law_219 : decode cL_law 219 = .ok (.invokevirtual 51, 3) := by decide +kernel
theorem dL_law_222 : decode cL_law 222 = .ok (.goto 137, 3) := by decide +kernel
theorem dL_law_225 : decode cL_law 225 = .ok (.aload_n 1, 1) := by decide +kernel
theorem dL_law_226 : decode cL_law 226 = .ok (.invokevirtual 52, 3) := by decide +kernel
theorem dL_law_229 : decode cL_law 229 = .ok (.aload_n 2, 1) := by decide +kernel
theorem dL_law_230 : decode cL_law 230 = .ok (.invokevirtual 55, 3) := by decide +kernel
theorem dL_law_233 : decode cL_law 233 = .ok (.if_icmp .eq 126, 3) := by decide +kernel
theorem dL_law_236 : decode cL_law 236 = .ok (.iconst 0, 1) := by decide +kernel
theorem dL_law_237 : decode cL_law 237 = .ok (.ireturn, 1) := by decide +kernel
theorem dL_law_238 : decode cL_law 238 = .ok (.aload_n 1, 1) := by decide +kernel
theorem dL_law_239 : decode cL_law 239 = .ok (.invokevirtual 56, 3) := by decide +kernel
theorem dL_law_242 : decode cL_law 242 = .ok (.aload_n 2, 1) := by decide +kernel
theorem dL_law_243 : decode cL_law 243 = .ok (.invokevirtual 59, 3) := by decide +kernel
theorem dL_law_246 : decode cL_law 246 = .ok (.if_icmp .eq 113, 3) := by decide +kernel
theorem dL_law_249 : decode cL_law 249 = .ok (.iconst 0, 1) := by decide +kernel
theorem dL_law_250 : decode cL_law 250 = .ok (.ireturn, 1) := by decide +kernel
theorem dL_law_251 : decode cL_law 251 = .ok (.aload_n 1, 1) := by decide +kernel
theorem dL_law_252 : decode cL_law 252 = .ok (.aload_n 0, 1) := by decide +kernel
theorem dL_law_253 : decode cL_law 253 = .ok (.iload_n 3, 1) := by decide +kernel
theorem dL_law_254 : decode cL_law 254 = .ok (.iconst 1, 1) := by decide +kernel
theorem dL_law_255 : decode cL_law 255 = .ok (.iadd, 1) := by decide +kernel
theorem dL_law_256 : decode cL_law 256 = .ok (.iaload, 1) := by decide +kernel
theorem dL_law_257 : decode cL_law 257 = .ok (.invokevirtual 60, 3) := by decide +kernel
theorem dL_law_260 : decode cL_law 260 = .ok (.aload_n 2, 1) := by decide +kernel
theorem dL_law_261 : decode cL_law 261 = .ok (.aload_n 0, 1) := by decide +kernel
theorem dL_law_262 : decode cL_law 262 = .ok (.iload_n 3, 1) := by decide +kernel
theorem dL_law_263 : decode cL_law 263 = .ok (.iconst 1, 1) := by decide +kernel
theorem dL_law_264 : decode cL_law 264 = .ok (.iadd, 1) := by decide +kernel
theorem dL_law_265 : decode cL_law 265 = .ok (.iaload, 1) := by decide +kernel
theorem dL_law_266 : decode cL_law 266 = .ok (.invokevirtual 64, 3) := by decide +kernel
theorem dL_law_269 : decode cL_law 269 = .ok (.if_icmp .eq 90, 3) := by decide +kernel
theorem dL_law_272 : decode cL_law 272 = .ok (.iconst 0, 1) := by decide +kernel
theorem dL_law_273 : decode cL_law 273 = .ok (.ireturn, 1) := by decide +kernel
theorem dL_law_274 : decode cL_law 274 = .ok (.aload_n 1, 1) := by decide +kernel
theorem dL_law_275 : decode cL_law 275 = .ok (.invokevirtual 65, 3) := by decide +kernel
theorem dL_law_278 : decode cL_law 278 = .ok (.aload_n 2, 1) := by decide +kernel
theorem dL_law_279 : decode cL_law 279 = .ok (.invokevirtual 68, 3) := by decide +kernel
theorem dL_law_282 : decode cL_law 282 = .ok (.if_icmp .eq 77, 3) := by decide +kernel
theorem dL_law_285 : decode cL_law 285 = .ok (.iconst 0, 1) := by decide +kernel
theorem dL_law_286 : decode cL_law 286 = .ok (.ireturn, 1) := by decide +kernel
theorem dL_law_287 : decode cL_law 287 = .ok (.aload_n 1, 1) := by decide +kernel
theorem dL_law_288 : decode cL_law 288 = .ok (.aload_n 0, 1) := by decide +kernel
theorem dL_law_289 : decode cL_law 289 = .ok (.iload_n 3, 1) := by decide +kernel
theorem dL_law_290 : decode cL_law 290 = .ok (.iconst 1, 1) := by decide +kernel
theorem dL_law_291 : decode cL_law 291 = .ok (.iadd, 1) := by decide +kernel
theorem dL_law_292 : decode cL_law 292 = .ok (.iaload, 1) := by decide +kernel
theorem dL_law_293 : decode cL_law 293 = .ok (.invokevirtual 69, 3) := by decide +kernel
theorem dL_law_296 : decode cL_law 296 = .ok (.aload_n 2, 1) := by decide +kernel
theorem dL_law_297 : decode cL_law 297 = .ok (.aload_n 0, 1) := by decide +kernel
theorem dL_law_298 : decode cL_law 298 = .ok (.iload_n 3, 1) := by decide +kernel
theorem dL_law_299 : decode cL_law 299 = .ok (.iconst 1, 1) := by decide +kernel
theorem dL_law_300 : decode cL_law 300 = .ok (.iadd, 1) := by decide +kernel
theorem dL_law_301 : decode cL_law 301 = .ok (.iaload, 1) := by decide +kernel
theorem dL_law_302 : decode cL_law 302 = .ok (.invokevirtual 72, 3) := by decide +kernel
theorem dL_law_305 : decode cL_law 305 = .ok (.if_icmp .eq 54, 3) := by decide +kernel
theorem dL_law_308 : decode cL_law 308 = .ok (.iconst 0, 1) := by decide +kernel
theorem dL_law_309 : decode cL_law 309 = .ok (.ireturn, 1) := by decide +kernel
theorem dL_law_310 : decode cL_law 310 = .ok (.aload_n 1, 1) := by decide +kernel
theorem dL_law_311 : decode cL_law 311 = .ok (.invokevirtual 73, 3) := by decide +kernel
theorem dL_law_314 : decode cL_law 314 = .ok (.aload_n 2, 1) := by decide +kernel
theorem dL_law_315 : decode cL_law 315 = .ok (.invokevirtual 76, 3) := by decide +kernel
theorem dL_law_318 : decode cL_law 318 = .ok (.if_icmp .eq 41, 3) := by decide +kernel
theorem dL_law_321 : decode cL_law 321 = .ok (.iconst 0, 1) := by decide +kernel
theorem dL_law_322 : decode cL_law 322 = .ok (.ireturn, 1) := by decide +kernel
theorem dL_law_323 : decode cL_law 323 = .ok (.aload_n 1, 1) := by decide +kernel
theorem dL_law_324 : decode cL_law 324 = .ok (.aload_n 0, 1) := by decide +kernel
theorem dL_law_325 : decode cL_law 325 = .ok (.iload_n 3, 1) := by decide +kernel
theorem dL_law_326 : decode cL_law 326 = .ok (.iconst 1, 1) := by decide +kernel
theorem dL_law_327 : decode cL_law 327 = .ok (.iadd, 1) := by decide +kernel
theorem dL_law_328 : decode cL_law 328 = .ok (.iaload, 1) := by decide +kernel
theorem dL_law_329 : decode cL_law 329 = .ok (.invokevirtual 77, 3) := by decide +kernel
theorem dL_law_332 : decode cL_law 332 = .ok (.aload_n 2, 1) := by decide +kernel
theorem dL_law_333 : decode cL_law 333 = .ok (.aload_n 0, 1) := by decide +kernel
theorem dL_law_334 : decode cL_law 334 = .ok (.iload_n 3, 1) := by decide +kernel
theorem dL_law_335 : decode cL_law 335 = .ok (.iconst 1, 1) := by decide +kernel
theorem dL_law_336 : decode cL_law 336 = .ok (.iadd, 1) := by decide +kernel
theorem dL_law_337 : decode cL_law 337 = .ok (.iaload, 1) := by decide +kernel
theorem dL_law_338 : decode cL_law 338 = .ok (.invokevirtual 80, 3) := by decide +kernel
theorem dL_law_341 : decode cL_law 341 = .ok (.if_icmp .eq 18, 3) := by decide +kernel
theorem dL_law_344 : decode cL_law 344 = .ok (.iconst 0, 1) := by decide +kernel
theorem dL_law_345 : decode cL_law 345 = .ok (.ireturn, 1) := by decide +kernel
theorem dL_law_346 : decode cL_law 346 = .ok (.aload_n 1, 1) := by decide +kernel
theorem dL_law_347 : decode cL_law 347 = .ok (.invokevirtual 81, 3) := by decide +kernel
theorem dL_law_350 : decode cL_law 350 = .ok (.aload_n 2, 1) := by decide +kernel
theorem dL_law_351 : decode cL_law 351 = .ok (.invokevirtual 84, 3) := by decide +kernel
theorem dL_law_354 : decode cL_law 354 = .ok (.if_icmp .eq 5, 3) := by decide +kernel
theorem dL_law_357 : decode cL_law 357 = .ok (.iconst 0, 1) := by decide +kernel
theorem dL_law_358 : decode cL_law 358 = .ok (.ireturn, 1) := by decide +kernel
theorem dL_law_359 : decode cL_law 359 = .ok (.iinc 3 2, 3) := by decide +kernel
theorem dL_law_362 : decode cL_law 362 = .ok (.goto (-334), 3) := by decide +kernel
theorem dL_law_365 : decode cL_law 365 = .ok (.iconst 1, 1) := by decide +kernel
theorem dL_law_366 : decode cL_law 366 = .ok (.ireturn, 1) := by decide +kernel
end
section
set_option maxRecDepth 100000
/-! the base: numbers, the bundled heap, contracts over a whole world -/
abbrev vwCl : List vw_C := [(RX1, TX1, 18), (RX2, TX2, 7)]
abbrev rm_ (f n : Nat) : Room := { frames := f, cells := 0, slots := 0, locals := n }
def nF (f : Nat → Nat) : Nat → Int32 := fun k => nI (f k)
/-- a value that may be -1: kept one higher -/
def lF (f : Nat → Nat) : Nat → Int32 := fun k => nI (f k) - 1
theorem nF_up (f : Nat → Nat) (k v : Nat) : upd (nF f) k (nI v) = nF (va_up f k v) := by
  funext j
  unfold upd nF va_up
  split <;> rfl
theorem lF_up (f : Nat → Nat) (k v : Nat) : upd (lF f) k (nI v - 1) = lF (va_up f k v) := by
  funext j
  unfold upd lF va_up
  split <;> rfl
theorem up_id {α : Type} (f : Nat → α) (k : Nat) : va_up f k (f k) = f := by
  funext j
  unfold va_up
  split
  · rename_i h; rw [h]
  · rfl
theorem mo_byte : ∀ t, t < 128 → (nI t).toInt8.toInt32 = nI t := by decide +kernel
theorem mo_short : ∀ t, t < 256 → (nI t).toInt16.toInt32 = nI t := by decide +kernel
theorem mo_shortm : ∀ t, t < 256 → (nI t - 1).toInt16.toInt32 = nI t - 1 := by decide +kernel
theorem mo_bool : ∀ t, t < 2 → vp_nar .boolean (nI t) = nI t := by
  intro t h
  match t, h with
  | 0, _ => rfl
  | 1, _ => rfl
theorem mo_nz : ∀ t, t < 2 → narrow .boolean (.int (nI t)) = .int (nI t) := by
  intro t h
  match t, h with
  | 0, _ => rfl
  | 1, _ => rfl
theorem mo_p1 (t : Nat) : nI t = nI (t + 1) - 1 := (nI_pred t).symm
def wX (D : va_G) (tys : List (ClassId × FieldType)) (A : Nat → Prop) (s : State) (H : Heap) (locs : List Loc) (ws : va_W) : Prop := va_K D vwCl tys s ∧ va_P D vwCl ws H ∧ va_D A ws ∧ va_S A s.heap H locs
def cB (D : va_G) (tys : List (ClassId × FieldType)) (w0 : va_W) (sz : Nat) (u : va_W) (t : State) : Prop := va_P D vwCl u t.heap ∧ va_K D vwCl tys t ∧ va_D (va_A w0 sz) u
def cP (D : va_G) (tys : List (ClassId × FieldType)) (w0 : va_W) (sz : Nat) (U : State) : Prop := U.heap.size = sz ∧ va_P D vwCl w0 U.heap ∧ va_K D vwCl tys U ∧ va_D (fun _ => True) w0
/-- the contract of a method with an int answer: from the world w0 it comes to a world w1 with 'post answer w1' -/
def cI (l : Launch) (D : va_G) (tys : List (ClassId × FieldType)) (y : MethodName) (b : ByteArray) (nL : Nat) (ret : Option FieldType) (rm : Room) (As : List Value) (w0 : va_W) (post : Int32 → va_W → Prop) : Prop :=
  ∀ sz : Nat, Met l y (ws_ y b nL ret) rm (va_Pc As (cP D tys w0 sz)) (va_Qi post (cB D tys w0 sz) (va_A w0 sz)) 0 0 (va_A w0 sz)
def cV (l : Launch) (D : va_G) (tys : List (ClassId × FieldType)) (y : MethodName) (b : ByteArray) (nL : Nat) (rm : Room) (As : List Value) (w0 : va_W) (post : va_W → Prop) : Prop :=
  ∀ sz : Nat, Met l y (ws_ y b nL none) rm (va_Pc As (cP D tys w0 sz)) (va_Qv post (cB D tys w0 sz) (va_A w0 sz)) 0 0 (va_A w0 sz)
def qI (D : va_G) (tys : List (ClassId × FieldType)) (below : List Frame) (args : Array Value) (s : State) (w0 : va_W) (post : Int32 → va_W → Prop) : State → Prop := MQ below (va_Qi post (cB D tys w0 s.heap.size) (va_A w0 s.heap.size)) args s 0 0 (va_A w0 s.heap.size)
def qV (D : va_G) (tys : List (ClassId × FieldType)) (below : List Frame) (args : Array Value) (s : State) (w0 : va_W) (post : va_W → Prop) : State → Prop := MQ below (va_Qv post (cB D tys w0 s.heap.size) (va_A w0 s.heap.size)) args s 0 0 (va_A w0 s.heap.size)
theorem cI_of {l : Launch} {D : va_G} {tys : List (ClassId × FieldType)} {y : MethodName} {b : ByteArray} {nL : Nat} {ret : Option FieldType} {rm : Room} {As : List Value} {w0 : va_W} {post : Int32 → va_W → Prop} (hy : plainName y.cls = true) (hn : (lg_sl As).length ≤ nL)
    (body : ∀ (p : Program) (e : Env) (s : State) (m : MethodId) (below : List Frame) (meth : Method) (c : Code) (ls : Array Slot), CallFix p m c b nL s As.toArray lw_all y.cls → meth.sig.returnType = ret → meth.locks = false → wX D tys (va_A w0 s.heap.size) s s.heap [] w0 → (∀ q : Nat, s.heap.size ≤ q → va_A w0 s.heap.size q) → lv_has ls nL (lv_args 0 As) → W p l e rm s m As.toArray below meth c s.heap [] 0 0 (qI D tys below As.toArray s w0 post) (F0 m 0 ls [])) : cI l D tys y b nL ret rm As w0 post := by
  intro sz
  refine Met.ofW (cc := b) (maxL := nL) (ret := ret) hy rfl ?_
  intro p e s m args below meth c s₁ B hml hv
  obtain ⟨rfl, hsz, hP, hK, hD0⟩ := hv
  have hts := atoms_spec (ws := ws_ y b nL ret) B.pre
  have hts : ∀ w ∈ lw_all, w.before _ s = true := fun w h => hts w (List.mem_cons_of_mem _ h)
  subst hsz
  have hl := lv_entry As (n := nL) hn
  rw [lg_entry_eq]
  exact body p e s m below meth c _ ⟨B.exec, B.bytes, hml, findClass_of_methodNamed B.named, hts⟩ B.returns B.notSynchronized ⟨hK, hP, hD0.self, va_S.rf⟩ (fun q h => Or.inr h) hl
theorem cV_of {l : Launch} {D : va_G} {tys : List (ClassId × FieldType)} {y : MethodName} {b : ByteArray} {nL : Nat} {rm : Room} {As : List Value} {w0 : va_W} {post : va_W → Prop} (hy : plainName y.cls = true) (hn : (lg_sl As).length ≤ nL)
    (body : ∀ (p : Program) (e : Env) (s : State) (m : MethodId) (below : List Frame) (meth : Method) (c : Code) (ls : Array Slot), CallFix p m c b nL s As.toArray lw_all y.cls → meth.sig.returnType = none → meth.locks = false → wX D tys (va_A w0 s.heap.size) s s.heap [] w0 → (∀ q : Nat, s.heap.size ≤ q → va_A w0 s.heap.size q) → lv_has ls nL (lv_args 0 As) → W p l e rm s m As.toArray below meth c s.heap [] 0 0 (qV D tys below As.toArray s w0 post) (F0 m 0 ls [])) : cV l D tys y b nL rm As w0 post := by
  intro sz
  refine Met.ofW (cc := b) (maxL := nL) (ret := none) hy rfl ?_
  intro p e s m args below meth c s₁ B hml hv
  obtain ⟨rfl, hsz, hP, hK, hD0⟩ := hv
  have hts := atoms_spec (ws := ws_ y b nL none) B.pre
  have hts : ∀ w ∈ lw_all, w.before _ s = true := fun w h => hts w (List.mem_cons_of_mem _ h)
  subst hsz
  have hl := lv_entry As (n := nL) hn
  rw [lg_entry_eq]
  exact body p e s m below meth c _ ⟨B.exec, B.bytes, hml, findClass_of_methodNamed B.named, hts⟩ B.returns B.notSynchronized ⟨hK, hP, hD0.self, va_S.rf⟩ (fun q h => Or.inr h) hl
section MB
variable {p : Program} {l : Launch} {e : Env} {R : Room} {s : State} {m : MethodId} {args : Array Value} {below : List Frame} {meth : Method} {c : Code} {H : Heap} {locs : List Loc} {cells slots : Nat} {Q : State → Prop} {cc : ByteArray} {pc nL : Nat} {ls : Array Slot} {rest : List Value} {own : String} {D : va_G} {tys : List (ClassId × FieldType)} {A : Nat → Prop} {w0 w1 : va_W}
theorem cI_ret {post : Int32 → va_W → Prop} (S : CallFix p m c cc nL s args lw_all own) (hr : meth.sig.returnType = some .int) (hlk : meth.locks = false) (X : wX D tys (va_A w0 s.heap.size) s H locs w1) {r : Int32} (hdg : decode cc pc = .ok (.ireturn, 1)) (hp : post r w1) : W p l e R s m args below meth c H locs 0 0 (qI D tys below args s w0 post) (F0 m pc ls [.int r]) := by
  obtain ⟨hx, hb, hml, hown, hts⟩ := S
  obtain ⟨hK, hP, hD, hS⟩ := X
  exact W.iret hx hb hr (fun t ht hW => ⟨⟨r, w1, rfl, hp, by rw [ht]; exact hP, va_K.moved hW.alike hK, hD⟩, hS.F ht⟩) hS.2.2 hdg hlk
theorem cZ_ret {post : Int32 → va_W → Prop} (S : CallFix p m c cc nL s args lw_all own) (hr : meth.sig.returnType = some .boolean) (hlk : meth.locks = false) (X : wX D tys (va_A w0 s.heap.size) s H locs w1) {k : Nat} (hk : k < 2) (hdg : decode cc pc = .ok (.ireturn, 1)) (hp : post (nI k) w1) : W p l e R s m args below meth c H locs 0 0 (qI D tys below args s w0 post) (F0 m pc ls [.int (nI k)]) := by
  obtain ⟨hx, hb, hml, hown, hts⟩ := S
  obtain ⟨hK, hP, hD, hS⟩ := X
  exact W.zret hx hb hr (mo_nz k hk) (fun t ht hW => ⟨⟨nI k, w1, rfl, hp, by rw [ht]; exact hP, va_K.moved hW.alike hK, hD⟩, hS.F ht⟩) hS.2.2 hdg hlk
theorem cV_ret {post : va_W → Prop} (S : CallFix p m c cc nL s args lw_all own) (hr : meth.sig.returnType = none) (hlk : meth.locks = false) (X : wX D tys (va_A w0 s.heap.size) s H locs w1) (hdg : decode cc pc = .ok (.return_, 1)) (hp : post w1) : W p l e R s m args below meth c H locs 0 0 (qV D tys below args s w0 post) (F0 m pc ls []) := by
  obtain ⟨hx, hb, hml, hown, hts⟩ := S
  obtain ⟨hK, hP, hD, hS⟩ := X
  exact W.vret hx hb hr (fun t ht hW => ⟨⟨w1, rfl, hp, by rw [ht]; exact hP, va_K.moved hW.alike hK, hD⟩, hS.F ht⟩) hS.2.2 hdg hlk
theorem wX.free (X : wX D tys A s H locs w0) (hA : ∀ q : Nat, s.heap.size ≤ q → A q) : ∀ q, va_A w0 H.size q → A q := by
  obtain ⟨hK, hP, hD, hS⟩ := X
  intro q h
  rcases h with ⟨k, e, h⟩ | h
  · exact hD.2 k (q, e) h
  · exact hA q (Nat.le_trans hS.1 h)
theorem cP_blind {As : List Value} {sz : Nat} : FrameBlind (va_Pc As (cP D tys w0 sz)) := by
  intro a U g mk q
  obtain ⟨q0, q1, qP, qK, qD⟩ := q
  exact ⟨q0, q1, qP, va_K.moved (u := U) (U := U.calling g mk a) (Vm.Alike.refl U.vm) qK, qD⟩
theorem wX.pre (X : wX D tys A s H locs w0) (As : List Value) : ∀ U : State, U.heap = H → s.WarmedH U.vm → va_Pc As (cP D tys w0 H.size) As.toArray U := by
  obtain ⟨hK, hP, hD, hS⟩ := X
  intro U hU hW
  exact ⟨rfl, by rw [hU], by rw [hU]; exact hP, va_K.moved hW.alike hK, hD.weaken (fun _ _ _ _ => trivial)⟩
/-- a call of a method of the world's own object (the world's first cell) -/
theorem cI_call {y : MethodName} {b : ByteArray} {nL1 idx ci h n : Nat} {ret : Option FieldType} {rm : Room} {As : List Value} {post : Int32 → va_W → Prop} {C : String} {T : u_T} {N : Nat} {fs : List Value} {st : List Value}
    (S : CallFix p m c cc nL s args lw_all own) (X : wX D tys A s H locs w0) (hA : ∀ q : Nat, s.heap.size ≤ q → A q) (hM : cI l D tys y b nL1 ret rm (.ref h :: As) w0 post) (hG : GoodIn lw_all (wsV own idx C y (ws_ y b nL1 ret))) (hc0 : rm.cells = 0) (hs0 : rm.slots = 0)
    (hd : y.cls = C ∧ y.cls ≠ "java/lang/invoke/MethodHandle" ∧ y.cls ≠ "java/lang/invoke/VarHandle" ∧ (parseMethodDescriptor y.desc).map (fun d => d.parameters.length) = some n) (hR : rm.frames + 1 ≤ R.frames ∧ 8 + (nL1 + 11) + rm.locals ≤ R.locals)
    (hcl : vwCl[ci]? = some (C, T, N)) (he : w0[0]? = some (h, .inr (ci, fs))) (hls : ls.size = nL) (hn : As.length = n) (hst : st = As.reverse ++ .ref h :: rest) (hrest : (rest.map fun v => v.category).sum ≤ 8) (hdg : decode cc pc = .ok (.invokevirtual idx, 3)) (hcs : cells ≤ R.cells ∧ slots ≤ R.slots)
    (kk : ∀ (r : Int32) (w1 : va_W) (H1 : Heap) (locs1 : List Loc), post r w1 → wX D tys A s H1 locs1 w1 → W p l e R s m args below meth c H1 locs1 cells slots Q (F0 m (pc + 3) ls (.int r :: rest))) : W p l e R s m args below meth c H locs cells slots Q (F0 m pc ls st) := by
  have hF := X.free hA
  refine va_calli (va_runV (As := As) (rest := rest) S (hM H.size) (cwV n S.2.2.2.2 hG rfl hc0 hs0 hd hR) ⟨cP_blind, va_recv X.1 X.2.1 hcl he, X.pre _⟩ rfl hn hls hst (lv_room hrest) hdg hcs) X.2.2.2 (fun q _ h => hF q h) hF (fun r u t H1 locs1 ht hvm hp hB hz hk hS1 => ?_)
  obtain ⟨hP1, hK1, hD1⟩ := hB
  rw [ht] at hP1
  exact kk r u H1 locs1 hp ⟨X.1, hP1, hD1.weaken (fun k q _ h => hF q.1 h), hS1⟩
theorem cV_call {y : MethodName} {b : ByteArray} {nL1 idx ci h n : Nat} {rm : Room} {As : List Value} {post : va_W → Prop} {C : String} {T : u_T} {N : Nat} {fs : List Value} {st : List Value}
    (S : CallFix p m c cc nL s args lw_all own) (X : wX D tys A s H locs w0) (hA : ∀ q : Nat, s.heap.size ≤ q → A q) (hM : cV l D tys y b nL1 rm (.ref h :: As) w0 post) (hG : GoodIn lw_all (wsV own idx C y (ws_ y b nL1 none))) (hc0 : rm.cells = 0) (hs0 : rm.slots = 0)
    (hd : y.cls = C ∧ y.cls ≠ "java/lang/invoke/MethodHandle" ∧ y.cls ≠ "java/lang/invoke/VarHandle" ∧ (parseMethodDescriptor y.desc).map (fun d => d.parameters.length) = some n) (hR : rm.frames + 1 ≤ R.frames ∧ 8 + (nL1 + 11) + rm.locals ≤ R.locals)
    (hcl : vwCl[ci]? = some (C, T, N)) (he : w0[0]? = some (h, .inr (ci, fs))) (hls : ls.size = nL) (hn : As.length = n) (hst : st = As.reverse ++ .ref h :: rest) (hrest : (rest.map fun v => v.category).sum ≤ 8) (hdg : decode cc pc = .ok (.invokevirtual idx, 3)) (hcs : cells ≤ R.cells ∧ slots ≤ R.slots)
    (kk : ∀ (w1 : va_W) (H1 : Heap) (locs1 : List Loc), post w1 → wX D tys A s H1 locs1 w1 → W p l e R s m args below meth c H1 locs1 cells slots Q (F0 m (pc + 3) ls rest)) : W p l e R s m args below meth c H locs cells slots Q (F0 m pc ls st) := by
  have hF := X.free hA
  refine va_callv (va_runV (As := As) (rest := rest) S (hM H.size) (cwV n S.2.2.2.2 hG rfl hc0 hs0 hd hR) ⟨cP_blind, va_recv X.1 X.2.1 hcl he, X.pre _⟩ rfl hn hls hst (lv_room hrest) hdg hcs) X.2.2.2 (fun q _ h => hF q h) hF (fun u t H1 locs1 ht hvm hp hB hz hk hS1 => ?_)
  obtain ⟨hP1, hK1, hD1⟩ := hB
  rw [ht] at hP1
  exact kk u H1 locs1 hp ⟨X.1, hP1, hD1.weaken (fun k q _ h => hF q.1 h), hS1⟩
/-- a call of a static method that touches no cell -/
theorem cS_call {y : MethodName} {b : ByteArray} {nL1 idx n : Nat} {ret : Option FieldType} {rm : Room} {As : List Value} {v : Int32} {st : List Value}
    (S : CallFix p m c cc nL s args lw_all own) (X : wX D tys A s H locs w0) (hA : ∀ q : Nat, s.heap.size ≤ q → A q) (hM : cI l D [] y b nL1 ret rm As [] (fun r _ => r = v)) (hG : GoodIn lw_all (va_wsS own idx y (ws_ y b nL1 ret))) (hc0 : rm.cells = 0) (hs0 : rm.slots = 0)
    (hd : y.cls ≠ "java/lang/invoke/MethodHandle" ∧ y.cls ≠ "java/lang/invoke/VarHandle" ∧ (parseMethodDescriptor y.desc).map (fun d => d.parameters.length) = some n) (hR : rm.frames + 1 ≤ R.frames ∧ 8 + (nL1 + 11) + rm.locals ≤ R.locals)
    (hls : ls.size = nL) (hn : As.length = n) (hst : st = As.reverse ++ rest) (hrest : (rest.map fun v => v.category).sum ≤ 8) (hdg : decode cc pc = .ok (.invokestatic idx, 3)) (hcs : cells ≤ R.cells ∧ slots ≤ R.slots)
    (kk : ∀ (H1 : Heap) (locs1 : List Loc), wX D tys A s H1 locs1 w0 → W p l e R s m args below meth c H1 locs1 cells slots Q (F0 m (pc + 3) ls (.int v :: rest))) : W p l e R s m args below meth c H locs cells slots Q (F0 m pc ls st) := by
  obtain ⟨hK, hP, hD, hS⟩ := X
  have X0 : wX D [] A s H locs [] := ⟨hK.sub [] rfl, fun k q h => (by simp at h), ⟨fun i j p q h => (by simp at h), fun k q h => (by simp at h)⟩, hS⟩
  have hF := X0.free hA
  refine va_calli (va_runS (As := As) (rest := rest) S (hM H.size) (va_cwS n S.2.2.2.2 hG rfl hc0 hs0 hd hR) ⟨cP_blind, X0.pre _⟩ rfl hn hls hst (lv_room hrest) hdg hcs) hS (fun q _ h => hF q h) hF (fun r u t H1 locs1 ht hvm hp hB hz hk hS1 => ?_)
  subst hp
  refine kk H1 locs1 ⟨hK, hP.kept (fun k q hq => hk q.1 (hP k q hq).lt ?_), hD, hS1⟩
  intro h
  rcases h with ⟨k1, e1, h⟩ | h
  · simp at h
  · exact absurd (hP k q hq).lt (by omega)
/-! rows over Nat -/
theorem mn_iadd (hexec : p.tables.exec = Jvm.exec) (hb : c.code = cc) {x y : Nat} (hdg : decode cc pc = .ok (.iadd, 1)) (k : W p l e R s m args below meth c H locs cells slots Q (F0 m (pc + 1) ls (.int (nI (x + y)) :: rest))) : W p l e R s m args below meth c H locs cells slots Q (F0 m pc ls (.int (nI y) :: .int (nI x) :: rest)) := lv_iadd hexec hb hdg (by rw [nI_add]; exact k)
theorem mn_isub (hexec : p.tables.exec = Jvm.exec) (hb : c.code = cc) {x y : Nat} (h : y ≤ x) (hdg : decode cc pc = .ok (.isub, 1)) (k : W p l e R s m args below meth c H locs cells slots Q (F0 m (pc + 1) ls (.int (nI (x - y)) :: rest))) : W p l e R s m args below meth c H locs cells slots Q (F0 m pc ls (.int (nI y) :: .int (nI x) :: rest)) := lv_isub hexec hb hdg (by rw [pk_sub h]; exact k)
theorem mn_imul (hexec : p.tables.exec = Jvm.exec) (hb : c.code = cc) {x y : Nat} (hdg : decode cc pc = .ok (.imul, 1)) (k : W p l e R s m args below meth c H locs cells slots Q (F0 m (pc + 1) ls (.int (nI (x * y)) :: rest))) : W p l e R s m args below meth c H locs cells slots Q (F0 m pc ls (.int (nI y) :: .int (nI x) :: rest)) := lv_imul hexec hb hdg (by rw [pk_mul]; exact k)
theorem mn_eq {x y : Nat} (h : x = y) (k : W p l e R s m args below meth c H locs cells slots Q (F0 m pc ls (.int (nI y) :: rest))) : W p l e R s m args below meth c H locs cells slots Q (F0 m pc ls (.int (nI x) :: rest)) := by rw [h]; exact k
theorem mi_eq {x y : Int32} (h : x = y) (k : W p l e R s m args below meth c H locs cells slots Q (F0 m pc ls (.int y :: rest))) : W p l e R s m args below meth c H locs cells slots Q (F0 m pc ls (.int x :: rest)) := by rw [h]; exact k
theorem mn_icmp_eq (hexec : p.tables.exec = Jvm.exec) (hb : c.code = cc) {x y : Nat} (hx : x < 2 ^ 31) (hy : y < 2 ^ 31) {off : Int} {tgt : Nat} (hdg : decode cc pc = .ok (.if_icmp .eq off, 3)) (ht : (pc : Int) + off = (tgt : Int)) (kt : x = y → W p l e R s m args below meth c H locs cells slots Q (F0 m tgt ls rest)) (kf : x ≠ y → W p l e R s m args below meth c H locs cells slots Q (F0 m (pc + 3) ls rest)) : W p l e R s m args below meth c H locs cells slots Q (F0 m pc ls (.int (nI y) :: .int (nI x) :: rest)) := lv_icmp_eq hexec hb hdg ht (fun h => kt ((nI_eq hx hy).mp h)) (fun h => kf (fun q => h ((nI_eq hx hy).mpr q)))
theorem mn_icmp_ne (hexec : p.tables.exec = Jvm.exec) (hb : c.code = cc) {x y : Nat} (hx : x < 2 ^ 31) (hy : y < 2 ^ 31) {off : Int} {tgt : Nat} (hdg : decode cc pc = .ok (.if_icmp .ne off, 3)) (ht : (pc : Int) + off = (tgt : Int)) (kt : x ≠ y → W p l e R s m args below meth c H locs cells slots Q (F0 m tgt ls rest)) (kf : x = y → W p l e R s m args below meth c H locs cells slots Q (F0 m (pc + 3) ls rest)) : W p l e R s m args below meth c H locs cells slots Q (F0 m pc ls (.int (nI y) :: .int (nI x) :: rest)) := lv_icmp_ne hexec hb hdg ht (fun h => kt (fun q => h ((nI_eq hx hy).mpr q))) (fun h => kf ((nI_eq hx hy).mp h))
theorem mn_icmp_lt (hexec : p.tables.exec = Jvm.exec) (hb : c.code = cc) {x y : Nat} (hx : x < 2 ^ 31) (hy : y < 2 ^ 31) {off : Int} {tgt : Nat} (hdg : decode cc pc = .ok (.if_icmp .lt off, 3)) (ht : (pc : Int) + off = (tgt : Int)) (kt : x < y → W p l e R s m args below meth c H locs cells slots Q (F0 m tgt ls rest)) (kf : y ≤ x → W p l e R s m args below meth c H locs cells slots Q (F0 m (pc + 3) ls rest)) : W p l e R s m args below meth c H locs cells slots Q (F0 m pc ls (.int (nI y) :: .int (nI x) :: rest)) := lv_icmp_lt hexec hb hdg ht (fun h => kt ((nI_ltI hx hy).mp h)) (fun h => kf (by have h2 := mt (nI_ltI hx hy).mpr h; omega))
theorem mn_icmp_ge (hexec : p.tables.exec = Jvm.exec) (hb : c.code = cc) {x y : Nat} (hx : x < 2 ^ 31) (hy : y < 2 ^ 31) {off : Int} {tgt : Nat} (hdg : decode cc pc = .ok (.if_icmp .ge off, 3)) (ht : (pc : Int) + off = (tgt : Int)) (kt : y ≤ x → W p l e R s m args below meth c H locs cells slots Q (F0 m tgt ls rest)) (kf : x < y → W p l e R s m args below meth c H locs cells slots Q (F0 m (pc + 3) ls rest)) : W p l e R s m args below meth c H locs cells slots Q (F0 m pc ls (.int (nI y) :: .int (nI x) :: rest)) := lv_icmp_ge hexec hb hdg ht (fun h => kt ((nI_leI hy hx).mp h)) (fun h => kf (by have h2 := mt (nI_leI hy hx).mpr h; omega))
theorem mn_icmp_gt (hexec : p.tables.exec = Jvm.exec) (hb : c.code = cc) {x y : Nat} (hx : x < 2 ^ 31) (hy : y < 2 ^ 31) {off : Int} {tgt : Nat} (hdg : decode cc pc = .ok (.if_icmp .gt off, 3)) (ht : (pc : Int) + off = (tgt : Int)) (kt : y < x → W p l e R s m args below meth c H locs cells slots Q (F0 m tgt ls rest)) (kf : x ≤ y → W p l e R s m args below meth c H locs cells slots Q (F0 m (pc + 3) ls rest)) : W p l e R s m args below meth c H locs cells slots Q (F0 m pc ls (.int (nI y) :: .int (nI x) :: rest)) := lv_icmp_gt hexec hb hdg ht (fun h => kt ((nI_ltI hy hx).mp h)) (fun h => kf (by have h2 := mt (nI_ltI hy hx).mpr h; omega))
theorem mn_icmp_le (hexec : p.tables.exec = Jvm.exec) (hb : c.code = cc) {x y : Nat} (hx : x < 2 ^ 31) (hy : y < 2 ^ 31) {off : Int} {tgt : Nat} (hdg : decode cc pc = .ok (.if_icmp .le off, 3)) (ht : (pc : Int) + off = (tgt : Int)) (kt : x ≤ y → W p l e R s m args below meth c H locs cells slots Q (F0 m tgt ls rest)) (kf : y < x → W p l e R s m args below meth c H locs cells slots Q (F0 m (pc + 3) ls rest)) : W p l e R s m args below meth c H locs cells slots Q (F0 m pc ls (.int (nI y) :: .int (nI x) :: rest)) := lv_icmp_le hexec hb hdg ht (fun h => kt ((nI_leI hx hy).mp h)) (fun h => kf (by have h2 := mt (nI_leI hx hy).mpr h; omega))
theorem mo_z_eq {x : Nat} (hx : x < 2 ^ 31) : nI x = 0 ↔ x = 0 := nI_eq (b := 0) hx (by decide)
theorem mo_z_gt {x : Nat} (hx : x < 2 ^ 31) : 0 < nI x ↔ 0 < x := nI_ltI (a := 0) (by decide) hx
theorem mo_z_le {x : Nat} (hx : x < 2 ^ 31) : nI x ≤ 0 ↔ x ≤ 0 := nI_leI (b := 0) hx (by decide)
theorem mn_if_eq (hexec : p.tables.exec = Jvm.exec) (hb : c.code = cc) {x : Nat} (hx : x < 2 ^ 31) {off : Int} {tgt : Nat} (hdg : decode cc pc = .ok (.ifCond .eq off, 3)) (ht : (pc : Int) + off = (tgt : Int)) (kt : x = 0 → W p l e R s m args below meth c H locs cells slots Q (F0 m tgt ls rest)) (kf : x ≠ 0 → W p l e R s m args below meth c H locs cells slots Q (F0 m (pc + 3) ls rest)) : W p l e R s m args below meth c H locs cells slots Q (F0 m pc ls (.int (nI x) :: rest)) := lv_if_eq hexec hb hdg ht (fun h => kt ((mo_z_eq hx).mp h)) (fun h => kf (fun q => h ((mo_z_eq hx).mpr q)))
theorem mn_if_ne (hexec : p.tables.exec = Jvm.exec) (hb : c.code = cc) {x : Nat} (hx : x < 2 ^ 31) {off : Int} {tgt : Nat} (hdg : decode cc pc = .ok (.ifCond .ne off, 3)) (ht : (pc : Int) + off = (tgt : Int)) (kt : x ≠ 0 → W p l e R s m args below meth c H locs cells slots Q (F0 m tgt ls rest)) (kf : x = 0 → W p l e R s m args below meth c H locs cells slots Q (F0 m (pc + 3) ls rest)) : W p l e R s m args below meth c H locs cells slots Q (F0 m pc ls (.int (nI x) :: rest)) := lv_if_ne hexec hb hdg ht (fun h => kt (fun q => h ((mo_z_eq hx).mpr q))) (fun h => kf ((mo_z_eq hx).mp h))
theorem mn_if_gt (hexec : p.tables.exec = Jvm.exec) (hb : c.code = cc) {x : Nat} (hx : x < 2 ^ 31) {off : Int} {tgt : Nat} (hdg : decode cc pc = .ok (.ifCond .gt off, 3)) (ht : (pc : Int) + off = (tgt : Int)) (kt : 0 < x → W p l e R s m args below meth c H locs cells slots Q (F0 m tgt ls rest)) (kf : x = 0 → W p l e R s m args below meth c H locs cells slots Q (F0 m (pc + 3) ls rest)) : W p l e R s m args below meth c H locs cells slots Q (F0 m pc ls (.int (nI x) :: rest)) := lv_if_gt hexec hb hdg ht (fun h => kt (by have h2 := (mo_z_gt hx).mp h; omega)) (fun h => kf (by have h2 := mt (mo_z_gt hx).mpr h; omega))
theorem mn_if_le (hexec : p.tables.exec = Jvm.exec) (hb : c.code = cc) {x : Nat} (hx : x < 2 ^ 31) {off : Int} {tgt : Nat} (hdg : decode cc pc = .ok (.ifCond .le off, 3)) (ht : (pc : Int) + off = (tgt : Int)) (kt : x = 0 → W p l e R s m args below meth c H locs cells slots Q (F0 m tgt ls rest)) (kf : 0 < x → W p l e R s m args below meth c H locs cells slots Q (F0 m (pc + 3) ls rest)) : W p l e R s m args below meth c H locs cells slots Q (F0 m pc ls (.int (nI x) :: rest)) := lv_if_le hexec hb hdg ht (fun h => kt (by have h2 := (mo_z_le hx).mp h; omega)) (fun h => kf (by have h2 := mt (mo_z_le hx).mpr h; omega))
theorem mn_if_lt (hexec : p.tables.exec = Jvm.exec) (hb : c.code = cc) {x : Nat} (hx : x < 2 ^ 31) {off : Int} {tgt : Nat} (hdg : decode cc pc = .ok (.ifCond .lt off, 3)) (ht : (pc : Int) + off = (tgt : Int)) (kf : W p l e R s m args below meth c H locs cells slots Q (F0 m (pc + 3) ls rest)) : W p l e R s m args below meth c H locs cells slots Q (F0 m pc ls (.int (nI x) :: rest)) := lv_if_lt hexec hb hdg ht (fun h => absurd h (nI_pos hx)) (fun _ => kf)
theorem mn_if_ge (hexec : p.tables.exec = Jvm.exec) (hb : c.code = cc) {x : Nat} (hx : x < 2 ^ 31) {off : Int} {tgt : Nat} (hdg : decode cc pc = .ok (.ifCond .ge off, 3)) (ht : (pc : Int) + off = (tgt : Int)) (kt : W p l e R s m args below meth c H locs cells slots Q (F0 m tgt ls rest)) : W p l e R s m args below meth c H locs cells slots Q (F0 m pc ls (.int (nI x) :: rest)) := lv_if_ge hexec hb hdg ht (fun _ => kt) (fun h => absurd (nI_pos' hx) h)
theorem mi_if_lt (hexec : p.tables.exec = Jvm.exec) (hb : c.code = cc) {v : Int32} {off : Int} {tgt : Nat} (hdg : decode cc pc = .ok (.ifCond .lt off, 3)) (ht : (pc : Int) + off = (tgt : Int)) (kt : v < 0 → W p l e R s m args below meth c H locs cells slots Q (F0 m tgt ls rest)) (kf : ∀ x : Nat, x < 2 ^ 31 → v = nI x → W p l e R s m args below meth c H locs cells slots Q (F0 m (pc + 3) ls rest)) : W p l e R s m args below meth c H locs cells slots Q (F0 m pc ls (.int v :: rest)) := lv_if_lt hexec hb hdg ht kt (fun h => by obtain ⟨j, h1, h2⟩ := nI_of h; exact kf j h1 h2)
end MB
theorem mo_dec (x : Int32) : x + Int32.ofInt (-1) = x - 1 := by
  have h : Int32.ofInt (-1) = -1 := by decide
  rw [h]
  grind
end
section
set_option maxRecDepth 100000
def tyP (kc : Nat → ClassId) : List (ClassId × FieldType) := [(kc 1, .byte), (kc 3, .byte), (kc 4, .byte), (kc 5, .byte), (kc 7, .byte), (kc 10, .long), (kc 11, .boolean), (kc 12, .boolean), (kc 13, .boolean), (kc 14, .short), (kc 15, .boolean), (kc 16, .boolean), (kc 17, .short)]
def pmW (a : Nat → Nat) (kc : Nat → ClassId) (w : Nat) (tk : Nat → Nat) (n : Nat) (sc : Nat → Nat) (ot : Nat → Nat) (ow : Nat → Nat) (oc : Nat) (fc : Nat → Nat) (ct : Nat) (jd : Nat) (ta : Nat → Int64) (vl : Nat → Nat) (vb : Nat → Nat) (me : Nat → Nat) (sn : Nat → Nat) (sv : Nat → Nat) (sm : Nat → Nat) (ss : Nat → Nat) : va_W := [(a 0, .inr (0, [.int (nI w), .ref (a 1), .int (nI n), .ref (a 3), .ref (a 4), .ref (a 5), .int (nI oc), .ref (a 7), .int (nI ct), .int (nI jd), .ref (a 10), .ref (a 11), .ref (a 12), .ref (a 13), .ref (a 14), .ref (a 15), .ref (a 16), .ref (a 17)])), (a 1, .inl (kc 1, 14, .inl (nF tk))), (a 3, .inl (kc 3, 14, .inl (nF sc))), (a 4, .inl (kc 4, 16, .inl (nF ot))), (a 5, .inl (kc 5, 16, .inl (nF ow))), (a 7, .inl (kc 7, 200, .inl (nF fc))), (a 10, .inl (kc 10, 4, .inr (.inl ta))), (a 11, .inl (kc 11, 14, .inl (nF vl))), (a 12, .inl (kc 12, 14, .inl (nF vb))), (a 13, .inl (kc 13, 14, .inl (nF me))), (a 14, .inl (kc 14, 14, .inl (lF sn))), (a 15, .inl (kc 15, 14, .inl (nF sv))), (a 16, .inl (kc 16, 14, .inl (nF sm))), (a 17, .inl (kc 17, 14, .inl (lF ss)))]
section RWP
variable {p : Program} {l : Launch} {e : Env} {R : Room} {s : State} {m : MethodId} {args : Array Value} {below : List Frame} {meth : Method} {c : Code} {H : Heap} {locs : List Loc} {cells slots : Nat} {Q : State → Prop} {cc : ByteArray} {pc nL : Nat} {ls0 : Array Slot} {rest : List Value} {D : va_G} {A : Nat → Prop} {a : Nat → Nat} {kc : Nat → ClassId} {w : Nat} {tk : Nat → Nat} {n : Nat} {sc : Nat → Nat} {ot : Nat → Nat} {ow : Nat → Nat} {oc : Nat} {fc : Nat → Nat} {ct : Nat} {jd : Nat} {ta : Nat → Int64} {vl : Nat → Nat} {vb : Nat → Nat} {me : Nat → Nat} {sn : Nat → Nat} {sv : Nat → Nat} {sm : Nat → Nat} {ss : Nat → Nat}
theorem gP_w (S : CallFix p m c cc nL s args lw_all RX1) (X : wX D (tyP kc) A s H locs (pmW a kc w tk n sc ot ow oc fc ct jd ta vl vb me sn sv sm ss)) (hdg : decode cc pc = .ok (.getfield 52, 3)) (kk : W p l e R s m args below meth c H locs cells slots Q (F0 m (pc + 3) ls0 (.int (nI w) :: rest))) : W p l e R s m args below meth c H locs cells slots Q (F0 m pc ls0 (.ref (a 0) :: rest)) := va_get (D := D) (ci := 0) (v := .int (nI w)) (C := RX1) (T := TX1) (N := 18) S.1 S.2.1 S.2.2.2.2 in_X1 S.2.2.2.1 X.1 X.2.1 0 rfl rfl 0 (by decide) (S.2.2.2.2 _ q23) (fun _ h9 => h9) rfl hdg kk
theorem gP_tk (S : CallFix p m c cc nL s args lw_all RX1) (X : wX D (tyP kc) A s H locs (pmW a kc w tk n sc ot ow oc fc ct jd ta vl vb me sn sv sm ss)) (hdg : decode cc pc = .ok (.getfield 7, 3)) (kk : W p l e R s m args below meth c H locs cells slots Q (F0 m (pc + 3) ls0 (.ref (a 1) :: rest))) : W p l e R s m args below meth c H locs cells slots Q (F0 m pc ls0 (.ref (a 0) :: rest)) := va_get (D := D) (ci := 0) (v := .ref (a 1)) (C := RX1) (T := TX1) (N := 18) S.1 S.2.1 S.2.2.2.2 in_X1 S.2.2.2.1 X.1 X.2.1 0 rfl rfl 1 (by decide) (S.2.2.2.2 _ q24) (fun _ h9 => h9) rfl hdg kk
theorem lP_tk {j : Nat} (S : CallFix p m c cc nL s args lw_all RX1) (X : wX D (tyP kc) A s H locs (pmW a kc w tk n sc ot ow oc fc ct jd ta vl vb me sn sv sm ss)) (hj : j < 14) (hdg : decode cc pc = .ok (.baload, 1)) (kk : W p l e R s m args below meth c H locs cells slots Q (F0 m (pc + 1) ls0 (.int (nI (tk j)) :: rest))) : W p l e R s m args below meth c H locs cells slots Q (F0 m pc ls0 (.int (nI j) :: .ref (a 1) :: rest)) := va_bald (D := D) S.1 S.2.1 X.1 X.2.1 1 0 rfl rfl (vp_in_nI hj (by decide)) hdg (by rw [nI_clamp (Nat.lt_trans hj (by decide))]; exact kk)
theorem sP_tk {j : Nat} {v : Nat} (hv : v < 128) (S : CallFix p m c cc nL s args lw_all RX1) (X : wX D (tyP kc) A s H locs (pmW a kc w tk n sc ot ow oc fc ct jd ta vl vb me sn sv sm ss)) (hj : j < 14) (hdg : decode cc pc = .ok (.bastore, 1)) (kk : ∀ (H1 : Heap) (locs1 : List Loc), wX D (tyP kc) A s H1 locs1 (pmW a kc w (va_up tk j v) n sc ot ow oc fc ct jd ta vl vb me sn sv sm ss) → W p l e R s m args below meth c H1 locs1 cells slots Q (F0 m (pc + 1) ls0 rest)) : W p l e R s m args below meth c H locs cells slots Q (F0 m pc ls0 (.int (nI v) :: .int (nI j) :: .ref (a 1) :: rest)) := by
  have e1 : upd (nF tk) (nI j).toNatClampNeg (vp_nar .byte (nI v)) = nF (va_up tk j v) := by rw [nI_clamp (Nat.lt_trans hj (by decide)), vp_nar_byte, mo_byte v hv, nF_up]
  refine va_bast (D := D) S.1 S.2.1 X.1 X.2.1 X.2.2.1 X.2.2.2 1 0 rfl rfl (vp_in_nI hj (by decide)) hdg (fun H1 locs1 hP hD hS => ?_)
  rw [e1] at hP hD
  exact kk H1 locs1 ⟨X.1, hP, hD, hS⟩
theorem gP_n (S : CallFix p m c cc nL s args lw_all RX1) (X : wX D (tyP kc) A s H locs (pmW a kc w tk n sc ot ow oc fc ct jd ta vl vb me sn sv sm ss)) (hdg : decode cc pc = .ok (.getfield 56, 3)) (kk : W p l e R s m args below meth c H locs cells slots Q (F0 m (pc + 3) ls0 (.int (nI n) :: rest))) : W p l e R s m args below meth c H locs cells slots Q (F0 m pc ls0 (.ref (a 0) :: rest)) := va_get (D := D) (ci := 0) (v := .int (nI n)) (C := RX1) (T := TX1) (N := 18) S.1 S.2.1 S.2.2.2.2 in_X1 S.2.2.2.1 X.1 X.2.1 0 rfl rfl 2 (by decide) (S.2.2.2.2 _ q25) (fun _ h9 => h9) rfl hdg kk
theorem pP_n {v : Nat} (S : CallFix p m c cc nL s args lw_all RX1) (X : wX D (tyP kc) A s H locs (pmW a kc w tk n sc ot ow oc fc ct jd ta vl vb me sn sv sm ss)) (hdg : decode cc pc = .ok (.putfield 56, 3)) (kk : ∀ (H1 : Heap) (locs1 : List Loc), wX D (tyP kc) A s H1 locs1 (pmW a kc w tk v sc ot ow oc fc ct jd ta vl vb me sn sv sm ss) → W p l e R s m args below meth c H1 locs1 cells slots Q (F0 m (pc + 3) ls0 rest)) : W p l e R s m args below meth c H locs cells slots Q (F0 m pc ls0 (.int (nI v) :: .ref (a 0) :: rest)) := va_put (D := D) (ci := 0) (v := .int (nI v)) (ty := .int) (C := RX1) (T := TX1) (N := 18) S.1 S.2.1 S.2.2.2.2 in_X1 tyX1 tyX1_ok nmX1 S.2.2.2.1 X.1 X.2.1 X.2.2.1 X.2.2.2 0 rfl rfl 2 (by decide) (S.2.2.2.2 _ q25) (fun _ h9 => h9) rfl (by decide +kernel) rfl rfl (Nat.le_of_ble_eq_true rfl) hdg (fun H1 locs1 hP hD hS => kk H1 locs1 ⟨X.1, hP, hD, hS⟩)
theorem gP_sc (S : CallFix p m c cc nL s args lw_all RX1) (X : wX D (tyP kc) A s H locs (pmW a kc w tk n sc ot ow oc fc ct jd ta vl vb me sn sv sm ss)) (hdg : decode cc pc = .ok (.getfield 13, 3)) (kk : W p l e R s m args below meth c H locs cells slots Q (F0 m (pc + 3) ls0 (.ref (a 3) :: rest))) : W p l e R s m args below meth c H locs cells slots Q (F0 m pc ls0 (.ref (a 0) :: rest)) := va_get (D := D) (ci := 0) (v := .ref (a 3)) (C := RX1) (T := TX1) (N := 18) S.1 S.2.1 S.2.2.2.2 in_X1 S.2.2.2.1 X.1 X.2.1 0 rfl rfl 3 (by decide) (S.2.2.2.2 _ q26) (fun _ h9 => h9) rfl hdg kk
theorem lP_sc {j : Nat} (S : CallFix p m c cc nL s args lw_all RX1) (X : wX D (tyP kc) A s H locs (pmW a kc w tk n sc ot ow oc fc ct jd ta vl vb me sn sv sm ss)) (hj : j < 14) (hdg : decode cc pc = .ok (.baload, 1)) (kk : W p l e R s m args below meth c H locs cells slots Q (F0 m (pc + 1) ls0 (.int (nI (sc j)) :: rest))) : W p l e R s m args below meth c H locs cells slots Q (F0 m pc ls0 (.int (nI j) :: .ref (a 3) :: rest)) := va_bald (D := D) S.1 S.2.1 X.1 X.2.1 2 1 rfl rfl (vp_in_nI hj (by decide)) hdg (by rw [nI_clamp (Nat.lt_trans hj (by decide))]; exact kk)
theorem sP_sc {j : Nat} {v : Nat} (hv : v < 128) (S : CallFix p m c cc nL s args lw_all RX1) (X : wX D (tyP kc) A s H locs (pmW a kc w tk n sc ot ow oc fc ct jd ta vl vb me sn sv sm ss)) (hj : j < 14) (hdg : decode cc pc = .ok (.bastore, 1)) (kk : ∀ (H1 : Heap) (locs1 : List Loc), wX D (tyP kc) A s H1 locs1 (pmW a kc w tk n (va_up sc j v) ot ow oc fc ct jd ta vl vb me sn sv sm ss) → W p l e R s m args below meth c H1 locs1 cells slots Q (F0 m (pc + 1) ls0 rest)) : W p l e R s m args below meth c H locs cells slots Q (F0 m pc ls0 (.int (nI v) :: .int (nI j) :: .ref (a 3) :: rest)) := by
  have e1 : upd (nF sc) (nI j).toNatClampNeg (vp_nar .byte (nI v)) = nF (va_up sc j v) := by rw [nI_clamp (Nat.lt_trans hj (by decide)), vp_nar_byte, mo_byte v hv, nF_up]
  refine va_bast (D := D) S.1 S.2.1 X.1 X.2.1 X.2.2.1 X.2.2.2 2 1 rfl rfl (vp_in_nI hj (by decide)) hdg (fun H1 locs1 hP hD hS => ?_)
  rw [e1] at hP hD
  exact kk H1 locs1 ⟨X.1, hP, hD, hS⟩
theorem gP_ot (S : CallFix p m c cc nL s args lw_all RX1) (X : wX D (tyP kc) A s H locs (pmW a kc w tk n sc ot ow oc fc ct jd ta vl vb me sn sv sm ss)) (hdg : decode cc pc = .ok (.getfield 16, 3)) (kk : W p l e R s m args below meth c H locs cells slots Q (F0 m (pc + 3) ls0 (.ref (a 4) :: rest))) : W p l e R s m args below meth c H locs cells slots Q (F0 m pc ls0 (.ref (a 0) :: rest)) := va_get (D := D) (ci := 0) (v := .ref (a 4)) (C := RX1) (T := TX1) (N := 18) S.1 S.2.1 S.2.2.2.2 in_X1 S.2.2.2.1 X.1 X.2.1 0 rfl rfl 4 (by decide) (S.2.2.2.2 _ q27) (fun _ h9 => h9) rfl hdg kk
theorem lP_ot {j : Nat} (S : CallFix p m c cc nL s args lw_all RX1) (X : wX D (tyP kc) A s H locs (pmW a kc w tk n sc ot ow oc fc ct jd ta vl vb me sn sv sm ss)) (hj : j < 16) (hdg : decode cc pc = .ok (.baload, 1)) (kk : W p l e R s m args below meth c H locs cells slots Q (F0 m (pc + 1) ls0 (.int (nI (ot j)) :: rest))) : W p l e R s m args below meth c H locs cells slots Q (F0 m pc ls0 (.int (nI j) :: .ref (a 4) :: rest)) := va_bald (D := D) S.1 S.2.1 X.1 X.2.1 3 2 rfl rfl (vp_in_nI hj (by decide)) hdg (by rw [nI_clamp (Nat.lt_trans hj (by decide))]; exact kk)
theorem sP_ot {j : Nat} {v : Nat} (hv : v < 128) (S : CallFix p m c cc nL s args lw_all RX1) (X : wX D (tyP kc) A s H locs (pmW a kc w tk n sc ot ow oc fc ct jd ta vl vb me sn sv sm ss)) (hj : j < 16) (hdg : decode cc pc = .ok (.bastore, 1)) (kk : ∀ (H1 : Heap) (locs1 : List Loc), wX D (tyP kc) A s H1 locs1 (pmW a kc w tk n sc (va_up ot j v) ow oc fc ct jd ta vl vb me sn sv sm ss) → W p l e R s m args below meth c H1 locs1 cells slots Q (F0 m (pc + 1) ls0 rest)) : W p l e R s m args below meth c H locs cells slots Q (F0 m pc ls0 (.int (nI v) :: .int (nI j) :: .ref (a 4) :: rest)) := by
  have e1 : upd (nF ot) (nI j).toNatClampNeg (vp_nar .byte (nI v)) = nF (va_up ot j v) := by rw [nI_clamp (Nat.lt_trans hj (by decide)), vp_nar_byte, mo_byte v hv, nF_up]
  refine va_bast (D := D) S.1 S.2.1 X.1 X.2.1 X.2.2.1 X.2.2.2 3 2 rfl rfl (vp_in_nI hj (by decide)) hdg (fun H1 locs1 hP hD hS => ?_)
  rw [e1] at hP hD
  exact kk H1 locs1 ⟨X.1, hP, hD, hS⟩
theorem gP_ow (S : CallFix p m c cc nL s args lw_all RX1) (X : wX D (tyP kc) A s H locs (pmW a kc w tk n sc ot ow oc fc ct jd ta vl vb me sn sv sm ss)) (hdg : decode cc pc = .ok (.getfield 19, 3)) (kk : W p l e R s m args below meth c H locs cells slots Q (F0 m (pc + 3) ls0 (.ref (a 5) :: rest))) : W p l e R s m args below meth c H locs cells slots Q (F0 m pc ls0 (.ref (a 0) :: rest)) := va_get (D := D) (ci := 0) (v := .ref (a 5)) (C := RX1) (T := TX1) (N := 18) S.1 S.2.1 S.2.2.2.2 in_X1 S.2.2.2.1 X.1 X.2.1 0 rfl rfl 5 (by decide) (S.2.2.2.2 _ q28) (fun _ h9 => h9) rfl hdg kk
theorem lP_ow {j : Nat} (S : CallFix p m c cc nL s args lw_all RX1) (X : wX D (tyP kc) A s H locs (pmW a kc w tk n sc ot ow oc fc ct jd ta vl vb me sn sv sm ss)) (hj : j < 16) (hdg : decode cc pc = .ok (.baload, 1)) (kk : W p l e R s m args below meth c H locs cells slots Q (F0 m (pc + 1) ls0 (.int (nI (ow j)) :: rest))) : W p l e R s m args below meth c H locs cells slots Q (F0 m pc ls0 (.int (nI j) :: .ref (a 5) :: rest)) := va_bald (D := D) S.1 S.2.1 X.1 X.2.1 4 3 rfl rfl (vp_in_nI hj (by decide)) hdg (by rw [nI_clamp (Nat.lt_trans hj (by decide))]; exact kk)
theorem sP_ow {j : Nat} {v : Nat} (hv : v < 128) (S : CallFix p m c cc nL s args lw_all RX1) (X : wX D (tyP kc) A s H locs (pmW a kc w tk n sc ot ow oc fc ct jd ta vl vb me sn sv sm ss)) (hj : j < 16) (hdg : decode cc pc = .ok (.bastore, 1)) (kk : ∀ (H1 : Heap) (locs1 : List Loc), wX D (tyP kc) A s H1 locs1 (pmW a kc w tk n sc ot (va_up ow j v) oc fc ct jd ta vl vb me sn sv sm ss) → W p l e R s m args below meth c H1 locs1 cells slots Q (F0 m (pc + 1) ls0 rest)) : W p l e R s m args below meth c H locs cells slots Q (F0 m pc ls0 (.int (nI v) :: .int (nI j) :: .ref (a 5) :: rest)) := by
  have e1 : upd (nF ow) (nI j).toNatClampNeg (vp_nar .byte (nI v)) = nF (va_up ow j v) := by rw [nI_clamp (Nat.lt_trans hj (by decide)), vp_nar_byte, mo_byte v hv, nF_up]
  refine va_bast (D := D) S.1 S.2.1 X.1 X.2.1 X.2.2.1 X.2.2.2 4 3 rfl rfl (vp_in_nI hj (by decide)) hdg (fun H1 locs1 hP hD hS => ?_)
  rw [e1] at hP hD
  exact kk H1 locs1 ⟨X.1, hP, hD, hS⟩
theorem gP_oc (S : CallFix p m c cc nL s args lw_all RX1) (X : wX D (tyP kc) A s H locs (pmW a kc w tk n sc ot ow oc fc ct jd ta vl vb me sn sv sm ss)) (hdg : decode cc pc = .ok (.getfield 66, 3)) (kk : W p l e R s m args below meth c H locs cells slots Q (F0 m (pc + 3) ls0 (.int (nI oc) :: rest))) : W p l e R s m args below meth c H locs cells slots Q (F0 m pc ls0 (.ref (a 0) :: rest)) := va_get (D := D) (ci := 0) (v := .int (nI oc)) (C := RX1) (T := TX1) (N := 18) S.1 S.2.1 S.2.2.2.2 in_X1 S.2.2.2.1 X.1 X.2.1 0 rfl rfl 6 (by decide) (S.2.2.2.2 _ q29) (fun _ h9 => h9) rfl hdg kk
theorem pP_oc {v : Nat} (S : CallFix p m c cc nL s args lw_all RX1) (X : wX D (tyP kc) A s H locs (pmW a kc w tk n sc ot ow oc fc ct jd ta vl vb me sn sv sm ss)) (hdg : decode cc pc = .ok (.putfield 66, 3)) (kk : ∀ (H1 : Heap) (locs1 : List Loc), wX D (tyP kc) A s H1 locs1 (pmW a kc w tk n sc ot ow v fc ct jd ta vl vb me sn sv sm ss) → W p l e R s m args below meth c H1 locs1 cells slots Q (F0 m (pc + 3) ls0 rest)) : W p l e R s m args below meth c H locs cells slots Q (F0 m pc ls0 (.int (nI v) :: .ref (a 0) :: rest)) := va_put (D := D) (ci := 0) (v := .int (nI v)) (ty := .int) (C := RX1) (T := TX1) (N := 18) S.1 S.2.1 S.2.2.2.2 in_X1 tyX1 tyX1_ok nmX1 S.2.2.2.1 X.1 X.2.1 X.2.2.1 X.2.2.2 0 rfl rfl 6 (by decide) (S.2.2.2.2 _ q29) (fun _ h9 => h9) rfl (by decide +kernel) rfl rfl (Nat.le_of_ble_eq_true rfl) hdg (fun H1 locs1 hP hD hS => kk H1 locs1 ⟨X.1, hP, hD, hS⟩)
theorem gP_fc (S : CallFix p m c cc nL s args lw_all RX1) (X : wX D (tyP kc) A s H locs (pmW a kc w tk n sc ot ow oc fc ct jd ta vl vb me sn sv sm ss)) (hdg : decode cc pc = .ok (.getfield 22, 3)) (kk : W p l e R s m args below meth c H locs cells slots Q (F0 m (pc + 3) ls0 (.ref (a 7) :: rest))) : W p l e R s m args below meth c H locs cells slots Q (F0 m pc ls0 (.ref (a 0) :: rest)) := va_get (D := D) (ci := 0) (v := .ref (a 7)) (C := RX1) (T := TX1) (N := 18) S.1 S.2.1 S.2.2.2.2 in_X1 S.2.2.2.1 X.1 X.2.1 0 rfl rfl 7 (by decide) (S.2.2.2.2 _ q30) (fun _ h9 => h9) rfl hdg kk
theorem lP_fc {j : Nat} (S : CallFix p m c cc nL s args lw_all RX1) (X : wX D (tyP kc) A s H locs (pmW a kc w tk n sc ot ow oc fc ct jd ta vl vb me sn sv sm ss)) (hj : j < 200) (hdg : decode cc pc = .ok (.baload, 1)) (kk : W p l e R s m args below meth c H locs cells slots Q (F0 m (pc + 1) ls0 (.int (nI (fc j)) :: rest))) : W p l e R s m args below meth c H locs cells slots Q (F0 m pc ls0 (.int (nI j) :: .ref (a 7) :: rest)) := va_bald (D := D) S.1 S.2.1 X.1 X.2.1 5 4 rfl rfl (vp_in_nI hj (by decide)) hdg (by rw [nI_clamp (Nat.lt_trans hj (by decide))]; exact kk)
theorem sP_fc {j : Nat} {v : Nat} (hv : v < 128) (S : CallFix p m c cc nL s args lw_all RX1) (X : wX D (tyP kc) A s H locs (pmW a kc w tk n sc ot ow oc fc ct jd ta vl vb me sn sv sm ss)) (hj : j < 200) (hdg : decode cc pc = .ok (.bastore, 1)) (kk : ∀ (H1 : Heap) (locs1 : List Loc), wX D (tyP kc) A s H1 locs1 (pmW a kc w tk n sc ot ow oc (va_up fc j v) ct jd ta vl vb me sn sv sm ss) → W p l e R s m args below meth c H1 locs1 cells slots Q (F0 m (pc + 1) ls0 rest)) : W p l e R s m args below meth c H locs cells slots Q (F0 m pc ls0 (.int (nI v) :: .int (nI j) :: .ref (a 7) :: rest)) := by
  have e1 : upd (nF fc) (nI j).toNatClampNeg (vp_nar .byte (nI v)) = nF (va_up fc j v) := by rw [nI_clamp (Nat.lt_trans hj (by decide)), vp_nar_byte, mo_byte v hv, nF_up]
  refine va_bast (D := D) S.1 S.2.1 X.1 X.2.1 X.2.2.1 X.2.2.2 5 4 rfl rfl (vp_in_nI hj (by decide)) hdg (fun H1 locs1 hP hD hS => ?_)
  rw [e1] at hP hD
  exact kk H1 locs1 ⟨X.1, hP, hD, hS⟩
theorem gP_ct (S : CallFix p m c cc nL s args lw_all RX1) (X : wX D (tyP kc) A s H locs (pmW a kc w tk n sc ot ow oc fc ct jd ta vl vb me sn sv sm ss)) (hdg : decode cc pc = .ok (.getfield 77, 3)) (kk : W p l e R s m args below meth c H locs cells slots Q (F0 m (pc + 3) ls0 (.int (nI ct) :: rest))) : W p l e R s m args below meth c H locs cells slots Q (F0 m pc ls0 (.ref (a 0) :: rest)) := va_get (D := D) (ci := 0) (v := .int (nI ct)) (C := RX1) (T := TX1) (N := 18) S.1 S.2.1 S.2.2.2.2 in_X1 S.2.2.2.1 X.1 X.2.1 0 rfl rfl 8 (by decide) (S.2.2.2.2 _ q31) (fun _ h9 => h9) rfl hdg kk
theorem pP_ct {v : Nat} (S : CallFix p m c cc nL s args lw_all RX1) (X : wX D (tyP kc) A s H locs (pmW a kc w tk n sc ot ow oc fc ct jd ta vl vb me sn sv sm ss)) (hdg : decode cc pc = .ok (.putfield 77, 3)) (kk : ∀ (H1 : Heap) (locs1 : List Loc), wX D (tyP kc) A s H1 locs1 (pmW a kc w tk n sc ot ow oc fc v jd ta vl vb me sn sv sm ss) → W p l e R s m args below meth c H1 locs1 cells slots Q (F0 m (pc + 3) ls0 rest)) : W p l e R s m args below meth c H locs cells slots Q (F0 m pc ls0 (.int (nI v) :: .ref (a 0) :: rest)) := va_put (D := D) (ci := 0) (v := .int (nI v)) (ty := .int) (C := RX1) (T := TX1) (N := 18) S.1 S.2.1 S.2.2.2.2 in_X1 tyX1 tyX1_ok nmX1 S.2.2.2.1 X.1 X.2.1 X.2.2.1 X.2.2.2 0 rfl rfl 8 (by decide) (S.2.2.2.2 _ q31) (fun _ h9 => h9) rfl (by decide +kernel) rfl rfl (Nat.le_of_ble_eq_true rfl) hdg (fun H1 locs1 hP hD hS => kk H1 locs1 ⟨X.1, hP, hD, hS⟩)
theorem gP_jd (S : CallFix p m c cc nL s args lw_all RX1) (X : wX D (tyP kc) A s H locs (pmW a kc w tk n sc ot ow oc fc ct jd ta vl vb me sn sv sm ss)) (hdg : decode cc pc = .ok (.getfield 63, 3)) (kk : W p l e R s m args below meth c H locs cells slots Q (F0 m (pc + 3) ls0 (.int (nI jd) :: rest))) : W p l e R s m args below meth c H locs cells slots Q (F0 m pc ls0 (.ref (a 0) :: rest)) := va_get (D := D) (ci := 0) (v := .int (nI jd)) (C := RX1) (T := TX1) (N := 18) S.1 S.2.1 S.2.2.2.2 in_X1 S.2.2.2.1 X.1 X.2.1 0 rfl rfl 9 (by decide) (S.2.2.2.2 _ q32) (fun _ h9 => h9) rfl hdg kk
theorem pP_jd {v : Nat} (S : CallFix p m c cc nL s args lw_all RX1) (X : wX D (tyP kc) A s H locs (pmW a kc w tk n sc ot ow oc fc ct jd ta vl vb me sn sv sm ss)) (hdg : decode cc pc = .ok (.putfield 63, 3)) (kk : ∀ (H1 : Heap) (locs1 : List Loc), wX D (tyP kc) A s H1 locs1 (pmW a kc w tk n sc ot ow oc fc ct v ta vl vb me sn sv sm ss) → W p l e R s m args below meth c H1 locs1 cells slots Q (F0 m (pc + 3) ls0 rest)) : W p l e R s m args below meth c H locs cells slots Q (F0 m pc ls0 (.int (nI v) :: .ref (a 0) :: rest)) := va_put (D := D) (ci := 0) (v := .int (nI v)) (ty := .int) (C := RX1) (T := TX1) (N := 18) S.1 S.2.1 S.2.2.2.2 in_X1 tyX1 tyX1_ok nmX1 S.2.2.2.1 X.1 X.2.1 X.2.2.1 X.2.2.2 0 rfl rfl 9 (by decide) (S.2.2.2.2 _ q32) (fun _ h9 => h9) rfl (by decide +kernel) rfl rfl (Nat.le_of_ble_eq_true rfl) hdg (fun H1 locs1 hP hD hS => kk H1 locs1 ⟨X.1, hP, hD, hS⟩)
theorem gP_ta (S : CallFix p m c cc nL s args lw_all RX1) (X : wX D (tyP kc) A s H locs (pmW a kc w tk n sc ot ow oc fc ct jd ta vl vb me sn sv sm ss)) (hdg : decode cc pc = .ok (.getfield 25, 3)) (kk : W p l e R s m args below meth c H locs cells slots Q (F0 m (pc + 3) ls0 (.ref (a 10) :: rest))) : W p l e R s m args below meth c H locs cells slots Q (F0 m pc ls0 (.ref (a 0) :: rest)) := va_get (D := D) (ci := 0) (v := .ref (a 10)) (C := RX1) (T := TX1) (N := 18) S.1 S.2.1 S.2.2.2.2 in_X1 S.2.2.2.1 X.1 X.2.1 0 rfl rfl 10 (by decide) (S.2.2.2.2 _ q33) (fun _ h9 => h9) rfl hdg kk
theorem lP_ta {j : Nat} (S : CallFix p m c cc nL s args lw_all RX1) (X : wX D (tyP kc) A s H locs (pmW a kc w tk n sc ot ow oc fc ct jd ta vl vb me sn sv sm ss)) (hj : j < 4) (hdg : decode cc pc = .ok (.laload, 1)) (kk : W p l e R s m args below meth c H locs cells slots Q (F0 m (pc + 1) ls0 (.long (ta j) :: rest))) : W p l e R s m args below meth c H locs cells slots Q (F0 m pc ls0 (.int (nI j) :: .ref (a 10) :: rest)) := va_lald (D := D) S.1 S.2.1 X.1 X.2.1 6 5 rfl rfl (vp_in_nI hj (by decide)) hdg (by rw [nI_clamp (Nat.lt_trans hj (by decide))]; exact kk)
theorem sP_ta {j : Nat} {v : Int64} (S : CallFix p m c cc nL s args lw_all RX1) (X : wX D (tyP kc) A s H locs (pmW a kc w tk n sc ot ow oc fc ct jd ta vl vb me sn sv sm ss)) (hj : j < 4) (hdg : decode cc pc = .ok (.lastore, 1)) (kk : ∀ (H1 : Heap) (locs1 : List Loc), wX D (tyP kc) A s H1 locs1 (pmW a kc w tk n sc ot ow oc fc ct jd (vp_updL ta j v) vl vb me sn sv sm ss) → W p l e R s m args below meth c H1 locs1 cells slots Q (F0 m (pc + 1) ls0 rest)) : W p l e R s m args below meth c H locs cells slots Q (F0 m pc ls0 (.long v :: .int (nI j) :: .ref (a 10) :: rest)) := by
  have e1 : vp_updL ta (nI j).toNatClampNeg v = vp_updL ta j v := by rw [nI_clamp (Nat.lt_trans hj (by decide))]
  refine va_last (D := D) S.1 S.2.1 X.1 X.2.1 X.2.2.1 X.2.2.2 6 5 rfl rfl (vp_in_nI hj (by decide)) hdg (fun H1 locs1 hP hD hS => ?_)
  rw [e1] at hP hD
  exact kk H1 locs1 ⟨X.1, hP, hD, hS⟩
theorem gP_vl (S : CallFix p m c cc nL s args lw_all RX1) (X : wX D (tyP kc) A s H locs (pmW a kc w tk n sc ot ow oc fc ct jd ta vl vb me sn sv sm ss)) (hdg : decode cc pc = .ok (.getfield 29, 3)) (kk : W p l e R s m args below meth c H locs cells slots Q (F0 m (pc + 3) ls0 (.ref (a 11) :: rest))) : W p l e R s m args below meth c H locs cells slots Q (F0 m pc ls0 (.ref (a 0) :: rest)) := va_get (D := D) (ci := 0) (v := .ref (a 11)) (C := RX1) (T := TX1) (N := 18) S.1 S.2.1 S.2.2.2.2 in_X1 S.2.2.2.1 X.1 X.2.1 0 rfl rfl 11 (by decide) (S.2.2.2.2 _ q34) (fun _ h9 => h9) rfl hdg kk
theorem lP_vl {j : Nat} (S : CallFix p m c cc nL s args lw_all RX1) (X : wX D (tyP kc) A s H locs (pmW a kc w tk n sc ot ow oc fc ct jd ta vl vb me sn sv sm ss)) (hj : j < 14) (hdg : decode cc pc = .ok (.baload, 1)) (kk : W p l e R s m args below meth c H locs cells slots Q (F0 m (pc + 1) ls0 (.int (nI (vl j)) :: rest))) : W p l e R s m args below meth c H locs cells slots Q (F0 m pc ls0 (.int (nI j) :: .ref (a 11) :: rest)) := va_zald (D := D) S.1 S.2.1 X.1 X.2.1 7 6 rfl rfl (vp_in_nI hj (by decide)) hdg (by rw [nI_clamp (Nat.lt_trans hj (by decide))]; exact kk)
theorem sP_vl {j : Nat} {v : Nat} (hv : v < 2) (S : CallFix p m c cc nL s args lw_all RX1) (X : wX D (tyP kc) A s H locs (pmW a kc w tk n sc ot ow oc fc ct jd ta vl vb me sn sv sm ss)) (hj : j < 14) (hdg : decode cc pc = .ok (.bastore, 1)) (kk : ∀ (H1 : Heap) (locs1 : List Loc), wX D (tyP kc) A s H1 locs1 (pmW a kc w tk n sc ot ow oc fc ct jd ta (va_up vl j v) vb me sn sv sm ss) → W p l e R s m args below meth c H1 locs1 cells slots Q (F0 m (pc + 1) ls0 rest)) : W p l e R s m args below meth c H locs cells slots Q (F0 m pc ls0 (.int (nI v) :: .int (nI j) :: .ref (a 11) :: rest)) := by
  have e1 : upd (nF vl) (nI j).toNatClampNeg (vp_nar .boolean (nI v)) = nF (va_up vl j v) := by rw [nI_clamp (Nat.lt_trans hj (by decide)), mo_bool v hv, nF_up]
  refine va_zast (D := D) S.1 S.2.1 X.1 X.2.1 X.2.2.1 X.2.2.2 7 6 rfl rfl (vp_in_nI hj (by decide)) hdg (fun H1 locs1 hP hD hS => ?_)
  rw [e1] at hP hD
  exact kk H1 locs1 ⟨X.1, hP, hD, hS⟩
theorem gP_vb (S : CallFix p m c cc nL s args lw_all RX1) (X : wX D (tyP kc) A s H locs (pmW a kc w tk n sc ot ow oc fc ct jd ta vl vb me sn sv sm ss)) (hdg : decode cc pc = .ok (.getfield 33, 3)) (kk : W p l e R s m args below meth c H locs cells slots Q (F0 m (pc + 3) ls0 (.ref (a 12) :: rest))) : W p l e R s m args below meth c H locs cells slots Q (F0 m pc ls0 (.ref (a 0) :: rest)) := va_get (D := D) (ci := 0) (v := .ref (a 12)) (C := RX1) (T := TX1) (N := 18) S.1 S.2.1 S.2.2.2.2 in_X1 S.2.2.2.1 X.1 X.2.1 0 rfl rfl 12 (by decide) (S.2.2.2.2 _ q35) (fun _ h9 => h9) rfl hdg kk
theorem lP_vb {j : Nat} (S : CallFix p m c cc nL s args lw_all RX1) (X : wX D (tyP kc) A s H locs (pmW a kc w tk n sc ot ow oc fc ct jd ta vl vb me sn sv sm ss)) (hj : j < 14) (hdg : decode cc pc = .ok (.baload, 1)) (kk : W p l e R s m args below meth c H locs cells slots Q (F0 m (pc + 1) ls0 (.int (nI (vb j)) :: rest))) : W p l e R s m args below meth c H locs cells slots Q (F0 m pc ls0 (.int (nI j) :: .ref (a 12) :: rest)) := va_zald (D := D) S.1 S.2.1 X.1 X.2.1 8 7 rfl rfl (vp_in_nI hj (by decide)) hdg (by rw [nI_clamp (Nat.lt_trans hj (by decide))]; exact kk)
theorem sP_vb {j : Nat} {v : Nat} (hv : v < 2) (S : CallFix p m c cc nL s args lw_all RX1) (X : wX D (tyP kc) A s H locs (pmW a kc w tk n sc ot ow oc fc ct jd ta vl vb me sn sv sm ss)) (hj : j < 14) (hdg : decode cc pc = .ok (.bastore, 1)) (kk : ∀ (H1 : Heap) (locs1 : List Loc), wX D (tyP kc) A s H1 locs1 (pmW a kc w tk n sc ot ow oc fc ct jd ta vl (va_up vb j v) me sn sv sm ss) → W p l e R s m args below meth c H1 locs1 cells slots Q (F0 m (pc + 1) ls0 rest)) : W p l e R s m args below meth c H locs cells slots Q (F0 m pc ls0 (.int (nI v) :: .int (nI j) :: .ref (a 12) :: rest)) := by
  have e1 : upd (nF vb) (nI j).toNatClampNeg (vp_nar .boolean (nI v)) = nF (va_up vb j v) := by rw [nI_clamp (Nat.lt_trans hj (by decide)), mo_bool v hv, nF_up]
  refine va_zast (D := D) S.1 S.2.1 X.1 X.2.1 X.2.2.1 X.2.2.2 8 7 rfl rfl (vp_in_nI hj (by decide)) hdg (fun H1 locs1 hP hD hS => ?_)
  rw [e1] at hP hD
  exact kk H1 locs1 ⟨X.1, hP, hD, hS⟩
theorem gP_me (S : CallFix p m c cc nL s args lw_all RX1) (X : wX D (tyP kc) A s H locs (pmW a kc w tk n sc ot ow oc fc ct jd ta vl vb me sn sv sm ss)) (hdg : decode cc pc = .ok (.getfield 36, 3)) (kk : W p l e R s m args below meth c H locs cells slots Q (F0 m (pc + 3) ls0 (.ref (a 13) :: rest))) : W p l e R s m args below meth c H locs cells slots Q (F0 m pc ls0 (.ref (a 0) :: rest)) := va_get (D := D) (ci := 0) (v := .ref (a 13)) (C := RX1) (T := TX1) (N := 18) S.1 S.2.1 S.2.2.2.2 in_X1 S.2.2.2.1 X.1 X.2.1 0 rfl rfl 13 (by decide) (S.2.2.2.2 _ q36) (fun _ h9 => h9) rfl hdg kk
theorem lP_me {j : Nat} (S : CallFix p m c cc nL s args lw_all RX1) (X : wX D (tyP kc) A s H locs (pmW a kc w tk n sc ot ow oc fc ct jd ta vl vb me sn sv sm ss)) (hj : j < 14) (hdg : decode cc pc = .ok (.baload, 1)) (kk : W p l e R s m args below meth c H locs cells slots Q (F0 m (pc + 1) ls0 (.int (nI (me j)) :: rest))) : W p l e R s m args below meth c H locs cells slots Q (F0 m pc ls0 (.int (nI j) :: .ref (a 13) :: rest)) := va_zald (D := D) S.1 S.2.1 X.1 X.2.1 9 8 rfl rfl (vp_in_nI hj (by decide)) hdg (by rw [nI_clamp (Nat.lt_trans hj (by decide))]; exact kk)
theorem sP_me {j : Nat} {v : Nat} (hv : v < 2) (S : CallFix p m c cc nL s args lw_all RX1) (X : wX D (tyP kc) A s H locs (pmW a kc w tk n sc ot ow oc fc ct jd ta vl vb me sn sv sm ss)) (hj : j < 14) (hdg : decode cc pc = .ok (.bastore, 1)) (kk : ∀ (H1 : Heap) (locs1 : List Loc), wX D (tyP kc) A s H1 locs1 (pmW a kc w tk n sc ot ow oc fc ct jd ta vl vb (va_up me j v) sn sv sm ss) → W p l e R s m args below meth c H1 locs1 cells slots Q (F0 m (pc + 1) ls0 rest)) : W p l e R s m args below meth c H locs cells slots Q (F0 m pc ls0 (.int (nI v) :: .int (nI j) :: .ref (a 13) :: rest)) := by
  have e1 : upd (nF me) (nI j).toNatClampNeg (vp_nar .boolean (nI v)) = nF (va_up me j v) := by rw [nI_clamp (Nat.lt_trans hj (by decide)), mo_bool v hv, nF_up]
  refine va_zast (D := D) S.1 S.2.1 X.1 X.2.1 X.2.2.1 X.2.2.2 9 8 rfl rfl (vp_in_nI hj (by decide)) hdg (fun H1 locs1 hP hD hS => ?_)
  rw [e1] at hP hD
  exact kk H1 locs1 ⟨X.1, hP, hD, hS⟩
theorem gP_sn (S : CallFix p m c cc nL s args lw_all RX1) (X : wX D (tyP kc) A s H locs (pmW a kc w tk n sc ot ow oc fc ct jd ta vl vb me sn sv sm ss)) (hdg : decode cc pc = .ok (.getfield 39, 3)) (kk : W p l e R s m args below meth c H locs cells slots Q (F0 m (pc + 3) ls0 (.ref (a 14) :: rest))) : W p l e R s m args below meth c H locs cells slots Q (F0 m pc ls0 (.ref (a 0) :: rest)) := va_get (D := D) (ci := 0) (v := .ref (a 14)) (C := RX1) (T := TX1) (N := 18) S.1 S.2.1 S.2.2.2.2 in_X1 S.2.2.2.1 X.1 X.2.1 0 rfl rfl 14 (by decide) (S.2.2.2.2 _ q37) (fun _ h9 => h9) rfl hdg kk
theorem lP_sn {j : Nat} (S : CallFix p m c cc nL s args lw_all RX1) (X : wX D (tyP kc) A s H locs (pmW a kc w tk n sc ot ow oc fc ct jd ta vl vb me sn sv sm ss)) (hj : j < 14) (hdg : decode cc pc = .ok (.saload, 1)) (kk : W p l e R s m args below meth c H locs cells slots Q (F0 m (pc + 1) ls0 (.int (nI (sn j) - 1) :: rest))) : W p l e R s m args below meth c H locs cells slots Q (F0 m pc ls0 (.int (nI j) :: .ref (a 14) :: rest)) := va_sald (D := D) S.1 S.2.1 X.1 X.2.1 10 9 rfl rfl (vp_in_nI hj (by decide)) hdg (by rw [nI_clamp (Nat.lt_trans hj (by decide))]; exact kk)
theorem sP_sn {j : Nat} {v : Nat} (hv : v < 256) (S : CallFix p m c cc nL s args lw_all RX1) (X : wX D (tyP kc) A s H locs (pmW a kc w tk n sc ot ow oc fc ct jd ta vl vb me sn sv sm ss)) (hj : j < 14) (hdg : decode cc pc = .ok (.sastore, 1)) (kk : ∀ (H1 : Heap) (locs1 : List Loc), wX D (tyP kc) A s H1 locs1 (pmW a kc w tk n sc ot ow oc fc ct jd ta vl vb me (va_up sn j v) sv sm ss) → W p l e R s m args below meth c H1 locs1 cells slots Q (F0 m (pc + 1) ls0 rest)) : W p l e R s m args below meth c H locs cells slots Q (F0 m pc ls0 (.int (nI v - 1) :: .int (nI j) :: .ref (a 14) :: rest)) := by
  have e1 : upd (lF sn) (nI j).toNatClampNeg (vp_nar .short (nI v - 1)) = lF (va_up sn j v) := by rw [nI_clamp (Nat.lt_trans hj (by decide)), vp_nar_short, mo_shortm v hv, lF_up]
  refine va_sast (D := D) S.1 S.2.1 X.1 X.2.1 X.2.2.1 X.2.2.2 10 9 rfl rfl (vp_in_nI hj (by decide)) hdg (fun H1 locs1 hP hD hS => ?_)
  rw [e1] at hP hD
  exact kk H1 locs1 ⟨X.1, hP, hD, hS⟩
theorem gP_sv (S : CallFix p m c cc nL s args lw_all RX1) (X : wX D (tyP kc) A s H locs (pmW a kc w tk n sc ot ow oc fc ct jd ta vl vb me sn sv sm ss)) (hdg : decode cc pc = .ok (.getfield 43, 3)) (kk : W p l e R s m args below meth c H locs cells slots Q (F0 m (pc + 3) ls0 (.ref (a 15) :: rest))) : W p l e R s m args below meth c H locs cells slots Q (F0 m pc ls0 (.ref (a 0) :: rest)) := va_get (D := D) (ci := 0) (v := .ref (a 15)) (C := RX1) (T := TX1) (N := 18) S.1 S.2.1 S.2.2.2.2 in_X1 S.2.2.2.1 X.1 X.2.1 0 rfl rfl 15 (by decide) (S.2.2.2.2 _ q38) (fun _ h9 => h9) rfl hdg kk
theorem lP_sv {j : Nat} (S : CallFix p m c cc nL s args lw_all RX1) (X : wX D (tyP kc) A s H locs (pmW a kc w tk n sc ot ow oc fc ct jd ta vl vb me sn sv sm ss)) (hj : j < 14) (hdg : decode cc pc = .ok (.baload, 1)) (kk : W p l e R s m args below meth c H locs cells slots Q (F0 m (pc + 1) ls0 (.int (nI (sv j)) :: rest))) : W p l e R s m args below meth c H locs cells slots Q (F0 m pc ls0 (.int (nI j) :: .ref (a 15) :: rest)) := va_zald (D := D) S.1 S.2.1 X.1 X.2.1 11 10 rfl rfl (vp_in_nI hj (by decide)) hdg (by rw [nI_clamp (Nat.lt_trans hj (by decide))]; exact kk)
theorem sP_sv {j : Nat} {v : Nat} (hv : v < 2) (S : CallFix p m c cc nL s args lw_all RX1) (X : wX D (tyP kc) A s H locs (pmW a kc w tk n sc ot ow oc fc ct jd ta vl vb me sn sv sm ss)) (hj : j < 14) (hdg : decode cc pc = .ok (.bastore, 1)) (kk : ∀ (H1 : Heap) (locs1 : List Loc), wX D (tyP kc) A s H1 locs1 (pmW a kc w tk n sc ot ow oc fc ct jd ta vl vb me sn (va_up sv j v) sm ss) → W p l e R s m args below meth c H1 locs1 cells slots Q (F0 m (pc + 1) ls0 rest)) : W p l e R s m args below meth c H locs cells slots Q (F0 m pc ls0 (.int (nI v) :: .int (nI j) :: .ref (a 15) :: rest)) := by
  have e1 : upd (nF sv) (nI j).toNatClampNeg (vp_nar .boolean (nI v)) = nF (va_up sv j v) := by rw [nI_clamp (Nat.lt_trans hj (by decide)), mo_bool v hv, nF_up]
  refine va_zast (D := D) S.1 S.2.1 X.1 X.2.1 X.2.2.1 X.2.2.2 11 10 rfl rfl (vp_in_nI hj (by decide)) hdg (fun H1 locs1 hP hD hS => ?_)
  rw [e1] at hP hD
  exact kk H1 locs1 ⟨X.1, hP, hD, hS⟩
theorem gP_sm (S : CallFix p m c cc nL s args lw_all RX1) (X : wX D (tyP kc) A s H locs (pmW a kc w tk n sc ot ow oc fc ct jd ta vl vb me sn sv sm ss)) (hdg : decode cc pc = .ok (.getfield 46, 3)) (kk : W p l e R s m args below meth c H locs cells slots Q (F0 m (pc + 3) ls0 (.ref (a 16) :: rest))) : W p l e R s m args below meth c H locs cells slots Q (F0 m pc ls0 (.ref (a 0) :: rest)) := va_get (D := D) (ci := 0) (v := .ref (a 16)) (C := RX1) (T := TX1) (N := 18) S.1 S.2.1 S.2.2.2.2 in_X1 S.2.2.2.1 X.1 X.2.1 0 rfl rfl 16 (by decide) (S.2.2.2.2 _ q39) (fun _ h9 => h9) rfl hdg kk
theorem lP_sm {j : Nat} (S : CallFix p m c cc nL s args lw_all RX1) (X : wX D (tyP kc) A s H locs (pmW a kc w tk n sc ot ow oc fc ct jd ta vl vb me sn sv sm ss)) (hj : j < 14) (hdg : decode cc pc = .ok (.baload, 1)) (kk : W p l e R s m args below meth c H locs cells slots Q (F0 m (pc + 1) ls0 (.int (nI (sm j)) :: rest))) : W p l e R s m args below meth c H locs cells slots Q (F0 m pc ls0 (.int (nI j) :: .ref (a 16) :: rest)) := va_zald (D := D) S.1 S.2.1 X.1 X.2.1 12 11 rfl rfl (vp_in_nI hj (by decide)) hdg (by rw [nI_clamp (Nat.lt_trans hj (by decide))]; exact kk)
theorem sP_sm {j : Nat} {v : Nat} (hv : v < 2) (S : CallFix p m c cc nL s args lw_all RX1) (X : wX D (tyP kc) A s H locs (pmW a kc w tk n sc ot ow oc fc ct jd ta vl vb me sn sv sm ss)) (hj : j < 14) (hdg : decode cc pc = .ok (.bastore, 1)) (kk : ∀ (H1 : Heap) (locs1 : List Loc), wX D (tyP kc) A s H1 locs1 (pmW a kc w tk n sc ot ow oc fc ct jd ta vl vb me sn sv (va_up sm j v) ss) → W p l e R s m args below meth c H1 locs1 cells slots Q (F0 m (pc + 1) ls0 rest)) : W p l e R s m args below meth c H locs cells slots Q (F0 m pc ls0 (.int (nI v) :: .int (nI j) :: .ref (a 16) :: rest)) := by
  have e1 : upd (nF sm) (nI j).toNatClampNeg (vp_nar .boolean (nI v)) = nF (va_up sm j v) := by rw [nI_clamp (Nat.lt_trans hj (by decide)), mo_bool v hv, nF_up]
  refine va_zast (D := D) S.1 S.2.1 X.1 X.2.1 X.2.2.1 X.2.2.2 12 11 rfl rfl (vp_in_nI hj (by decide)) hdg (fun H1 locs1 hP hD hS => ?_)
  rw [e1] at hP hD
  exact kk H1 locs1 ⟨X.1, hP, hD, hS⟩
theorem gP_ss (S : CallFix p m c cc nL s args lw_all RX1) (X : wX D (tyP kc) A s H locs (pmW a kc w tk n sc ot ow oc fc ct jd ta vl vb me sn sv sm ss)) (hdg : decode cc pc = .ok (.getfield 49, 3)) (kk : W p l e R s m args below meth c H locs cells slots Q (F0 m (pc + 3) ls0 (.ref (a 17) :: rest))) : W p l e R s m args below meth c H locs cells slots Q (F0 m pc ls0 (.ref (a 0) :: rest)) := va_get (D := D) (ci := 0) (v := .ref (a 17)) (C := RX1) (T := TX1) (N := 18) S.1 S.2.1 S.2.2.2.2 in_X1 S.2.2.2.1 X.1 X.2.1 0 rfl rfl 17 (by decide) (S.2.2.2.2 _ q40) (fun _ h9 => h9) rfl hdg kk
theorem lP_ss {j : Nat} (S : CallFix p m c cc nL s args lw_all RX1) (X : wX D (tyP kc) A s H locs (pmW a kc w tk n sc ot ow oc fc ct jd ta vl vb me sn sv sm ss)) (hj : j < 14) (hdg : decode cc pc = .ok (.saload, 1)) (kk : W p l e R s m args below meth c H locs cells slots Q (F0 m (pc + 1) ls0 (.int (nI (ss j) - 1) :: rest))) : W p l e R s m args below meth c H locs cells slots Q (F0 m pc ls0 (.int (nI j) :: .ref (a 17) :: rest)) := va_sald (D := D) S.1 S.2.1 X.1 X.2.1 13 12 rfl rfl (vp_in_nI hj (by decide)) hdg (by rw [nI_clamp (Nat.lt_trans hj (by decide))]; exact kk)
theorem sP_ss {j : Nat} {v : Nat} (hv : v < 256) (S : CallFix p m c cc nL s args lw_all RX1) (X : wX D (tyP kc) A s H locs (pmW a kc w tk n sc ot ow oc fc ct jd ta vl vb me sn sv sm ss)) (hj : j < 14) (hdg : decode cc pc = .ok (.sastore, 1)) (kk : ∀ (H1 : Heap) (locs1 : List Loc), wX D (tyP kc) A s H1 locs1 (pmW a kc w tk n sc ot ow oc fc ct jd ta vl vb me sn sv sm (va_up ss j v)) → W p l e R s m args below meth c H1 locs1 cells slots Q (F0 m (pc + 1) ls0 rest)) : W p l e R s m args below meth c H locs cells slots Q (F0 m pc ls0 (.int (nI v - 1) :: .int (nI j) :: .ref (a 17) :: rest)) := by
  have e1 : upd (lF ss) (nI j).toNatClampNeg (vp_nar .short (nI v - 1)) = lF (va_up ss j v) := by rw [nI_clamp (Nat.lt_trans hj (by decide)), vp_nar_short, mo_shortm v hv, lF_up]
  refine va_sast (D := D) S.1 S.2.1 X.1 X.2.1 X.2.2.1 X.2.2.2 13 12 rfl rfl (vp_in_nI hj (by decide)) hdg (fun H1 locs1 hP hD hS => ?_)
  rw [e1] at hP hD
  exact kk H1 locs1 ⟨X.1, hP, hD, hS⟩
end RWP
end
section
set_option maxRecDepth 100000
def tyM (kc : Nat → ClassId) : List (ClassId × FieldType) := [(kc 2, .int), (kc 4, .int), (kc 5, .boolean), (kc 6, .int)]
def mdW (a : Nat → Nat) (kc : Nat → ClassId) (w : Nat) (n : Nat) (tk : Nat → Nat) (ct : Nat) (fc : Nat → Nat) (hd : Nat → Nat) (st : Nat → Nat) : va_W := [(a 0, .inr (1, [.int (nI w), .int (nI n), .ref (a 2), .int (nI ct), .ref (a 4), .ref (a 5), .ref (a 6)])), (a 2, .inl (kc 2, 14, .inl (nF tk))), (a 4, .inl (kc 4, 201, .inl (nF fc))), (a 5, .inl (kc 5, 2814, .inl (nF hd))), (a 6, .inl (kc 6, 15, .inl (nF st)))]
section RWM
variable {p : Program} {l : Launch} {e : Env} {R : Room} {s : State} {m : MethodId} {args : Array Value} {below : List Frame} {meth : Method} {c : Code} {H : Heap} {locs : List Loc} {cells slots : Nat} {Q : State → Prop} {cc : ByteArray} {pc nL : Nat} {ls0 : Array Slot} {rest : List Value} {D : va_G} {A : Nat → Prop} {a : Nat → Nat} {kc : Nat → ClassId} {w : Nat} {n : Nat} {tk : Nat → Nat} {ct : Nat} {fc : Nat → Nat} {hd : Nat → Nat} {st : Nat → Nat}
theorem gM_w (S : CallFix p m c cc nL s args lw_all RX2) (X : wX D (tyM kc) A s H locs (mdW a kc w n tk ct fc hd st)) (hdg : decode cc pc = .ok (.getfield 23, 3)) (kk : W p l e R s m args below meth c H locs cells slots Q (F0 m (pc + 3) ls0 (.int (nI w) :: rest))) : W p l e R s m args below meth c H locs cells slots Q (F0 m pc ls0 (.ref (a 0) :: rest)) := va_get (D := D) (ci := 1) (v := .int (nI w)) (C := RX2) (T := TX2) (N := 7) S.1 S.2.1 S.2.2.2.2 in_X2 S.2.2.2.1 X.1 X.2.1 0 rfl rfl 0 (by decide) (S.2.2.2.2 _ q190) (fun _ h9 => h9) rfl hdg kk
theorem pM_w {v : Nat} (S : CallFix p m c cc nL s args lw_all RX2) (X : wX D (tyM kc) A s H locs (mdW a kc w n tk ct fc hd st)) (hdg : decode cc pc = .ok (.putfield 23, 3)) (kk : ∀ (H1 : Heap) (locs1 : List Loc), wX D (tyM kc) A s H1 locs1 (mdW a kc v n tk ct fc hd st) → W p l e R s m args below meth c H1 locs1 cells slots Q (F0 m (pc + 3) ls0 rest)) : W p l e R s m args below meth c H locs cells slots Q (F0 m pc ls0 (.int (nI v) :: .ref (a 0) :: rest)) := va_put (D := D) (ci := 1) (v := .int (nI v)) (ty := .int) (C := RX2) (T := TX2) (N := 7) S.1 S.2.1 S.2.2.2.2 in_X2 tyX2 tyX2_ok nmX2 S.2.2.2.1 X.1 X.2.1 X.2.2.1 X.2.2.2 0 rfl rfl 0 (by decide) (S.2.2.2.2 _ q190) (fun _ h9 => h9) rfl (by decide +kernel) rfl rfl (Nat.le_of_ble_eq_true rfl) hdg (fun H1 locs1 hP hD hS => kk H1 locs1 ⟨X.1, hP, hD, hS⟩)
theorem gM_n (S : CallFix p m c cc nL s args lw_all RX2) (X : wX D (tyM kc) A s H locs (mdW a kc w n tk ct fc hd st)) (hdg : decode cc pc = .ok (.getfield 31, 3)) (kk : W p l e R s m args below meth c H locs cells slots Q (F0 m (pc + 3) ls0 (.int (nI n) :: rest))) : W p l e R s m args below meth c H locs cells slots Q (F0 m pc ls0 (.ref (a 0) :: rest)) := va_get (D := D) (ci := 1) (v := .int (nI n)) (C := RX2) (T := TX2) (N := 7) S.1 S.2.1 S.2.2.2.2 in_X2 S.2.2.2.1 X.1 X.2.1 0 rfl rfl 1 (by decide) (S.2.2.2.2 _ q191) (fun _ h9 => h9) rfl hdg kk
theorem pM_n {v : Nat} (S : CallFix p m c cc nL s args lw_all RX2) (X : wX D (tyM kc) A s H locs (mdW a kc w n tk ct fc hd st)) (hdg : decode cc pc = .ok (.putfield 31, 3)) (kk : ∀ (H1 : Heap) (locs1 : List Loc), wX D (tyM kc) A s H1 locs1 (mdW a kc w v tk ct fc hd st) → W p l e R s m args below meth c H1 locs1 cells slots Q (F0 m (pc + 3) ls0 rest)) : W p l e R s m args below meth c H locs cells slots Q (F0 m pc ls0 (.int (nI v) :: .ref (a 0) :: rest)) := va_put (D := D) (ci := 1) (v := .int (nI v)) (ty := .int) (C := RX2) (T := TX2) (N := 7) S.1 S.2.1 S.2.2.2.2 in_X2 tyX2 tyX2_ok nmX2 S.2.2.2.1 X.1 X.2.1 X.2.2.1 X.2.2.2 0 rfl rfl 1 (by decide) (S.2.2.2.2 _ q191) (fun _ h9 => h9) rfl (by decide +kernel) rfl rfl (Nat.le_of_ble_eq_true rfl) hdg (fun H1 locs1 hP hD hS => kk H1 locs1 ⟨X.1, hP, hD, hS⟩)
theorem gM_tk (S : CallFix p m c cc nL s args lw_all RX2) (X : wX D (tyM kc) A s H locs (mdW a kc w n tk ct fc hd st)) (hdg : decode cc pc = .ok (.getfield 7, 3)) (kk : W p l e R s m args below meth c H locs cells slots Q (F0 m (pc + 3) ls0 (.ref (a 2) :: rest))) : W p l e R s m args below meth c H locs cells slots Q (F0 m pc ls0 (.ref (a 0) :: rest)) := va_get (D := D) (ci := 1) (v := .ref (a 2)) (C := RX2) (T := TX2) (N := 7) S.1 S.2.1 S.2.2.2.2 in_X2 S.2.2.2.1 X.1 X.2.1 0 rfl rfl 2 (by decide) (S.2.2.2.2 _ q192) (fun _ h9 => h9) rfl hdg kk
theorem lM_tk {j : Nat} (S : CallFix p m c cc nL s args lw_all RX2) (X : wX D (tyM kc) A s H locs (mdW a kc w n tk ct fc hd st)) (hj : j < 14) (hdg : decode cc pc = .ok (.iaload, 1)) (kk : W p l e R s m args below meth c H locs cells slots Q (F0 m (pc + 1) ls0 (.int (nI (tk j)) :: rest))) : W p l e R s m args below meth c H locs cells slots Q (F0 m pc ls0 (.int (nI j) :: .ref (a 2) :: rest)) := va_iald (D := D) S.1 S.2.1 X.1 X.2.1 1 0 rfl rfl (vp_in_nI hj (by decide)) hdg (by rw [nI_clamp (Nat.lt_trans hj (by decide))]; exact kk)
theorem sM_tk {j : Nat} {v : Nat} (S : CallFix p m c cc nL s args lw_all RX2) (X : wX D (tyM kc) A s H locs (mdW a kc w n tk ct fc hd st)) (hj : j < 14) (hdg : decode cc pc = .ok (.iastore, 1)) (kk : ∀ (H1 : Heap) (locs1 : List Loc), wX D (tyM kc) A s H1 locs1 (mdW a kc w n (va_up tk j v) ct fc hd st) → W p l e R s m args below meth c H1 locs1 cells slots Q (F0 m (pc + 1) ls0 rest)) : W p l e R s m args below meth c H locs cells slots Q (F0 m pc ls0 (.int (nI v) :: .int (nI j) :: .ref (a 2) :: rest)) := by
  have e1 : upd (nF tk) (nI j).toNatClampNeg (nI v) = nF (va_up tk j v) := by rw [nI_clamp (Nat.lt_trans hj (by decide)), nF_up]
  refine va_iast (D := D) S.1 S.2.1 X.1 X.2.1 X.2.2.1 X.2.2.2 1 0 rfl rfl (vp_in_nI hj (by decide)) hdg (fun H1 locs1 hP hD hS => ?_)
  rw [e1] at hP hD
  exact kk H1 locs1 ⟨X.1, hP, hD, hS⟩
theorem gM_ct (S : CallFix p m c cc nL s args lw_all RX2) (X : wX D (tyM kc) A s H locs (mdW a kc w n tk ct fc hd st)) (hdg : decode cc pc = .ok (.getfield 34, 3)) (kk : W p l e R s m args below meth c H locs cells slots Q (F0 m (pc + 3) ls0 (.int (nI ct) :: rest))) : W p l e R s m args below meth c H locs cells slots Q (F0 m pc ls0 (.ref (a 0) :: rest)) := va_get (D := D) (ci := 1) (v := .int (nI ct)) (C := RX2) (T := TX2) (N := 7) S.1 S.2.1 S.2.2.2.2 in_X2 S.2.2.2.1 X.1 X.2.1 0 rfl rfl 3 (by decide) (S.2.2.2.2 _ q193) (fun _ h9 => h9) rfl hdg kk
theorem pM_ct {v : Nat} (S : CallFix p m c cc nL s args lw_all RX2) (X : wX D (tyM kc) A s H locs (mdW a kc w n tk ct fc hd st)) (hdg : decode cc pc = .ok (.putfield 34, 3)) (kk : ∀ (H1 : Heap) (locs1 : List Loc), wX D (tyM kc) A s H1 locs1 (mdW a kc w n tk v fc hd st) → W p l e R s m args below meth c H1 locs1 cells slots Q (F0 m (pc + 3) ls0 rest)) : W p l e R s m args below meth c H locs cells slots Q (F0 m pc ls0 (.int (nI v) :: .ref (a 0) :: rest)) := va_put (D := D) (ci := 1) (v := .int (nI v)) (ty := .int) (C := RX2) (T := TX2) (N := 7) S.1 S.2.1 S.2.2.2.2 in_X2 tyX2 tyX2_ok nmX2 S.2.2.2.1 X.1 X.2.1 X.2.2.1 X.2.2.2 0 rfl rfl 3 (by decide) (S.2.2.2.2 _ q193) (fun _ h9 => h9) rfl (by decide +kernel) rfl rfl (Nat.le_of_ble_eq_true rfl) hdg (fun H1 locs1 hP hD hS => kk H1 locs1 ⟨X.1, hP, hD, hS⟩)
theorem gM_fc (S : CallFix p m c cc nL s args lw_all RX2) (X : wX D (tyM kc) A s H locs (mdW a kc w n tk ct fc hd st)) (hdg : decode cc pc = .ok (.getfield 13, 3)) (kk : W p l e R s m args below meth c H locs cells slots Q (F0 m (pc + 3) ls0 (.ref (a 4) :: rest))) : W p l e R s m args below meth c H locs cells slots Q (F0 m pc ls0 (.ref (a 0) :: rest)) := va_get (D := D) (ci := 1) (v := .ref (a 4)) (C := RX2) (T := TX2) (N := 7) S.1 S.2.1 S.2.2.2.2 in_X2 S.2.2.2.1 X.1 X.2.1 0 rfl rfl 4 (by decide) (S.2.2.2.2 _ q194) (fun _ h9 => h9) rfl hdg kk
theorem lM_fc {j : Nat} (S : CallFix p m c cc nL s args lw_all RX2) (X : wX D (tyM kc) A s H locs (mdW a kc w n tk ct fc hd st)) (hj : j < 201) (hdg : decode cc pc = .ok (.iaload, 1)) (kk : W p l e R s m args below meth c H locs cells slots Q (F0 m (pc + 1) ls0 (.int (nI (fc j)) :: rest))) : W p l e R s m args below meth c H locs cells slots Q (F0 m pc ls0 (.int (nI j) :: .ref (a 4) :: rest)) := va_iald (D := D) S.1 S.2.1 X.1 X.2.1 2 1 rfl rfl (vp_in_nI hj (by decide)) hdg (by rw [nI_clamp (Nat.lt_trans hj (by decide))]; exact kk)
theorem sM_fc {j : Nat} {v : Nat} (S : CallFix p m c cc nL s args lw_all RX2) (X : wX D (tyM kc) A s H locs (mdW a kc w n tk ct fc hd st)) (hj : j < 201) (hdg : decode cc pc = .ok (.iastore, 1)) (kk : ∀ (H1 : Heap) (locs1 : List Loc), wX D (tyM kc) A s H1 locs1 (mdW a kc w n tk ct (va_up fc j v) hd st) → W p l e R s m args below meth c H1 locs1 cells slots Q (F0 m (pc + 1) ls0 rest)) : W p l e R s m args below meth c H locs cells slots Q (F0 m pc ls0 (.int (nI v) :: .int (nI j) :: .ref (a 4) :: rest)) := by
  have e1 : upd (nF fc) (nI j).toNatClampNeg (nI v) = nF (va_up fc j v) := by rw [nI_clamp (Nat.lt_trans hj (by decide)), nF_up]
  refine va_iast (D := D) S.1 S.2.1 X.1 X.2.1 X.2.2.1 X.2.2.2 2 1 rfl rfl (vp_in_nI hj (by decide)) hdg (fun H1 locs1 hP hD hS => ?_)
  rw [e1] at hP hD
  exact kk H1 locs1 ⟨X.1, hP, hD, hS⟩
theorem gM_hd (S : CallFix p m c cc nL s args lw_all RX2) (X : wX D (tyM kc) A s H locs (mdW a kc w n tk ct fc hd st)) (hdg : decode cc pc = .ok (.getfield 16, 3)) (kk : W p l e R s m args below meth c H locs cells slots Q (F0 m (pc + 3) ls0 (.ref (a 5) :: rest))) : W p l e R s m args below meth c H locs cells slots Q (F0 m pc ls0 (.ref (a 0) :: rest)) := va_get (D := D) (ci := 1) (v := .ref (a 5)) (C := RX2) (T := TX2) (N := 7) S.1 S.2.1 S.2.2.2.2 in_X2 S.2.2.2.1 X.1 X.2.1 0 rfl rfl 5 (by decide) (S.2.2.2.2 _ q195) (fun _ h9 => h9) rfl hdg kk
theorem lM_hd {j : Nat} (S : CallFix p m c cc nL s args lw_all RX2) (X : wX D (tyM kc) A s H locs (mdW a kc w n tk ct fc hd st)) (hj : j < 2814) (hdg : decode cc pc = .ok (.baload, 1)) (kk : W p l e R s m args below meth c H locs cells slots Q (F0 m (pc + 1) ls0 (.int (nI (hd j)) :: rest))) : W p l e R s m args below meth c H locs cells slots Q (F0 m pc ls0 (.int (nI j) :: .ref (a 5) :: rest)) := va_zald (D := D) S.1 S.2.1 X.1 X.2.1 3 2 rfl rfl (vp_in_nI hj (by decide)) hdg (by rw [nI_clamp (Nat.lt_trans hj (by decide))]; exact kk)
theorem sM_hd {j : Nat} {v : Nat} (hv : v < 2) (S : CallFix p m c cc nL s args lw_all RX2) (X : wX D (tyM kc) A s H locs (mdW a kc w n tk ct fc hd st)) (hj : j < 2814) (hdg : decode cc pc = .ok (.bastore, 1)) (kk : ∀ (H1 : Heap) (locs1 : List Loc), wX D (tyM kc) A s H1 locs1 (mdW a kc w n tk ct fc (va_up hd j v) st) → W p l e R s m args below meth c H1 locs1 cells slots Q (F0 m (pc + 1) ls0 rest)) : W p l e R s m args below meth c H locs cells slots Q (F0 m pc ls0 (.int (nI v) :: .int (nI j) :: .ref (a 5) :: rest)) := by
  have e1 : upd (nF hd) (nI j).toNatClampNeg (vp_nar .boolean (nI v)) = nF (va_up hd j v) := by rw [nI_clamp (Nat.lt_trans hj (by decide)), mo_bool v hv, nF_up]
  refine va_zast (D := D) S.1 S.2.1 X.1 X.2.1 X.2.2.1 X.2.2.2 3 2 rfl rfl (vp_in_nI hj (by decide)) hdg (fun H1 locs1 hP hD hS => ?_)
  rw [e1] at hP hD
  exact kk H1 locs1 ⟨X.1, hP, hD, hS⟩
theorem gM_st (S : CallFix p m c cc nL s args lw_all RX2) (X : wX D (tyM kc) A s H locs (mdW a kc w n tk ct fc hd st)) (hdg : decode cc pc = .ok (.getfield 20, 3)) (kk : W p l e R s m args below meth c H locs cells slots Q (F0 m (pc + 3) ls0 (.ref (a 6) :: rest))) : W p l e R s m args below meth c H locs cells slots Q (F0 m pc ls0 (.ref (a 0) :: rest)) := va_get (D := D) (ci := 1) (v := .ref (a 6)) (C := RX2) (T := TX2) (N := 7) S.1 S.2.1 S.2.2.2.2 in_X2 S.2.2.2.1 X.1 X.2.1 0 rfl rfl 6 (by decide) (S.2.2.2.2 _ q196) (fun _ h9 => h9) rfl hdg kk
theorem lM_st {j : Nat} (S : CallFix p m c cc nL s args lw_all RX2) (X : wX D (tyM kc) A s H locs (mdW a kc w n tk ct fc hd st)) (hj : j < 15) (hdg : decode cc pc = .ok (.iaload, 1)) (kk : W p l e R s m args below meth c H locs cells slots Q (F0 m (pc + 1) ls0 (.int (nI (st j)) :: rest))) : W p l e R s m args below meth c H locs cells slots Q (F0 m pc ls0 (.int (nI j) :: .ref (a 6) :: rest)) := va_iald (D := D) S.1 S.2.1 X.1 X.2.1 4 3 rfl rfl (vp_in_nI hj (by decide)) hdg (by rw [nI_clamp (Nat.lt_trans hj (by decide))]; exact kk)
theorem sM_st {j : Nat} {v : Nat} (S : CallFix p m c cc nL s args lw_all RX2) (X : wX D (tyM kc) A s H locs (mdW a kc w n tk ct fc hd st)) (hj : j < 15) (hdg : decode cc pc = .ok (.iastore, 1)) (kk : ∀ (H1 : Heap) (locs1 : List Loc), wX D (tyM kc) A s H1 locs1 (mdW a kc w n tk ct fc hd (va_up st j v)) → W p l e R s m args below meth c H1 locs1 cells slots Q (F0 m (pc + 1) ls0 rest)) : W p l e R s m args below meth c H locs cells slots Q (F0 m pc ls0 (.int (nI v) :: .int (nI j) :: .ref (a 6) :: rest)) := by
  have e1 : upd (nF st) (nI j).toNatClampNeg (nI v) = nF (va_up st j v) := by rw [nI_clamp (Nat.lt_trans hj (by decide)), nF_up]
  refine va_iast (D := D) S.1 S.2.1 X.1 X.2.1 X.2.2.1 X.2.2.2 4 3 rfl rfl (vp_in_nI hj (by decide)) hdg (fun H1 locs1 hP hD hS => ?_)
  rw [e1] at hP hD
  exact kk H1 locs1 ⟨X.1, hP, hD, hS⟩
end RWM
end
section
/-! the plain law, first half: the shape of a formula -/
def fl_ar (t : Nat) : Nat := if t = 5 ∨ t = 6 ∨ t = 10 then 2 else if t < 4 then 0 else 1
theorem fl_ar_le (t : Nat) : fl_ar t ≤ 2 := by
  unfold fl_ar
  split
  · omega
  · split <;> omega
theorem fl_ar_2 {t : Nat} : fl_ar t = 2 ↔ (t = 5 ∨ t = 6 ∨ t = 10) := by
  unfold fl_ar
  split
  · rename_i h; exact ⟨fun _ => h, fun _ => rfl⟩
  · rename_i h
    split
    · exact ⟨fun q => absurd q (by omega), fun q => absurd q h⟩
    · exact ⟨fun q => absurd q (by omega), fun q => absurd q h⟩
theorem fl_ar_0 {t : Nat} : fl_ar t = 0 ↔ t < 4 := by
  unfold fl_ar
  split
  · rename_i h; exact ⟨fun q => absurd q (by omega), fun q => by omega⟩
  · split
    · rename_i h; exact ⟨fun _ => h, fun _ => rfl⟩
    · rename_i h; exact ⟨fun q => absurd q (by omega), fun q => absurd q h⟩
/-- how many parts are still owed behind k tokens -/
def fl_op (tk : Nat → Nat) : Nat → Nat
  | 0 => 1
  | k + 1 => fl_op tk k + fl_ar (tk k) - 1
theorem fl_op_s (tk : Nat → Nat) (k : Nat) : fl_op tk (k + 1) = fl_op tk k + fl_ar (tk k) - 1 := rfl
theorem fl_op_congr {tk tk' : Nat → Nat} : ∀ {n : Nat}, (∀ k, k < n → tk k = tk' k) → fl_op tk n = fl_op tk' n
  | 0, _ => rfl
  | n + 1, h => by
    rw [fl_op_s, fl_op_s, fl_op_congr (n := n) (fun k hk => h k (by omega)), h n (by omega)]
/-- no part of the formula before its end is complete -/
def fl_Ok (tk : Nat → Nat) (n : Nat) : Prop := ∀ j, j < n → 1 ≤ fl_op tk j
theorem fl_op_le (tk : Nat → Nat) : ∀ k, fl_op tk k ≤ k + 1
  | 0 => Nat.le_refl _
  | k + 1 => by
    have h := fl_op_le tk k
    have h2 := fl_ar_le (tk k)
    rw [fl_op_s]
    omega
/-- where the second part of token p begins -/
def fl_Sec (tk : Nat → Nat) (p k : Nat) : Prop := p + 1 < k ∧ fl_op tk k + 1 = fl_op tk (p + 1) ∧ ∀ j, p + 1 < j → j < k → fl_op tk (p + 1) ≤ fl_op tk j
theorem fl_Sec_uniq {tk : Nat → Nat} {p k k' : Nat} (h : fl_Sec tk p k) (h' : fl_Sec tk p k') : k = k' := by
  obtain ⟨a1, a2, a3⟩ := h
  obtain ⟨b1, b2, b3⟩ := h'
  rcases Nat.lt_trichotomy k k' with q | q | q
  · have := b3 k a1 q
    omega
  · exact q
  · have := a3 k' b1 q
    omega
theorem fl_kid1 {tk : Nat → Nat} {n p : Nat} (hok : fl_Ok tk n) (hc : fl_op tk n = 0) (hp : p < n) (ha : 1 ≤ fl_ar (tk p)) : p + 1 < n := by
  rcases Nat.lt_or_ge (p + 1) n with q | q
  · exact q
  · have e : n = p + 1 := by omega
    have h1 := hok p hp
    rw [e, fl_op_s] at hc
    omega
theorem fl_kid2 {tk : Nat → Nat} {n p k : Nat} (hok : fl_Ok tk n) (hc : fl_op tk n = 0) (hp : p < n) (ha : fl_ar (tk p) = 2) (h : fl_Sec tk p k) : k < n := by
  have h1 := fl_kid1 hok hc hp (by omega)
  have h2 := hok p hp
  obtain ⟨a1, a2, a3⟩ := h
  have e := fl_op_s tk p
  rcases Nat.lt_trichotomy n k with q | q | q
  · have := a3 n h1 q
    omega
  · subst q
    omega
  · exact q
def fl_sum (f : Nat → Nat) : Nat → Nat
  | 0 => 0
  | k + 1 => fl_sum f k + f k
theorem fl_sum_s (f : Nat → Nat) (k : Nat) : fl_sum f (k + 1) = fl_sum f k + f k := rfl
theorem fl_sum_up (f : Nat → Nat) (i v : Nat) : ∀ j, j ≤ i → fl_sum (va_up f i v) j = fl_sum f j
  | 0, _ => rfl
  | j + 1, h => by
    rw [fl_sum_s, fl_sum_s, fl_sum_up f i v j (by omega), va_up_ne f v (show j ≠ i by omega)]
theorem fl_sum_mono (f : Nat → Nat) : ∀ {i j : Nat}, i ≤ j → fl_sum f i ≤ fl_sum f j := by
  intro i j h
  induction j with
  | zero =>
    have : i = 0 := by omega
    rw [this]
    exact Nat.le_refl _
  | succ j ih =>
    rcases Nat.lt_or_ge i (j + 1) with q | q
    · have := ih (by omega)
      rw [fl_sum_s]
      omega
    · have : i = j + 1 := by omega
      rw [this]
      exact Nat.le_refl _
/-- the stack of tokens that still want parts, ahead of token k -/
def fq_Inv (tk : Nat → Nat) (k oc : Nat) (sc ot ow : Nat → Nat) : Prop :=
  oc ≤ k ∧ (0 < k → fl_sum ow oc = fl_op tk k) ∧
  (∀ i, i < oc → ot i < k ∧ 1 ≤ ow i ∧ ow i ≤ 2 ∧ 1 ≤ fl_ar (tk (ot i)) ∧ fl_op tk (ot i + 1) = fl_sum ow i + fl_ar (tk (ot i)) ∧ (ow i = 2 → i + 1 = oc ∧ k = ot i + 1) ∧ (ow i = 1 → fl_ar (tk (ot i)) = 2 → ot i + 1 < k ∧ ∀ j, ot i + 1 < j → j < k → fl_sum ow i + 2 ≤ fl_op tk j)) ∧
  (∀ p, p < k → fl_ar (tk p) = 2 → (∃ i, i < oc ∧ ot i = p) ∨ fl_Sec tk p (sc p))
/-- the same, with token k taken by the part that wanted it -/
def fq_Mid (tk : Nat → Nat) (k oc : Nat) (sc ot ow : Nat → Nat) : Prop :=
  oc ≤ k ∧ fl_sum ow oc + 1 = fl_op tk k ∧
  (∀ i, i < oc → ot i < k ∧ ow i = 1 ∧ 1 ≤ fl_ar (tk (ot i)) ∧ fl_op tk (ot i + 1) = fl_sum ow i + fl_ar (tk (ot i)) ∧ (fl_ar (tk (ot i)) = 2 → ∀ j, ot i + 1 < j → j < k + 1 → fl_sum ow i + 2 ≤ fl_op tk j)) ∧
  (∀ p, p < k → fl_ar (tk p) = 2 → (∃ i, i < oc ∧ ot i = p) ∨ fl_Sec tk p (sc p))
theorem fq_start (tk sc ot ow : Nat → Nat) : fq_Inv tk 0 0 sc ot ow :=
  ⟨Nat.le_refl _, fun h => absurd h (by omega), fun i h => absurd h (by omega), fun p h => absurd h (by omega)⟩
theorem fq_none {tk sc ot ow : Nat → Nat} : fq_Mid tk 0 0 sc ot ow :=
  ⟨Nat.le_refl _, rfl, fun i h => absurd h (by omega), fun p h => absurd h (by omega)⟩
theorem fq_some {tk sc ot ow : Nat → Nat} {k oc : Nat} (h : fq_Inv tk k oc sc ot ow) (hk : 0 < k) (h1 : 1 ≤ fl_op tk k) : 0 < oc := by
  rcases Nat.lt_or_ge 0 oc with q | q
  · exact q
  · have e : oc = 0 := by omega
    have := h.2.1 hk
    rw [e] at this
    unfold fl_sum at this
    omega
theorem fq_attach {tk sc ot ow : Nat → Nat} {k q : Nat} (h : fq_Inv tk k (q + 1) sc ot ow) : fq_Mid tk k (if ow q = 1 then q else q + 1) (if k = ot q + 1 then sc else va_up sc (ot q) k) ot (va_up ow q (ow q - 1)) := by
  obtain ⟨h1, h2, h3, h4⟩ := h
  have hk : 0 < k := by omega
  have hs := h2 hk
  rw [fl_sum_s] at hs
  obtain ⟨t1, t2, t3, t4, t5, t6, t7⟩ := h3 q (by omega)
  have low : ∀ i, i < q → ot i < k ∧ va_up ow q (ow q - 1) i = 1 ∧ 1 ≤ fl_ar (tk (ot i)) ∧ fl_op tk (ot i + 1) = fl_sum (va_up ow q (ow q - 1)) i + fl_ar (tk (ot i)) ∧ (fl_ar (tk (ot i)) = 2 → ∀ j, ot i + 1 < j → j < k + 1 → fl_sum (va_up ow q (ow q - 1)) i + 2 ≤ fl_op tk j) := by
    intro i hi
    obtain ⟨a1, a2, a3, a4, a5, a6, a7⟩ := h3 i (by omega)
    have e1 : ow i = 1 := by
      rcases Nat.lt_or_ge (ow i) 2 with z | z
      · omega
      · have := a6 (by omega)
        omega
    rw [fl_sum_up ow q (ow q - 1) i (by omega), va_up_ne ow _ (show i ≠ q by omega)]
    refine ⟨a1, e1, a4, a5, fun e2 j j1 j2 => ?_⟩
    rcases Nat.lt_or_ge j k with z | z
    · exact (a7 e1 e2).2 j j1 z
    · have ej : j = k := by omega
      subst ej
      have m1 := fl_sum_mono ow (show i + 1 ≤ q by omega)
      rw [fl_sum_s] at m1
      omega
  rcases Nat.lt_or_ge (ow q) 2 with z | z
  · have e1 : ow q = 1 := by omega
    rw [if_pos e1]
    refine ⟨by omega, ?_, low, fun p hp hp2 => ?_⟩
    · rw [fl_sum_up ow q _ q (Nat.le_refl _)]
      omega
    · by_cases hpq : p = ot q
      · right
        subst hpq
        obtain ⟨b1, b2⟩ := t7 e1 hp2
        rw [if_neg (by omega), va_up_self]
        refine ⟨b1, by omega, fun j j1 j2 => ?_⟩
        have := b2 j j1 j2
        omega
      · rcases h4 p hp hp2 with ⟨i, i1, i2⟩ | g
        · left
          refine ⟨i, ?_, i2⟩
          rcases Nat.lt_or_ge i q with y | y
          · exact y
          · have : i = q := by omega
            rw [this] at i2
            exact absurd i2.symm hpq
        · right
          split
          · exact g
          · rw [va_up_ne sc _ hpq]
            exact g
  · have e1 : ow q = 2 := by omega
    obtain ⟨-, ek⟩ := t6 e1
    rw [if_neg (by omega), if_pos ek]
    refine ⟨h1, ?_, fun i hi => ?_, h4⟩
    · rw [fl_sum_s, fl_sum_up ow q _ q (Nat.le_refl _), va_up_self]
      omega
    · rcases Nat.lt_or_ge i q with y | y
      · exact low i y
      · have : i = q := by omega
        subst this
        rw [fl_sum_up ow i _ i (Nat.le_refl _), va_up_self]
        exact ⟨t1, by omega, t4, t5, fun _ j j1 j2 => absurd j1 (by omega)⟩
theorem fq_push {tk sc ot ow : Nat → Nat} {k oc : Nat} (h : fq_Mid tk k oc sc ot ow) (h0 : 1 ≤ fl_ar (tk k)) : fq_Inv tk (k + 1) (oc + 1) sc (va_up ot oc k) (va_up ow oc (fl_ar (tk k))) := by
  obtain ⟨h1, h2, h3, h4⟩ := h
  have ha := fl_ar_le (tk k)
  refine ⟨by omega, fun _ => ?_, fun i hi => ?_, fun p hp hp2 => ?_⟩
  · rw [fl_sum_s, fl_sum_up ow oc _ oc (Nat.le_refl _), va_up_self, fl_op_s]
    omega
  · rcases Nat.lt_or_ge i oc with y | y
    · obtain ⟨a1, a2, a3, a4, a5⟩ := h3 i y
      rw [fl_sum_up ow oc _ i (by omega), va_up_ne ow _ (show i ≠ oc by omega), va_up_ne ot _ (show i ≠ oc by omega)]
      exact ⟨by omega, by omega, by omega, a3, a4, fun z => absurd z (by omega), fun _ z => ⟨by omega, a5 z⟩⟩
    · have : i = oc := by omega
      subst this
      rw [fl_sum_up ow i _ i (Nat.le_refl _), va_up_self, va_up_self]
      refine ⟨by omega, h0, ha, h0, ?_, fun _ => ⟨rfl, rfl⟩, fun z1 z2 => absurd z1 (by omega)⟩
      rw [fl_op_s]
      omega
  · rcases Nat.lt_or_ge p k with y | y
    · rcases h4 p y hp2 with ⟨i, i1, i2⟩ | g
      · left
        exact ⟨i, by omega, by rw [va_up_ne ot _ (show i ≠ oc by omega)]; exact i2⟩
      · exact Or.inr g
    · left
      exact ⟨oc, by omega, by rw [va_up_self]; omega⟩
theorem fq_leaf {tk sc ot ow : Nat → Nat} {k oc : Nat} (h : fq_Mid tk k oc sc ot ow) (h0 : fl_ar (tk k) = 0) : fq_Inv tk (k + 1) oc sc ot ow := by
  obtain ⟨h1, h2, h3, h4⟩ := h
  refine ⟨by omega, fun _ => ?_, fun i hi => ?_, fun p hp hp2 => ?_⟩
  · rw [fl_op_s]
    omega
  · obtain ⟨a1, a2, a3, a4, a5⟩ := h3 i hi
    exact ⟨by omega, by omega, by omega, a3, a4, fun z => absurd z (by omega), fun _ z => ⟨by omega, a5 z⟩⟩
  · rcases Nat.lt_or_ge p k with y | y
    · exact h4 p y hp2
    · have : p = k := by omega
      subst this
      omega
theorem fq_end {tk sc ot ow : Nat → Nat} {n oc : Nat} (h : fq_Inv tk n oc sc ot ow) (hn : 0 < n) (ho : oc = 0) : fl_op tk n = 0 ∧ ∀ p, p < n → fl_ar (tk p) = 2 → fl_Sec tk p (sc p) := by
  obtain ⟨h1, h2, h3, h4⟩ := h
  subst ho
  refine ⟨(h2 hn).symm, fun p hp hp2 => ?_⟩
  rcases h4 p hp hp2 with ⟨i, i1, -⟩ | g
  · omega
  · exact g
theorem fq_not {tk sc ot ow : Nat → Nat} {n oc : Nat} (h : fq_Inv tk n oc sc ot ow) (ho : 0 < oc) : ¬ fl_op tk n = 0 := by
  obtain ⟨h1, h2, h3, h4⟩ := h
  obtain ⟨a1, a2, -⟩ := h3 0 ho
  have := h2 (by omega)
  have m1 := fl_sum_mono ow (show 1 ≤ oc by omega)
  have e : fl_sum ow 1 = 0 + ow 0 := rfl
  omega
end
section
/-! the plain law, second half: truth -/
def fl_Sem (op w : Nat) (fc : Nat → Nat) (g h : Nat → Prop) (t : Nat) : Prop :=
  if op < 4 then fc t / 2 ^ op % 2 = 1
  else if op = 4 then ¬ g t
  else if op = 5 then g t ∧ h t
  else if op = 6 then g t ∨ h t
  else if op = 7 then 0 < t ∧ g (t - 1)
  else if op = 8 then ∃ u, u ≤ t ∧ g u
  else if op = 9 then ∀ u, u ≤ t → g u
  else if op = 10 then ∃ s, s ≤ t ∧ h s ∧ ∀ u, s < u → u ≤ t → g u
  else if op = 11 then ∃ u, u ≤ t ∧ t ≤ u + w ∧ g u
  else ∀ u, u ≤ t → t ≤ u + w → g u
theorem fl_Sem_lt {op w : Nat} {fc : Nat → Nat} {g h : Nat → Prop} {t : Nat} (ho : op < 4) : fl_Sem op w fc g h t ↔ fc t / 2 ^ op % 2 = 1 := by unfold fl_Sem; rw [if_pos ho]
theorem fl_Sem_4 {w : Nat} {fc : Nat → Nat} {g h : Nat → Prop} {t : Nat} : fl_Sem 4 w fc g h t ↔ ¬ g t := Iff.rfl
theorem fl_Sem_5 {w : Nat} {fc : Nat → Nat} {g h : Nat → Prop} {t : Nat} : fl_Sem 5 w fc g h t ↔ g t ∧ h t := Iff.rfl
theorem fl_Sem_6 {w : Nat} {fc : Nat → Nat} {g h : Nat → Prop} {t : Nat} : fl_Sem 6 w fc g h t ↔ g t ∨ h t := Iff.rfl
theorem fl_Sem_7 {w : Nat} {fc : Nat → Nat} {g h : Nat → Prop} {t : Nat} : fl_Sem 7 w fc g h t ↔ 0 < t ∧ g (t - 1) := Iff.rfl
theorem fl_Sem_8 {w : Nat} {fc : Nat → Nat} {g h : Nat → Prop} {t : Nat} : fl_Sem 8 w fc g h t ↔ ∃ u, u ≤ t ∧ g u := Iff.rfl
theorem fl_Sem_9 {w : Nat} {fc : Nat → Nat} {g h : Nat → Prop} {t : Nat} : fl_Sem 9 w fc g h t ↔ ∀ u, u ≤ t → g u := Iff.rfl
theorem fl_Sem_10 {w : Nat} {fc : Nat → Nat} {g h : Nat → Prop} {t : Nat} : fl_Sem 10 w fc g h t ↔ ∃ s, s ≤ t ∧ h s ∧ ∀ u, s < u → u ≤ t → g u := Iff.rfl
theorem fl_Sem_11 {w : Nat} {fc : Nat → Nat} {g h : Nat → Prop} {t : Nat} : fl_Sem 11 w fc g h t ↔ ∃ u, u ≤ t ∧ t ≤ u + w ∧ g u := Iff.rfl
theorem fl_Sem_12 {w : Nat} {fc : Nat → Nat} {g h : Nat → Prop} {t : Nat} : fl_Sem 12 w fc g h t ↔ ∀ u, u ≤ t → t ≤ u + w → g u := Iff.rfl
/-- the cases of a token -/
theorem fl_cases {P : Nat → Prop} (op : Nat) (h : op ≤ 12) (h0 : op < 4 → P op) (h4 : P 4) (h5 : P 5) (h6 : P 6) (h7 : P 7) (h8 : P 8) (h9 : P 9) (h10 : P 10) (h11 : P 11) (h12 : P 12) : P op := by
  rcases Nat.lt_or_ge op 4 with q | q
  · exact h0 q
  · have : op = 4 ∨ op = 5 ∨ op = 6 ∨ op = 7 ∨ op = 8 ∨ op = 9 ∨ op = 10 ∨ op = 11 ∨ op = 12 := by omega
    rcases this with e | e | e | e | e | e | e | e | e <;> subst e <;> assumption
theorem fl_Sem_half {op w : Nat} {fc fc' : Nat → Nat} {g g' h h' : Nat → Prop} {t : Nat} (hop : op ≤ 12) (hf : ∀ u, u ≤ t → fc u = fc' u) (hg : 1 ≤ fl_ar op → ∀ u, u ≤ t → (g u ↔ g' u)) (hh : fl_ar op = 2 → ∀ u, u ≤ t → (h u ↔ h' u)) : fl_Sem op w fc g h t → fl_Sem op w fc' g' h' t := by
  revert hg hh
  refine fl_cases (P := fun op => (1 ≤ fl_ar op → ∀ u, u ≤ t → (g u ↔ g' u)) → (fl_ar op = 2 → ∀ u, u ≤ t → (h u ↔ h' u)) → fl_Sem op w fc g h t → fl_Sem op w fc' g' h' t) op hop ?_ ?_ ?_ ?_ ?_ ?_ ?_ ?_ ?_ ?_
  · intro ho hg hh q
    rw [fl_Sem_lt ho] at q ⊢
    rw [← hf t (Nat.le_refl _)]
    exact q
  · intro hg hh q
    have g0 := hg (by decide)
    exact fun z => q ((g0 t (Nat.le_refl _)).mpr z)
  · intro hg hh q
    have g0 := hg (by decide)
    have h0 := hh (by decide)
    exact ⟨(g0 t (Nat.le_refl _)).mp q.1, (h0 t (Nat.le_refl _)).mp q.2⟩
  · intro hg hh q
    have g0 := hg (by decide)
    have h0 := hh (by decide)
    rcases q with q | q
    · exact Or.inl ((g0 t (Nat.le_refl _)).mp q)
    · exact Or.inr ((h0 t (Nat.le_refl _)).mp q)
  · intro hg hh q
    have g0 := hg (by decide)
    exact ⟨q.1, (g0 (t - 1) (by omega)).mp q.2⟩
  · intro hg hh q
    have g0 := hg (by decide)
    obtain ⟨u, u1, u2⟩ := q
    exact ⟨u, u1, (g0 u u1).mp u2⟩
  · intro hg hh q
    have g0 := hg (by decide)
    exact fun u u1 => (g0 u u1).mp (q u u1)
  · intro hg hh q
    have g0 := hg (by decide)
    have h0 := hh (by decide)
    obtain ⟨s, s1, s2, s3⟩ := q
    exact ⟨s, s1, (h0 s s1).mp s2, fun u u1 u2 => (g0 u u2).mp (s3 u u1 u2)⟩
  · intro hg hh q
    have g0 := hg (by decide)
    obtain ⟨u, u1, u2, u3⟩ := q
    exact ⟨u, u1, u2, (g0 u u1).mp u3⟩
  · intro hg hh q
    have g0 := hg (by decide)
    exact fun u u1 u2 => (g0 u u1).mp (q u u1 u2)
theorem fl_Sem_congr {op w : Nat} {fc fc' : Nat → Nat} {g g' h h' : Nat → Prop} {t : Nat} (hop : op ≤ 12) (hf : ∀ u, u ≤ t → fc u = fc' u) (hg : 1 ≤ fl_ar op → ∀ u, u ≤ t → (g u ↔ g' u)) (hh : fl_ar op = 2 → ∀ u, u ≤ t → (h u ↔ h' u)) : fl_Sem op w fc g h t ↔ fl_Sem op w fc' g' h' t :=
  ⟨fl_Sem_half hop hf hg hh, fl_Sem_half hop (fun u hu => (hf u hu).symm) (fun a u hu => (hg a u hu).symm) (fun a u hu => (hh a u hu).symm)⟩
/-- M is the truth of every part at every event before m -/
def fl_Tru (tk : Nat → Nat) (fc : Nat → Nat) (w n : Nat) (M : Nat → Nat → Prop) (m : Nat) : Prop := ∀ k, k < n → ∀ t, t < m → ∀ h, (fl_ar (tk k) = 2 → fl_Sec tk k h) → (M k t ↔ fl_Sem (tk k) w fc (M (k + 1)) (M h) t)
/-- a complete formula, with where second parts begin -/
def fl_Full (tk : Nat → Nat) (n : Nat) (sc : Nat → Nat) : Prop := (∀ k, tk k ≤ 12) ∧ fl_Ok tk n ∧ fl_op tk n = 0 ∧ ∀ p, p < n → fl_ar (tk p) = 2 → fl_Sec tk p (sc p)
theorem fl_Full.pos {tk : Nat → Nat} {n : Nat} {sc : Nat → Nat} (F : fl_Full tk n sc) : 0 < n := by
  rcases Nat.lt_or_ge 0 n with q | q
  · exact q
  · have e : n = 0 := by omega
    have := F.2.2.1
    rw [e] at this
    exact absurd this (show ¬ (1 : Nat) = 0 by decide)
theorem fl_Full.k1 {tk : Nat → Nat} {n : Nat} {sc : Nat → Nat} (F : fl_Full tk n sc) {p : Nat} (hp : p < n) (ha : 1 ≤ fl_ar (tk p)) : p + 1 < n := fl_kid1 F.2.1 F.2.2.1 hp ha
theorem fl_Full.k2 {tk : Nat → Nat} {n : Nat} {sc : Nat → Nat} (F : fl_Full tk n sc) {p : Nat} (hp : p < n) (ha : fl_ar (tk p) = 2) : p < sc p ∧ sc p < n := ⟨by have := (F.2.2.2 p hp ha).1; omega, fl_kid2 F.2.1 F.2.2.1 hp ha (F.2.2.2 p hp ha)⟩
theorem fl_uniq {tk : Nat → Nat} {n w : Nat} {sc fc fc' : Nat → Nat} {M M' : Nat → Nat → Prop} {m : Nat} (F : fl_Full tk n sc) (h : fl_Tru tk fc w n M m) (h' : fl_Tru tk fc' w n M' m) (hf : ∀ u, u < m → fc u = fc' u) : ∀ k, k < n → ∀ t, t < m → (M k t ↔ M' k t) := by
  have key : ∀ d k, k < n → n - k ≤ d → ∀ t, t < m → (M k t ↔ M' k t) := by
    intro d
    induction d with
    | zero => intro k hk hd; omega
    | succ d ih =>
      intro k hk hd t ht
      have hs : fl_ar (tk k) = 2 → fl_Sec tk k (sc k) := fun a => F.2.2.2 k hk a
      rw [h k hk t ht (sc k) hs, h' k hk t ht (sc k) hs]
      refine fl_Sem_congr (F.1 k) (fun u hu => hf u (by omega)) (fun a u hu => ?_) (fun a u hu => ?_)
      · exact ih (k + 1) (F.k1 hk a) (by omega) u (by omega)
      · have := F.k2 hk a
        exact ih (sc k) this.2 (by omega) u (by omega)
  exact fun k hk => key n k hk (by omega)
theorem fl_exists {tk : Nat → Nat} {n w : Nat} {sc : Nat → Nat} (fc : Nat → Nat) (F : fl_Full tk n sc) : ∃ M, ∀ m, fl_Tru tk fc w n M m := by
  have key : ∀ d, d ≤ n → ∃ M : Nat → Nat → Prop, ∀ k, n - d ≤ k → k < n → ∀ t h, (fl_ar (tk k) = 2 → fl_Sec tk k h) → (M k t ↔ fl_Sem (tk k) w fc (M (k + 1)) (M h) t) := by
    intro d
    induction d with
    | zero => intro _; exact ⟨fun _ _ => True, fun k h1 h2 => absurd h2 (by omega)⟩
    | succ d ih =>
      intro hd
      obtain ⟨M, hM⟩ := ih (by omega)
      obtain ⟨k0, hk0⟩ : ∃ k0, k0 = n - (d + 1) := ⟨_, rfl⟩
      refine ⟨fun k t => (k = k0 ∧ fl_Sem (tk k0) w fc (M (k0 + 1)) (M (sc k0)) t) ∨ (k ≠ k0 ∧ M k t), ?_⟩
      have up : ∀ j, k0 < j → ∀ u, (((j = k0 ∧ fl_Sem (tk k0) w fc (M (k0 + 1)) (M (sc k0)) u) ∨ (j ≠ k0 ∧ M j u)) ↔ M j u) := by
        intro j hj u
        constructor
        · intro z
          rcases z with z | z
          · omega
          · exact z.2
        · intro z
          exact Or.inr ⟨by omega, z⟩
      intro k h1 h2 t h hs
      rcases Nat.lt_or_ge k0 k with q | q
      · refine (up k q t).trans ((hM k (by omega) h2 t h hs).trans ?_)
        refine fl_Sem_congr (F.1 k) (fun _ _ => rfl) (fun a u hu => (up (k + 1) (by omega) u).symm) (fun a u hu => (up h ?_ u).symm)
        have := (hs a).1
        omega
      · have e : k = k0 := by omega
        subst e
        have e1 : ((k = k ∧ fl_Sem (tk k) w fc (M (k + 1)) (M (sc k)) t) ∨ (k ≠ k ∧ M k t)) ↔ fl_Sem (tk k) w fc (M (k + 1)) (M (sc k)) t := by
          constructor
          · intro z
            rcases z with z | z
            · exact z.2
            · exact absurd rfl z.1
          · intro z
            exact Or.inl ⟨rfl, z⟩
        refine e1.trans ?_
        refine fl_Sem_congr (F.1 k) (fun _ _ => rfl) (fun a u hu => (up (k + 1) (by omega) u).symm) (fun a u hu => ?_)
        have e2 := fl_Sec_uniq (hs a) (F.2.2.2 k h2 a)
        have := (hs a).1
        have e3 : M (sc k) u ↔ M h u := by rw [e2]
        exact e3.trans (up h (by omega) u).symm
  obtain ⟨M, hM⟩ := key n (Nat.le_refl _)
  exact ⟨M, fun m k hk t _ h hs => hM k (by omega) hk t h hs⟩
/-- the formula's truth at event t -/
def fl_tru (tk fc : Nat → Nat) (w n t : Nat) : Prop := ∃ M, fl_Tru tk fc w n M (t + 1) ∧ M 0 t
theorem fl_Tru.less {tk fc : Nat → Nat} {w n m m' : Nat} {M : Nat → Nat → Prop} (h : fl_Tru tk fc w n M m) (hm : m' ≤ m) : fl_Tru tk fc w n M m' := fun k hk t ht => h k hk t (by omega)
theorem fl_Tru.facts {tk fc fc' : Nat → Nat} {w n m : Nat} {M : Nat → Nat → Prop} (htk : ∀ k, tk k ≤ 12) (h : fl_Tru tk fc w n M m) (hf : ∀ u, u < m → fc u = fc' u) : fl_Tru tk fc' w n M m := fun k hk t ht x hx => (h k hk t ht x hx).trans (fl_Sem_congr (htk k) (fun u hu => hf u (by omega)) (fun _ _ _ => Iff.rfl) (fun _ _ _ => Iff.rfl))
theorem fl_tru_iff {tk : Nat → Nat} {n w : Nat} {sc fc : Nat → Nat} {M : Nat → Nat → Prop} {m t : Nat} (F : fl_Full tk n sc) (h : fl_Tru tk fc w n M m) (ht : t < m) : fl_tru tk fc w n t ↔ M 0 t := by
  constructor
  · intro z
    obtain ⟨M', h1, h2⟩ := z
    exact (fl_uniq F h1 (h.less (by omega)) (fun _ _ => rfl) 0 F.pos t (by omega)).mp h2
  · intro z
    exact ⟨M, h.less (by omega), z⟩
theorem fl_tru_congr {tk fc fc' : Nat → Nat} {w n t : Nat} (htk : ∀ k, tk k ≤ 12) (hf : ∀ u, u ≤ t → fc u = fc' u) : fl_tru tk fc w n t ↔ fl_tru tk fc' w n t := by
  constructor
  · intro z
    obtain ⟨M, h1, h2⟩ := z
    exact ⟨M, h1.facts htk (fun u hu => hf u (by omega)), h2⟩
  · intro z
    obtain ⟨M, h1, h2⟩ := z
    exact ⟨M, h1.facts htk (fun u hu => (hf u (by omega)).symm), h2⟩
noncomputable def fl_b (P : Prop) : Nat := @ite Nat P (Classical.propDecidable P) 1 0
theorem fl_b_t {P : Prop} (h : P) : fl_b P = 1 := by unfold fl_b; exact @if_pos _ (Classical.propDecidable P) h _ _ _
theorem fl_b_f {P : Prop} (h : ¬ P) : fl_b P = 0 := by unfold fl_b; exact @if_neg _ (Classical.propDecidable P) h _ _ _
theorem fl_b_lt (P : Prop) : fl_b P < 2 := by
  rcases Classical.em P with h | h
  · rw [fl_b_t h]; decide
  · rw [fl_b_f h]; decide
theorem fl_b_1 {P : Prop} : fl_b P = 1 ↔ P := by
  rcases Classical.em P with h | h
  · rw [fl_b_t h]; exact ⟨fun _ => h, fun _ => rfl⟩
  · rw [fl_b_f h]; exact ⟨fun q => absurd q (by decide), fun q => absurd q h⟩
theorem fl_b_congr {P P' : Prop} (h : P ↔ P') : fl_b P = fl_b P' := by
  rcases Classical.em P with q | q
  · rw [fl_b_t q, fl_b_t (h.mp q)]
  · rw [fl_b_f q, fl_b_f (fun z => q (h.mpr z))]
theorem fl_b_of {P : Prop} {x : Nat} (hx : x < 2) (h : x = 1 ↔ P) : x = fl_b P := by
  rcases Classical.em P with q | q
  · rw [fl_b_t q, h.mpr q]
  · rw [fl_b_f q]
    have : ¬ x = 1 := fun z => q (h.mp z)
    omega
/-! what a token remembers -/
def fl_Mem (op : Nat) (g h : Nat → Prop) (t me sn : Nat) : Prop :=
  (op = 8 → (me = 1 ↔ ∃ u, u < t ∧ g u)) ∧ (op = 9 → (me = 1 ↔ ∀ u, u < t → g u)) ∧ (op = 10 → (me = 1 ↔ ∃ s, s < t ∧ h s ∧ ∀ u, s < u → u < t → g u)) ∧ (op = 11 → sn ≤ t ∧ (0 < sn → g (sn - 1)) ∧ ∀ u, sn ≤ u → u < t → ¬ g u) ∧ (op = 12 → sn ≤ t ∧ (0 < sn → ¬ g (sn - 1)) ∧ ∀ u, sn ≤ u → u < t → g u)
def rmL (op t fst sn : Nat) : Nat := if (op = 11 ∧ fst = 1) ∨ (op = 12 ∧ fst = 0) then t + 1 else sn
def rmM (op fst snd me : Nat) : Nat := if op = 8 then (if me = 1 ∨ fst = 1 then 1 else 0) else if op = 9 then (if me = 1 ∧ fst = 1 then 1 else 0) else if op = 10 then (if snd = 1 ∨ (fst = 1 ∧ me = 1) then 1 else 0) else me
def rmR (op w t fst snd me sn : Nat) : Nat := if op = 11 then (if 1 ≤ rmL op t fst sn ∧ t + 1 ≤ w + rmL op t fst sn then 1 else 0) else if op = 12 then (if 1 ≤ rmL op t fst sn ∧ t + 1 ≤ w + rmL op t fst sn then 0 else 1) else rmM op fst snd me
def paR (op w set t fst snd bef me sn : Nat) : Nat := if op < 4 then set / 2 ^ op % 2 else if op = 4 then (if fst = 0 then 1 else 0) else if op = 5 then (if fst = 1 ∧ snd = 1 then 1 else 0) else if op = 6 then (if fst = 1 ∨ snd = 1 then 1 else 0) else if op = 7 then (if 0 < t ∧ bef = 1 then 1 else 0) else rmR op w t fst snd me sn
theorem fl_Mem_0 (op : Nat) (g h : Nat → Prop) : fl_Mem op g h 0 (if op = 9 then 1 else 0) 0 := by
  refine ⟨fun e => ?_, fun e => ?_, fun e => ?_, fun e => ?_, fun e => ?_⟩
  · subst e
    exact ⟨fun q => absurd q (by decide), fun ⟨u, u1, _⟩ => absurd u1 (by omega)⟩
  · subst e
    exact ⟨fun _ u u1 => absurd u1 (by omega), fun _ => rfl⟩
  · subst e
    exact ⟨fun q => absurd q (by decide), fun ⟨u, u1, _⟩ => absurd u1 (by omega)⟩
  · exact ⟨Nat.le_refl _, fun q => absurd q (by omega), fun u u1 u2 => absurd u2 (by omega)⟩
  · exact ⟨Nat.le_refl _, fun q => absurd q (by omega), fun u u1 u2 => absurd u2 (by omega)⟩
theorem if_1 {c : Prop} [Decidable c] : (if c then (1 : Nat) else 0) = 1 ↔ c := by
  split
  · rename_i h; exact ⟨fun _ => h, fun _ => rfl⟩
  · rename_i h; exact ⟨fun q => absurd q (by decide), fun q => absurd q h⟩
theorem if_0 {c : Prop} [Decidable c] : (if c then (0 : Nat) else 1) = 1 ↔ ¬ c := by
  split
  · rename_i h; exact ⟨fun q => absurd q (by decide), fun q => absurd h q⟩
  · rename_i h; exact ⟨fun _ => h, fun _ => rfl⟩
theorem fl_Mem_8 {g h : Nat → Prop} {t fst snd me sn w : Nat} {fc : Nat → Nat} (g1 : fst = 1 ↔ g t) (hM : fl_Mem 8 g h t me sn) : fl_Mem 8 g h (t + 1) (rmM 8 fst snd me) (rmL 8 t fst sn) ∧ (rmR 8 w t fst snd me sn = 1 ↔ fl_Sem 8 w fc g h t) := by
  have m := hM.1 rfl
  have key : (me = 1 ∨ fst = 1) ↔ ∃ u, u < t + 1 ∧ g u := by
    constructor
    · intro z
      rcases z with z | z
      · obtain ⟨u, u1, u2⟩ := m.mp z
        exact ⟨u, by omega, u2⟩
      · exact ⟨t, by omega, g1.mp z⟩
    · intro ⟨u, u1, u2⟩
      rcases Nat.lt_or_ge u t with q | q
      · exact Or.inl (m.mpr ⟨u, q, u2⟩)
      · have e : u = t := by omega
        subst e
        exact Or.inr (g1.mpr u2)
  have e1 : rmM 8 fst snd me = 1 ↔ ∃ u, u < t + 1 ∧ g u := if_1.trans key
  refine ⟨⟨fun _ => e1, fun e => absurd e (by decide), fun e => absurd e (by decide), fun e => absurd e (by decide), fun e => absurd e (by decide)⟩, ?_⟩
  refine Iff.trans (show rmR 8 w t fst snd me sn = 1 ↔ rmM 8 fst snd me = 1 from Iff.rfl) (e1.trans ?_)
  rw [fl_Sem_8]
  exact ⟨fun ⟨u, u1, u2⟩ => ⟨u, by omega, u2⟩, fun ⟨u, u1, u2⟩ => ⟨u, by omega, u2⟩⟩
theorem fl_Mem_9 {g h : Nat → Prop} {t fst snd me sn w : Nat} {fc : Nat → Nat} (g1 : fst = 1 ↔ g t) (hM : fl_Mem 9 g h t me sn) : fl_Mem 9 g h (t + 1) (rmM 9 fst snd me) (rmL 9 t fst sn) ∧ (rmR 9 w t fst snd me sn = 1 ↔ fl_Sem 9 w fc g h t) := by
  have m := hM.2.1 rfl
  have key : (me = 1 ∧ fst = 1) ↔ ∀ u, u < t + 1 → g u := by
    constructor
    · intro ⟨z1, z2⟩ u u1
      rcases Nat.lt_or_ge u t with q | q
      · exact m.mp z1 u q
      · have e : u = t := by omega
        subst e
        exact g1.mp z2
    · intro z
      exact ⟨m.mpr (fun u u1 => z u (by omega)), g1.mpr (z t (by omega))⟩
  have e1 : rmM 9 fst snd me = 1 ↔ ∀ u, u < t + 1 → g u := if_1.trans key
  refine ⟨⟨fun e => absurd e (by decide), fun _ => e1, fun e => absurd e (by decide), fun e => absurd e (by decide), fun e => absurd e (by decide)⟩, ?_⟩
  refine Iff.trans (show rmR 9 w t fst snd me sn = 1 ↔ rmM 9 fst snd me = 1 from Iff.rfl) (e1.trans ?_)
  rw [fl_Sem_9]
  exact ⟨fun z u u1 => z u (by omega), fun z u u1 => z u (by omega)⟩
theorem fl_Mem_10 {g h : Nat → Prop} {t fst snd me sn w : Nat} {fc : Nat → Nat} (g1 : fst = 1 ↔ g t) (h1 : snd = 1 ↔ h t) (hM : fl_Mem 10 g h t me sn) : fl_Mem 10 g h (t + 1) (rmM 10 fst snd me) (rmL 10 t fst sn) ∧ (rmR 10 w t fst snd me sn = 1 ↔ fl_Sem 10 w fc g h t) := by
  have m := hM.2.2.1 rfl
  have key : (snd = 1 ∨ (fst = 1 ∧ me = 1)) ↔ ∃ s, s < t + 1 ∧ h s ∧ ∀ u, s < u → u < t + 1 → g u := by
    constructor
    · intro z
      rcases z with z | ⟨z1, z2⟩
      · exact ⟨t, by omega, h1.mp z, fun u u1 u2 => absurd u1 (by omega)⟩
      · obtain ⟨s, s1, s2, s3⟩ := m.mp z2
        refine ⟨s, by omega, s2, fun u u1 u2 => ?_⟩
        rcases Nat.lt_or_ge u t with q | q
        · exact s3 u u1 q
        · have e : u = t := by omega
          subst e
          exact g1.mp z1
    · intro ⟨s, s1, s2, s3⟩
      rcases Nat.lt_or_ge s t with q | q
      · exact Or.inr ⟨g1.mpr (s3 t q (by omega)), m.mpr ⟨s, q, s2, fun u u1 u2 => s3 u u1 (by omega)⟩⟩
      · have e : s = t := by omega
        subst e
        exact Or.inl (h1.mpr s2)
  have e1 : rmM 10 fst snd me = 1 ↔ ∃ s, s < t + 1 ∧ h s ∧ ∀ u, s < u → u < t + 1 → g u := if_1.trans key
  refine ⟨⟨fun e => absurd e (by decide), fun e => absurd e (by decide), fun _ => e1, fun e => absurd e (by decide), fun e => absurd e (by decide)⟩, ?_⟩
  refine Iff.trans (show rmR 10 w t fst snd me sn = 1 ↔ rmM 10 fst snd me = 1 from Iff.rfl) (e1.trans ?_)
  rw [fl_Sem_10]
  exact ⟨fun ⟨s, s1, s2, s3⟩ => ⟨s, by omega, s2, fun u u1 u2 => s3 u u1 (by omega)⟩, fun ⟨s, s1, s2, s3⟩ => ⟨s, by omega, s2, fun u u1 u2 => s3 u u1 (by omega)⟩⟩
theorem fl_Mem_11 {g h : Nat → Prop} {t fst snd me sn w : Nat} {fc : Nat → Nat} (hf : fst < 2) (g1 : fst = 1 ↔ g t) (hM : fl_Mem 11 g h t me sn) : fl_Mem 11 g h (t + 1) (rmM 11 fst snd me) (rmL 11 t fst sn) ∧ (rmR 11 w t fst snd me sn = 1 ↔ fl_Sem 11 w fc g h t) := by
  obtain ⟨m1, m2, m3⟩ := hM.2.2.2.1 rfl
  have key : rmL 11 t fst sn ≤ t + 1 ∧ (0 < rmL 11 t fst sn → g (rmL 11 t fst sn - 1)) ∧ ∀ u, rmL 11 t fst sn ≤ u → u < t + 1 → ¬ g u := by
    rcases Nat.lt_or_ge fst 1 with q | q
    · have e : rmL 11 t fst sn = sn := if_neg (by omega)
      rw [e]
      refine ⟨by omega, m2, fun u u1 u2 => ?_⟩
      rcases Nat.lt_or_ge u t with y | y
      · exact m3 u u1 y
      · have e2 : u = t := by omega
        subst e2
        exact fun z => absurd (g1.mpr z) (by omega)
    · have e : rmL 11 t fst sn = t + 1 := if_pos (by omega)
      rw [e]
      exact ⟨Nat.le_refl _, fun _ => g1.mp (by omega), fun u u1 u2 => absurd u2 (by omega)⟩
  refine ⟨⟨fun e => absurd e (by decide), fun e => absurd e (by decide), fun e => absurd e (by decide), fun _ => key, fun e => absurd e (by decide)⟩, ?_⟩
  have e1 : rmR 11 w t fst snd me sn = 1 ↔ (1 ≤ rmL 11 t fst sn ∧ t + 1 ≤ w + rmL 11 t fst sn) := if_1
  refine e1.trans ?_
  rw [fl_Sem_11]
  obtain ⟨k1, k2, k3⟩ := key
  constructor
  · intro ⟨z1, z2⟩
    exact ⟨rmL 11 t fst sn - 1, by omega, by omega, k2 (by omega)⟩
  · intro ⟨u, u1, u2, u3⟩
    have : u < rmL 11 t fst sn := by
      rcases Nat.lt_or_ge u (rmL 11 t fst sn) with y | y
      · exact y
      · exact absurd u3 (k3 u y (by omega))
    exact ⟨by omega, by omega⟩
theorem fl_Mem_12 {g h : Nat → Prop} {t fst snd me sn w : Nat} {fc : Nat → Nat} (hf : fst < 2) (g1 : fst = 1 ↔ g t) (hM : fl_Mem 12 g h t me sn) : fl_Mem 12 g h (t + 1) (rmM 12 fst snd me) (rmL 12 t fst sn) ∧ (rmR 12 w t fst snd me sn = 1 ↔ fl_Sem 12 w fc g h t) := by
  obtain ⟨m1, m2, m3⟩ := hM.2.2.2.2 rfl
  have key : rmL 12 t fst sn ≤ t + 1 ∧ (0 < rmL 12 t fst sn → ¬ g (rmL 12 t fst sn - 1)) ∧ ∀ u, rmL 12 t fst sn ≤ u → u < t + 1 → g u := by
    rcases Nat.lt_or_ge fst 1 with q | q
    · have e : rmL 12 t fst sn = t + 1 := if_pos (by omega)
      rw [e]
      refine ⟨Nat.le_refl _, fun _ z => ?_, fun u u1 u2 => absurd u2 (by omega)⟩
      have := g1.mpr z
      omega
    · have e : rmL 12 t fst sn = sn := if_neg (by omega)
      rw [e]
      refine ⟨by omega, m2, fun u u1 u2 => ?_⟩
      rcases Nat.lt_or_ge u t with y | y
      · exact m3 u u1 y
      · have e2 : u = t := by omega
        subst e2
        exact g1.mp (by omega)
  refine ⟨⟨fun e => absurd e (by decide), fun e => absurd e (by decide), fun e => absurd e (by decide), fun e => absurd e (by decide), fun _ => key⟩, ?_⟩
  have e1 : rmR 12 w t fst snd me sn = 1 ↔ ¬ (1 ≤ rmL 12 t fst sn ∧ t + 1 ≤ w + rmL 12 t fst sn) := if_0
  refine e1.trans ?_
  rw [fl_Sem_12]
  obtain ⟨k1, k2, k3⟩ := key
  constructor
  · intro z u u1 u2
    rcases Nat.lt_or_ge u (rmL 12 t fst sn) with y | y
    · exact absurd ⟨by omega, by omega⟩ z
    · exact k3 u y (by omega)
  · intro z ⟨z1, z2⟩
    exact k2 (by omega) (z (rmL 12 t fst sn - 1) (by omega) (by omega))
theorem rmL_le {op t fst sn : Nat} (h : sn ≤ t + 1) : rmL op t fst sn ≤ t + 1 := by
  unfold rmL
  split
  · exact Nat.le_refl _
  · exact h
theorem rmM_lt {op fst snd me : Nat} (h : me < 2) : rmM op fst snd me < 2 := by
  unfold rmM
  repeat' split
  all_goals omega
theorem paR_lt {op w set t fst snd bef me sn : Nat} (h : me < 2) : paR op w set t fst snd bef me sn < 2 := by
  unfold paR rmR rmM
  repeat' split
  all_goals omega
/-- one token brought up to date with event t -/
theorem fl_step {op w t set fst snd bef me sn : Nat} {fc : Nat → Nat} {g h : Nat → Prop} (hop : op ≤ 12) (hset : set = fc t) (hf : fst < 2) (g1 : 1 ≤ fl_ar op → (fst = 1 ↔ g t)) (h1 : fl_ar op = 2 → (snd = 1 ↔ h t)) (b1 : op = 7 → 0 < t → (bef = 1 ↔ g (t - 1))) (hM : fl_Mem op g h t me sn) : fl_Mem op g h (t + 1) (rmM op fst snd me) (rmL op t fst sn) ∧ (paR op w set t fst snd bef me sn = 1 ↔ fl_Sem op w fc g h t) := by
  revert g1 h1 b1 hM
  refine fl_cases (P := fun op => (1 ≤ fl_ar op → (fst = 1 ↔ g t)) → (fl_ar op = 2 → (snd = 1 ↔ h t)) → (op = 7 → 0 < t → (bef = 1 ↔ g (t - 1))) → fl_Mem op g h t me sn → fl_Mem op g h (t + 1) (rmM op fst snd me) (rmL op t fst sn) ∧ (paR op w set t fst snd bef me sn = 1 ↔ fl_Sem op w fc g h t)) op hop ?_ ?_ ?_ ?_ ?_ ?_ ?_ ?_ ?_ ?_
  · intro ho g1 h1 b1 hM
    refine ⟨⟨fun e => absurd e (by omega), fun e => absurd e (by omega), fun e => absurd e (by omega), fun e => absurd e (by omega), fun e => absurd e (by omega)⟩, ?_⟩
    rw [fl_Sem_lt ho, ← hset]
    unfold paR
    rw [if_pos ho]
  · intro g1 h1 b1 hM
    have g0 := g1 (by decide)
    refine ⟨⟨fun e => absurd e (by decide), fun e => absurd e (by decide), fun e => absurd e (by decide), fun e => absurd e (by decide), fun e => absurd e (by decide)⟩, ?_⟩
    rw [fl_Sem_4, ← g0]
    exact (show paR 4 w set t fst snd bef me sn = 1 ↔ fst = 0 from if_1).trans (by omega)
  · intro g1 h1 b1 hM
    have g0 := g1 (by decide)
    have h0 := h1 (by decide)
    refine ⟨⟨fun e => absurd e (by decide), fun e => absurd e (by decide), fun e => absurd e (by decide), fun e => absurd e (by decide), fun e => absurd e (by decide)⟩, ?_⟩
    rw [fl_Sem_5, ← g0, ← h0]
    exact if_1
  · intro g1 h1 b1 hM
    have g0 := g1 (by decide)
    have h0 := h1 (by decide)
    refine ⟨⟨fun e => absurd e (by decide), fun e => absurd e (by decide), fun e => absurd e (by decide), fun e => absurd e (by decide), fun e => absurd e (by decide)⟩, ?_⟩
    rw [fl_Sem_6, ← g0, ← h0]
    exact if_1
  · intro g1 h1 b1 hM
    refine ⟨⟨fun e => absurd e (by decide), fun e => absurd e (by decide), fun e => absurd e (by decide), fun e => absurd e (by decide), fun e => absurd e (by decide)⟩, ?_⟩
    rw [fl_Sem_7]
    refine (show paR 7 w set t fst snd bef me sn = 1 ↔ (0 < t ∧ bef = 1) from if_1).trans ?_
    exact ⟨fun z => ⟨z.1, (b1 rfl z.1).mp z.2⟩, fun z => ⟨z.1, (b1 rfl z.1).mpr z.2⟩⟩
  · intro g1 h1 b1 hM
    exact fl_Mem_8 (g1 (by decide)) hM
  · intro g1 h1 b1 hM
    exact fl_Mem_9 (g1 (by decide)) hM
  · intro g1 h1 b1 hM
    exact fl_Mem_10 (g1 (by decide)) (h1 (by decide)) hM
  · intro g1 h1 b1 hM
    exact fl_Mem_11 hf (g1 (by decide)) hM
  · intro g1 h1 b1 hM
    exact fl_Mem_12 hf (g1 (by decide)) hM
end
section
set_option maxRecDepth 100000
set_option maxHeartbeats 4000000 in
theorem mP_wants (l : Launch) (D : va_G) {t : Nat} (ht : t ≤ 12) : cI l D [] yX1_wants cX1_wants 1 (some .int) (rm_ 0 0) [.int (nI t)] [] (fun r _ => r = nI (fl_ar t)) := by
  refine cI_of (by decide) (Nat.le_of_ble_eq_true rfl) ?_
  intro p e s m below meth c ls S hr hlk X hA hl
  have hx := S.1
  have hb := S.2.1
  have hl : lv_has ls 1 [(0, .int (nI t))] := hl
  refine lv_iload_n hx hb dX1_wants_0 rfl (lv_at hl 0 rfl) ?_
  refine lv_iconst (v := nI 5) hx hb dX1_wants_1 (by decide) ?_
  refine mn_icmp_eq (tgt := 17) hx hb (by omega) (by omega) dX1_wants_2 (by decide) (fun c2 => ?_) (fun c2 => ?_)
  · skip
    refine lv_iconst (v := nI 2) hx hb dX1_wants_17 (by decide) ?_
    exact cI_ret S hr hlk X dX1_wants_18 (congrArg nI (fl_ar_2.mpr (by omega)).symm)
  · skip
    refine lv_iload_n hx hb dX1_wants_5 rfl (lv_at hl 0 rfl) ?_
    refine lv_bipush (v := nI 6) hx hb dX1_wants_6 (by decide) ?_
    refine mn_icmp_eq (tgt := 17) hx hb (by omega) (by omega) dX1_wants_8 (by decide) (fun c8 => ?_) (fun c8 => ?_)
    · skip
      refine lv_iconst (v := nI 2) hx hb dX1_wants_17 (by decide) ?_
      exact cI_ret S hr hlk X dX1_wants_18 (congrArg nI (fl_ar_2.mpr (by omega)).symm)
    · skip
      refine lv_iload_n hx hb dX1_wants_11 rfl (lv_at hl 0 rfl) ?_
      refine lv_bipush (v := nI 10) hx hb dX1_wants_12 (by decide) ?_
      refine mn_icmp_ne (tgt := 19) hx hb (by omega) (by omega) dX1_wants_14 (by decide) (fun c14 => ?_) (fun c14 => ?_)
      · skip
        refine lv_iload_n hx hb dX1_wants_19 rfl (lv_at hl 0 rfl) ?_
        refine lv_iconst (v := nI 4) hx hb dX1_wants_20 (by decide) ?_
        refine mn_icmp_ge (tgt := 28) hx hb (by omega) (by omega) dX1_wants_21 (by decide) (fun c21 => ?_) (fun c21 => ?_)
        · skip
          refine lv_iconst (v := nI 1) hx hb dX1_wants_28 (by decide) ?_
          exact cI_ret S hr hlk X dX1_wants_29 (congrArg nI (show 1 = fl_ar t by unfold fl_ar; rw [if_neg (by omega), if_neg (by omega)]))
        · skip
          refine lv_iconst (v := nI 0) hx hb dX1_wants_24 (by decide) ?_
          refine lv_goto (tgt := 29) hx hb dX1_wants_25 (by decide) ?_
          exact cI_ret S hr hlk X dX1_wants_29 (congrArg nI (fl_ar_0.mpr (by omega)).symm)
      · skip
        refine lv_iconst (v := nI 2) hx hb dX1_wants_17 (by decide) ?_
        exact cI_ret S hr hlk X dX1_wants_18 (congrArg nI (fl_ar_2.mpr (by omega)).symm)
set_option maxHeartbeats 4000000 in
theorem mP_attach (l : Launch) (D : va_G) (a : Nat → Nat) (kc : Nat → ClassId) {w : Nat} {tk : Nat → Nat} {n : Nat} {sc ot ow : Nat → Nat} {q k : Nat} {fc : Nat → Nat} {ct jd : Nat} {ta : Nat → Int64} {vl vb me sn sv sm ss : Nat → Nat} (hq : q < 16) (hk : k < 14) (hot : ot q < 14) (h1 : 1 ≤ ow q) (h2 : ow q ≤ 2) : cV l D (tyP kc) yX1_attach cX1_attach 3 (rm_ 0 0) [.ref (a 0), .int (nI k)] (pmW a kc w tk n sc ot ow (q + 1) fc ct jd ta vl vb me sn sv sm ss) (fun w1 => w1 = pmW a kc w tk n (if k = ot q + 1 then sc else va_up sc (ot q) k) ot (va_up ow q (ow q - 1)) (if ow q = 1 then q else q + 1) fc ct jd ta vl vb me sn sv sm ss) := by
  refine cV_of (by decide) (Nat.le_of_ble_eq_true rfl) ?_
  intro p e s m below meth c ls S hr hlk X hA hl
  have hx := S.1
  have hb := S.2.1
  have hl : lv_has ls 3 [(0, .ref (a 0)), (1, .int (nI k))] := hl
  refine lv_aload_n hx hb dX1_attach_0 rfl (lv_at hl 0 rfl) ?_
  refine gP_oc S X dX1_attach_1 ?_
  refine lv_iconst (v := nI 1) hx hb dX1_attach_4 (by decide) ?_
  refine mn_isub hx hb (by omega) dX1_attach_5 ?_
  refine mn_eq (y := q) (by omega) ?_
  refine lv_istore_n (lv' := [(2, .int (nI q)), (0, .ref (a 0)), (1, .int (nI k))]) hx hb dX1_attach_6 rfl hl (by decide) rfl (fun ls hl => ?_)
  refine lv_iload_n hx hb dX1_attach_7 rfl (lv_at hl 2 rfl) ?_
  refine lv_aload_n hx hb dX1_attach_8 rfl (lv_at hl 1 rfl) ?_
  refine gP_ot S X dX1_attach_9 ?_
  refine lv_iload_n hx hb dX1_attach_12 rfl (lv_at hl 0 rfl) ?_
  refine lP_ot S X (by omega) dX1_attach_13 ?_
  refine lv_iconst (v := nI 1) hx hb dX1_attach_14 (by decide) ?_
  refine mn_iadd hx hb dX1_attach_15 ?_
  refine mn_icmp_eq (tgt := 32) hx hb (by omega) (by omega) dX1_attach_16 (by decide) (fun c16 => ?_) (fun c16 => ?_)
  · skip
    refine lv_aload_n hx hb dX1_attach_32 rfl (lv_at hl 1 rfl) ?_
    refine gP_ow S X dX1_attach_33 ?_
    refine lv_iload_n hx hb dX1_attach_36 rfl (lv_at hl 0 rfl) ?_
    refine lv_dup2_11 hx hb dX1_attach_37 rfl rfl ?_
    refine lP_ow S X (by omega) dX1_attach_38 ?_
    refine lv_iconst (v := nI 1) hx hb dX1_attach_39 (by decide) ?_
    refine mn_isub hx hb (by omega) dX1_attach_40 ?_
    refine lv_i2b (v := nI ((ow q) - 1)) hx hb dX1_attach_41 (mo_byte _ (by omega)) ?_
    refine sP_ow (by omega) S X (by omega) dX1_attach_42 (fun H locs X => ?_)
    refine lv_aload_n hx hb dX1_attach_43 rfl (lv_at hl 1 rfl) ?_
    refine gP_ow S X dX1_attach_44 ?_
    refine lv_iload_n hx hb dX1_attach_47 rfl (lv_at hl 0 rfl) ?_
    refine lP_ow S X (by omega) dX1_attach_48 ?_
    refine mn_eq (y := ow q - 1) (va_up_self _ _ _) ?_
    refine mn_if_ne (tgt := 62) hx hb (by omega) dX1_attach_49 (by decide) (fun c49 => ?_) (fun c49 => ?_)
    · skip
      exact cV_ret S hr hlk X dX1_attach_62 (by first | rw [if_pos (show k = ot q + 1 by omega), if_pos (show ow q = 1 by omega)] | rw [if_pos (show k = ot q + 1 by omega), if_neg (show ¬ ow q = 1 by omega)] | rw [if_neg (show ¬ k = ot q + 1 by omega), if_pos (show ow q = 1 by omega)] | rw [if_neg (show ¬ k = ot q + 1 by omega), if_neg (show ¬ ow q = 1 by omega)])
    · skip
      refine lv_aload_n hx hb dX1_attach_52 rfl (lv_at hl 1 rfl) ?_
      refine lv_dup hx hb dX1_attach_53 rfl ?_
      refine gP_oc S X dX1_attach_54 ?_
      refine lv_iconst (v := nI 1) hx hb dX1_attach_57 (by decide) ?_
      refine mn_isub hx hb (by omega) dX1_attach_58 ?_
      refine mn_eq (y := q) (by omega) ?_
      refine pP_oc S X dX1_attach_59 (fun H locs X => ?_)
      exact cV_ret S hr hlk X dX1_attach_62 (by first | rw [if_pos (show k = ot q + 1 by omega), if_pos (show ow q = 1 by omega)] | rw [if_pos (show k = ot q + 1 by omega), if_neg (show ¬ ow q = 1 by omega)] | rw [if_neg (show ¬ k = ot q + 1 by omega), if_pos (show ow q = 1 by omega)] | rw [if_neg (show ¬ k = ot q + 1 by omega), if_neg (show ¬ ow q = 1 by omega)])
  · skip
    refine lv_aload_n hx hb dX1_attach_19 rfl (lv_at hl 1 rfl) ?_
    refine gP_sc S X dX1_attach_20 ?_
    refine lv_aload_n hx hb dX1_attach_23 rfl (lv_at hl 1 rfl) ?_
    refine gP_ot S X dX1_attach_24 ?_
    refine lv_iload_n hx hb dX1_attach_27 rfl (lv_at hl 0 rfl) ?_
    refine lP_ot S X (by omega) dX1_attach_28 ?_
    refine lv_iload_n hx hb dX1_attach_29 rfl (lv_at hl 2 rfl) ?_
    refine lv_i2b (v := nI k) hx hb dX1_attach_30 (mo_byte _ (by omega)) ?_
    refine sP_sc (by omega) S X (by omega) dX1_attach_31 (fun H locs X => ?_)
    refine lv_aload_n hx hb dX1_attach_32 rfl (lv_at hl 1 rfl) ?_
    refine gP_ow S X dX1_attach_33 ?_
    refine lv_iload_n hx hb dX1_attach_36 rfl (lv_at hl 0 rfl) ?_
    refine lv_dup2_11 hx hb dX1_attach_37 rfl rfl ?_
    refine lP_ow S X (by omega) dX1_attach_38 ?_
    refine lv_iconst (v := nI 1) hx hb dX1_attach_39 (by decide) ?_
    refine mn_isub hx hb (by omega) dX1_attach_40 ?_
    refine lv_i2b (v := nI ((ow q) - 1)) hx hb dX1_attach_41 (mo_byte _ (by omega)) ?_
    refine sP_ow (by omega) S X (by omega) dX1_attach_42 (fun H locs X => ?_)
    refine lv_aload_n hx hb dX1_attach_43 rfl (lv_at hl 1 rfl) ?_
    refine gP_ow S X dX1_attach_44 ?_
    refine lv_iload_n hx hb dX1_attach_47 rfl (lv_at hl 0 rfl) ?_
    refine lP_ow S X (by omega) dX1_attach_48 ?_
    refine mn_eq (y := ow q - 1) (va_up_self _ _ _) ?_
    refine mn_if_ne (tgt := 62) hx hb (by omega) dX1_attach_49 (by decide) (fun c49 => ?_) (fun c49 => ?_)
    · skip
      exact cV_ret S hr hlk X dX1_attach_62 (by first | rw [if_pos (show k = ot q + 1 by omega), if_pos (show ow q = 1 by omega)] | rw [if_pos (show k = ot q + 1 by omega), if_neg (show ¬ ow q = 1 by omega)] | rw [if_neg (show ¬ k = ot q + 1 by omega), if_pos (show ow q = 1 by omega)] | rw [if_neg (show ¬ k = ot q + 1 by omega), if_neg (show ¬ ow q = 1 by omega)])
    · skip
      refine lv_aload_n hx hb dX1_attach_52 rfl (lv_at hl 1 rfl) ?_
      refine lv_dup hx hb dX1_attach_53 rfl ?_
      refine gP_oc S X dX1_attach_54 ?_
      refine lv_iconst (v := nI 1) hx hb dX1_attach_57 (by decide) ?_
      refine mn_isub hx hb (by omega) dX1_attach_58 ?_
      refine mn_eq (y := q) (by omega) ?_
      refine pP_oc S X dX1_attach_59 (fun H locs X => ?_)
      exact cV_ret S hr hlk X dX1_attach_62 (by first | rw [if_pos (show k = ot q + 1 by omega), if_pos (show ow q = 1 by omega)] | rw [if_pos (show k = ot q + 1 by omega), if_neg (show ¬ ow q = 1 by omega)] | rw [if_neg (show ¬ k = ot q + 1 by omega), if_pos (show ow q = 1 by omega)] | rw [if_neg (show ¬ k = ot q + 1 by omega), if_neg (show ¬ ow q = 1 by omega)])
section CPL
variable {p : Program} {l : Launch} {e : Env} {R : Room} {s : State} {m : MethodId} {args : Array Value} {below : List Frame} {meth : Method} {c : Code} {Q : State → Prop} {D : va_G} {A : Nat → Prop} {a : Nat → Nat} {kc : Nat → ClassId}
set_option maxHeartbeats 4000000 in
theorem tlP_complete {w : Nat} {tk : Nat → Nat} {n : Nat} {sc ot ow : Nat → Nat} {oc : Nat} {fc : Nat → Nat} {ct jd : Nat} {ta : Nat → Int64} {vl vb me sn sv sm ss : Nat → Nat} {k : Nat} (hn : n ≤ 14) (htk : ∀ k, tk k ≤ 12) (hkn : k < n) (S : CallFix p m c cX1_complete 3 s args lw_all RX1) (hA : ∀ q : Nat, s.heap.size ≤ q → A q) {H : Heap} {locs : List Loc} {ls : Array Slot} (hM : fq_Mid tk k oc sc ot ow) (X : wX D (tyP kc) A s H locs (pmW a kc w tk n sc ot ow oc fc ct jd ta vl vb me sn sv sm ss)) (hl : lv_has ls 3 [(0, .ref (a 0)), (1, .int (nI k))])
    (K2 : ∀ (oc : Nat) (sc ot ow : Nat → Nat) (H : Heap) (locs : List Loc) (ls : Array Slot), fq_Inv tk (k + 1) oc sc ot ow → wX D (tyP kc) A s H locs (pmW a kc w tk n sc ot ow oc fc ct jd ta vl vb me sn sv sm ss) → lv_has ls 3 [(0, .ref (a 0)), (1, .int (nI (k + 1)))] → W p l e (rm_ 1 22) s m args below meth c H locs 0 0 Q (F0 m 7 ls [])) : W p l e (rm_ 1 22) s m args below meth c H locs 0 0 Q (F0 m 27 ls []) := by
  have hx := S.1
  have hb := S.2.1
  have ho := hM.1
  have ha := fl_ar_le (tk k)
  refine lv_aload_n hx hb dX1_complete_27 rfl (lv_at hl 0 rfl) ?_
  refine gP_tk S X dX1_complete_28 ?_
  refine lv_iload_n hx hb dX1_complete_31 rfl (lv_at hl 1 rfl) ?_
  refine lP_tk S X (by omega) dX1_complete_32 ?_
  refine cS_call (n := 1) (As := [.int (nI (tk k))]) (rest := []) S X hA (mP_wants l D (htk k)) (lw_S q94 q95 q13 q96) rfl rfl (by decide +kernel) ⟨Nat.le_of_ble_eq_true rfl, Nat.le_of_ble_eq_true rfl⟩ hl.1 rfl rfl (by decide) dX1_complete_33 ⟨Nat.zero_le _, Nat.zero_le _⟩ (fun H locs X => ?_)
  refine lv_istore_n (lv' := [(2, .int (nI (fl_ar (tk k)))), (0, .ref (a 0)), (1, .int (nI k))]) hx hb dX1_complete_36 rfl hl (by decide) rfl (fun ls hl => ?_)
  refine lv_iload_n hx hb dX1_complete_37 rfl (lv_at hl 0 rfl) ?_
  refine mn_if_le (tgt := 73) hx hb (by omega) dX1_complete_38 (by decide) (fun c38 => ?_) (fun c38 => ?_)
  · skip
    refine lv_iinc (v := nI (k + 1)) (lv' := [(1, .int (nI (k + 1))), (2, .int (nI (fl_ar (tk k)))), (0, .ref (a 0))]) hx hb dX1_complete_73 hl (k := 2) rfl (nI_1 k) (by decide) rfl (fun ls hl => ?_)
    refine lv_goto (tgt := 7) hx hb dX1_complete_76 (by decide) ?_
    exact K2 _ _ _ _ _ _ _ (fq_leaf hM c38) X (lv_sub hl [2, 0] rfl)
  · skip
    refine lv_aload_n hx hb dX1_complete_41 rfl (lv_at hl 1 rfl) ?_
    refine gP_ot S X dX1_complete_42 ?_
    refine lv_aload_n hx hb dX1_complete_45 rfl (lv_at hl 1 rfl) ?_
    refine gP_oc S X dX1_complete_46 ?_
    refine lv_iload_n hx hb dX1_complete_49 rfl (lv_at hl 2 rfl) ?_
    refine lv_i2b (v := nI k) hx hb dX1_complete_50 (mo_byte _ (by omega)) ?_
    refine sP_ot (by omega) S X (by omega) dX1_complete_51 (fun H locs X => ?_)
    refine lv_aload_n hx hb dX1_complete_52 rfl (lv_at hl 1 rfl) ?_
    refine gP_ow S X dX1_complete_53 ?_
    refine lv_aload_n hx hb dX1_complete_56 rfl (lv_at hl 1 rfl) ?_
    refine gP_oc S X dX1_complete_57 ?_
    refine lv_iload_n hx hb dX1_complete_60 rfl (lv_at hl 0 rfl) ?_
    refine lv_i2b (v := nI (fl_ar (tk k))) hx hb dX1_complete_61 (mo_byte _ (by omega)) ?_
    refine sP_ow (by omega) S X (by omega) dX1_complete_62 (fun H locs X => ?_)
    refine lv_aload_n hx hb dX1_complete_63 rfl (lv_at hl 1 rfl) ?_
    refine lv_dup hx hb dX1_complete_64 rfl ?_
    refine gP_oc S X dX1_complete_65 ?_
    refine lv_iconst (v := nI 1) hx hb dX1_complete_68 (by decide) ?_
    refine mn_iadd hx hb dX1_complete_69 ?_
    refine pP_oc S X dX1_complete_70 (fun H locs X => ?_)
    refine lv_iinc (v := nI (k + 1)) (lv' := [(1, .int (nI (k + 1))), (2, .int (nI (fl_ar (tk k)))), (0, .ref (a 0))]) hx hb dX1_complete_73 hl (k := 2) rfl (nI_1 k) (by decide) rfl (fun ls hl => ?_)
    refine lv_goto (tgt := 7) hx hb dX1_complete_76 (by decide) ?_
    exact K2 _ _ _ _ _ _ _ (fq_push hM c38) X (lv_sub hl [2, 0] rfl)
set_option maxHeartbeats 4000000 in
theorem lpP_complete {w : Nat} {tk : Nat → Nat} {n : Nat} {fc : Nat → Nat} {ct jd : Nat} {ta : Nat → Int64} {vl vb me sn sv sm ss : Nat → Nat} (hn : n ≤ 14) (htk : ∀ k, tk k ≤ 12) (hok : fl_Ok tk n) (S : CallFix p m c cX1_complete 3 s args lw_all RX1) (hA : ∀ q : Nat, s.heap.size ≤ q → A q)
    (K : ∀ (oc : Nat) (sc ot ow : Nat → Nat) (H : Heap) (locs : List Loc) (ls : Array Slot), fq_Inv tk n oc sc ot ow → wX D (tyP kc) A s H locs (pmW a kc w tk n sc ot ow oc fc ct jd ta vl vb me sn sv sm ss) → lv_has ls 3 [(0, .ref (a 0)), (1, .int (nI n))] → W p l e (rm_ 1 22) s m args below meth c H locs 0 0 Q (F0 m 79 ls [])) :
    ∀ (d k oc : Nat) (sc ot ow : Nat → Nat) (H : Heap) (locs : List Loc) (ls : Array Slot), n - k < d → k ≤ n → fq_Inv tk k oc sc ot ow → wX D (tyP kc) A s H locs (pmW a kc w tk n sc ot ow oc fc ct jd ta vl vb me sn sv sm ss) → lv_has ls 3 [(0, .ref (a 0)), (1, .int (nI k))] → W p l e (rm_ 1 22) s m args below meth c H locs 0 0 Q (F0 m 7 ls []) := by
  have hx := S.1
  have hb := S.2.1
  intro d
  induction d with
  | zero =>
    intro k oc sc ot ow H locs ls hd
    omega
  | succ d ih =>
    intro k oc sc ot ow H locs ls hd hk hI X hl
    have hI1 := hI.1
    refine lv_iload_n hx hb dX1_complete_7 rfl (lv_at hl 1 rfl) ?_
    refine lv_aload_n hx hb dX1_complete_8 rfl (lv_at hl 0 rfl) ?_
    refine gP_n S X dX1_complete_9 ?_
    refine mn_icmp_ge (tgt := 79) hx hb (by omega) (by omega) dX1_complete_12 (by decide) (fun c12 => ?_) (fun c12 => ?_)
    · skip
      have e0 : k = n := by omega
      subst e0
      exact K oc sc ot ow H locs ls hI X hl
    · skip
      refine lv_aload_n hx hb dX1_complete_15 rfl (lv_at hl 0 rfl) ?_
      refine gP_oc S X dX1_complete_16 ?_
      refine mn_if_le (tgt := 27) hx hb (by omega) dX1_complete_19 (by decide) (fun c19 => ?_) (fun c19 => ?_)
      · skip
        have e0 : k = 0 := by
          rcases Nat.lt_or_ge 0 k with z | z
          · have := fq_some hI z (hok k (by omega))
            omega
          · omega
        subst e0
        subst c19
        exact tlP_complete hn htk (by omega) S hA fq_none X hl (fun oc sc ot ow H locs ls hI X hl => ih 1 oc sc ot ow H locs ls (by omega) (by omega) hI X hl)
      · skip
        obtain ⟨q, rfl⟩ : ∃ q, oc = q + 1 := ⟨oc - 1, by omega⟩
        obtain ⟨t1, t2, t3, -⟩ := hI.2.2.1 q (by omega)
        have t0 := hI.1
        refine lv_aload_n hx hb dX1_complete_22 rfl (lv_at hl 0 rfl) ?_
        refine lv_iload_n hx hb dX1_complete_23 rfl (lv_at hl 1 rfl) ?_
        refine cV_call (n := 1) (As := [.int (nI k)]) (rest := []) S X hA (mP_attach l D a kc (by omega) (by omega) (by omega) t2 t3) (lw_V q90 q92 qs0 q13 q93) rfl rfl (by decide +kernel) ⟨Nat.le_of_ble_eq_true rfl, Nat.le_of_ble_eq_true rfl⟩ rfl rfl hl.1 rfl rfl (by decide) dX1_complete_24 ⟨Nat.zero_le _, Nat.zero_le _⟩ (fun w1 H locs hq X => ?_)
        subst hq
        exact tlP_complete hn htk (by omega) S hA (fq_attach hI) X hl (fun oc sc ot ow H locs ls hI X hl => ih (k + 1) oc sc ot ow H locs ls (by omega) (by omega) hI X hl)
end CPL
set_option maxHeartbeats 4000000 in
theorem mP_complete (l : Launch) (D : va_G) (a : Nat → Nat) (kc : Nat → ClassId) {w : Nat} {tk : Nat → Nat} {n : Nat} {sc ot ow : Nat → Nat} {oc : Nat} {fc : Nat → Nat} {ct jd : Nat} {ta : Nat → Int64} {vl vb me sn sv sm ss : Nat → Nat} (hn : n ≤ 14) (htk : ∀ k, tk k ≤ 12) (hok : fl_Ok tk n) : cI l D (tyP kc) yX1_complete cX1_complete 3 (some .boolean) (rm_ 1 22) [.ref (a 0)] (pmW a kc w tk n sc ot ow oc fc ct jd ta vl vb me sn sv sm ss) (fun r w1 => ∃ (oc' : Nat) (sc' ot' ow' : Nat → Nat), w1 = pmW a kc w tk n sc' ot' ow' oc' fc ct jd ta vl vb me sn sv sm ss ∧ ((fl_op tk n = 0 ∧ r = nI 1 ∧ fl_Full tk n sc') ∨ (¬ fl_op tk n = 0 ∧ r = nI 0))) := by
  refine cI_of (by decide) (Nat.le_of_ble_eq_true rfl) ?_
  intro p e s m below meth c ls S hr hlk X hA hl
  have hx := S.1
  have hb := S.2.1
  have hl : lv_has ls 3 [(0, .ref (a 0))] := hl
  refine lv_aload_n hx hb dX1_complete_0 rfl (lv_at hl 0 rfl) ?_
  refine lv_iconst (v := nI 0) hx hb dX1_complete_1 (by decide) ?_
  refine pP_oc S X dX1_complete_2 (fun H locs X => ?_)
  refine lv_iconst (v := nI 0) hx hb dX1_complete_5 (by decide) ?_
  refine lv_istore_n (lv' := [(1, .int (nI 0)), (0, .ref (a 0))]) hx hb dX1_complete_6 rfl hl (by decide) rfl (fun ls hl => ?_)
  refine lpP_complete hn htk hok S hA (fun oc sc ot ow H locs ls hI X hl => ?_) (n + 1) 0 0 sc ot ow H locs ls (by omega) (by omega) (fq_start tk sc ot ow) X (lv_sub hl [1, 0] rfl)
  have hI1 := hI.1
  refine lv_aload_n hx hb dX1_complete_79 rfl (lv_at hl 0 rfl) ?_
  refine gP_n S X dX1_complete_80 ?_
  refine mn_if_le (tgt := 97) hx hb (by omega) dX1_complete_83 (by decide) (fun c83 => ?_) (fun c83 => ?_)
  · skip
    refine lv_iconst (v := nI 0) hx hb dX1_complete_97 (by decide) ?_
    exact cZ_ret S hr hlk X (by omega) dX1_complete_98 ⟨oc, sc, ot, ow, rfl, Or.inr ⟨by rw [c83]; exact (show ¬ (1 : Nat) = 0 by decide), rfl⟩⟩
  · skip
    refine lv_aload_n hx hb dX1_complete_86 rfl (lv_at hl 0 rfl) ?_
    refine gP_oc S X dX1_complete_87 ?_
    refine mn_if_ne (tgt := 97) hx hb (by omega) dX1_complete_90 (by decide) (fun c90 => ?_) (fun c90 => ?_)
    · skip
      refine lv_iconst (v := nI 0) hx hb dX1_complete_97 (by decide) ?_
      exact cZ_ret S hr hlk X (by omega) dX1_complete_98 ⟨oc, sc, ot, ow, rfl, Or.inr ⟨fq_not hI (by omega), rfl⟩⟩
    · skip
      refine lv_iconst (v := nI 1) hx hb dX1_complete_93 (by decide) ?_
      refine lv_goto (tgt := 98) hx hb dX1_complete_94 (by decide) ?_
      exact cZ_ret S hr hlk X (by omega) dX1_complete_98 ⟨oc, sc, ot, ow, rfl, Or.inl ⟨(fq_end hI (by omega) c90).1, rfl, htk, hok, fq_end hI (by omega) c90⟩⟩
end
section
set_option maxRecDepth 100000
def fd_ (v : Int32) (tk : Nat → Nat) (n t : Nat) : Prop := v = nI t ∧ t ≤ 12 ∧ n < 14 ∧ ¬ fl_op tk n = 0
theorem nI_inj {x t : Nat} (hx : x < 2 ^ 31) (ht : t ≤ 1000) (h : nI x = nI t) : x = t := (nI_eq hx (by omega)).mp h
theorem nI_neg {v : Int32} (h : v < 0) {t : Nat} (ht : t ≤ 1000) : ¬ v = nI t := fun e => nI_pos (show t < 2 ^ 31 by omega) (by rw [← e]; exact h)
theorem fd_neg {v : Int32} {tk : Nat → Nat} {n t : Nat} (h : v < 0) : ¬ fd_ v tk n t := fun q => nI_neg h (show t ≤ 1000 by have := q.2.1; omega) q.1
theorem fd_big {x : Nat} {tk : Nat → Nat} {n t : Nat} (hx : x < 2 ^ 31) (h : 12 < x) : ¬ fd_ (nI x) tk n t := fun q => by
  have h1 := q.2.1
  have := nI_inj hx (by omega) q.1
  omega
set_option maxHeartbeats 4000000 in
theorem mP_feed (l : Launch) (D : va_G) (a : Nat → Nat) (kc : Nat → ClassId) (v : Int32) {w : Nat} {tk : Nat → Nat} {n : Nat} {sc ot ow : Nat → Nat} {oc : Nat} {fc : Nat → Nat} {ct jd : Nat} {ta : Nat → Int64} {vl vb me sn sv sm ss : Nat → Nat} (hn : n ≤ 14) (htk : ∀ k, tk k ≤ 12) (hok : fl_Ok tk n) : cI l D (tyP kc) yX1_feed cX1_feed 2 (some .int) (rm_ 2 44) [.ref (a 0), .int v] (pmW a kc w tk n sc ot ow oc fc ct jd ta vl vb me sn sv sm ss) (fun r w1 => (∃ t, fd_ v tk n t ∧ r = nI (n + 1) ∧ ∃ (oc : Nat) (sc ot ow : Nat → Nat), w1 = pmW a kc w (va_up tk n t) (n + 1) sc ot ow oc fc ct 0 ta vl vb me sn sv sm ss) ∨ ((∀ t, ¬ fd_ v tk n t) ∧ r = -1 ∧ ∃ (oc : Nat) (sc ot ow : Nat → Nat), w1 = pmW a kc w tk n sc ot ow oc fc ct jd ta vl vb me sn sv sm ss)) := by
  refine cI_of (by decide) (Nat.le_of_ble_eq_true rfl) ?_
  intro p e s m below meth c ls S hr hlk X hA hl
  have hx := S.1
  have hb := S.2.1
  have hl : lv_has ls 2 [(0, .ref (a 0)), (1, .int v)] := hl
  refine lv_iload_n hx hb dX1_feed_0 rfl (lv_at hl 1 rfl) ?_
  refine mi_if_lt (tgt := 26) hx hb dX1_feed_1 (by decide) (fun c1 => ?_) (fun x hx31 cx => ?_)
  · skip
    refine lv_iconst (v := (-1)) hx hb dX1_feed_26 (by decide) ?_
    exact cI_ret S hr hlk X dX1_feed_27 (Or.inr ⟨fun t => fd_neg c1, rfl, ⟨oc, sc, ot, ow, rfl⟩⟩)
  · subst cx
    refine lv_iload_n hx hb dX1_feed_4 rfl (lv_at hl 1 rfl) ?_
    refine lv_bipush (v := nI 12) hx hb dX1_feed_5 (by decide) ?_
    refine mn_icmp_gt (tgt := 26) hx hb (by omega) (by omega) dX1_feed_7 (by decide) (fun c7 => ?_) (fun c7 => ?_)
    · skip
      refine lv_iconst (v := (-1)) hx hb dX1_feed_26 (by decide) ?_
      exact cI_ret S hr hlk X dX1_feed_27 (Or.inr ⟨fun t q => by first | exact fd_big hx31 (by omega) q | (have := q.2.2.1; omega), rfl, ⟨oc, sc, ot, ow, rfl⟩⟩)
    · skip
      refine lv_aload_n hx hb dX1_feed_10 rfl (lv_at hl 0 rfl) ?_
      refine gP_n S X dX1_feed_11 ?_
      refine lv_bipush (v := nI 14) hx hb dX1_feed_14 (by decide) ?_
      refine mn_icmp_ge (tgt := 26) hx hb (by omega) (by omega) dX1_feed_16 (by decide) (fun c16 => ?_) (fun c16 => ?_)
      · skip
        refine lv_iconst (v := (-1)) hx hb dX1_feed_26 (by decide) ?_
        exact cI_ret S hr hlk X dX1_feed_27 (Or.inr ⟨fun t q => by first | exact fd_big hx31 (by omega) q | (have := q.2.2.1; omega), rfl, ⟨oc, sc, ot, ow, rfl⟩⟩)
      · skip
        refine lv_aload_n hx hb dX1_feed_19 rfl (lv_at hl 0 rfl) ?_
        refine cI_call (n := 0) (As := []) (rest := []) S X hA (mP_complete l D a kc hn htk hok) (lw_V q86 q87 q88 q13 q89) rfl rfl (by decide +kernel) ⟨Nat.le_of_ble_eq_true rfl, Nat.le_of_ble_eq_true rfl⟩ rfl rfl hl.1 rfl rfl (by decide) dX1_feed_20 ⟨Nat.zero_le _, Nat.zero_le _⟩ (fun r w1 H locs hq X => ?_)
        obtain ⟨oc1, sc1, ot1, ow1, rfl, hq⟩ := hq
        rcases hq with ⟨hq1, rfl, hq2⟩ | ⟨hq1, rfl⟩
        · skip
          refine mn_if_eq (tgt := 28) hx hb (by decide) dX1_feed_23 (by decide) (fun c23 => absurd c23 (by decide)) (fun c23 => ?_)
          refine lv_iconst (v := (-1)) hx hb dX1_feed_26 (by decide) ?_
          exact cI_ret S hr hlk X dX1_feed_27 (Or.inr ⟨fun t q => q.2.2.2 hq1, rfl, ⟨oc1, sc1, ot1, ow1, rfl⟩⟩)
        · skip
          refine mn_if_eq (tgt := 28) hx hb (by decide) dX1_feed_23 (by decide) (fun c23 => ?_) (fun c23 => absurd rfl c23)
          refine lv_aload_n hx hb dX1_feed_28 rfl (lv_at hl 0 rfl) ?_
          refine gP_tk S X dX1_feed_29 ?_
          refine lv_aload_n hx hb dX1_feed_32 rfl (lv_at hl 0 rfl) ?_
          refine gP_n S X dX1_feed_33 ?_
          refine lv_iload_n hx hb dX1_feed_36 rfl (lv_at hl 1 rfl) ?_
          refine lv_i2b (v := nI x) hx hb dX1_feed_37 (mo_byte _ (by omega)) ?_
          refine sP_tk (by omega) S X (by omega) dX1_feed_38 (fun H locs X => ?_)
          refine lv_aload_n hx hb dX1_feed_39 rfl (lv_at hl 0 rfl) ?_
          refine lv_dup hx hb dX1_feed_40 rfl ?_
          refine gP_n S X dX1_feed_41 ?_
          refine lv_iconst (v := nI 1) hx hb dX1_feed_44 (by decide) ?_
          refine mn_iadd hx hb dX1_feed_45 ?_
          refine pP_n S X dX1_feed_46 (fun H locs X => ?_)
          refine lv_aload_n hx hb dX1_feed_49 rfl (lv_at hl 0 rfl) ?_
          refine lv_iconst (v := nI 0) hx hb dX1_feed_50 (by decide) ?_
          refine pP_jd S X dX1_feed_51 (fun H locs X => ?_)
          refine lv_aload_n hx hb dX1_feed_54 rfl (lv_at hl 0 rfl) ?_
          refine gP_n S X dX1_feed_55 ?_
          exact cI_ret S hr hlk X dX1_feed_58 (Or.inl ⟨x, ⟨rfl, by omega, by omega, hq1⟩, rfl, oc1, sc1, ot1, ow1, rfl⟩)
set_option maxHeartbeats 4000000 in
theorem mP_back (l : Launch) (D : va_G) (a : Nat → Nat) (kc : Nat → ClassId) {w : Nat} {tk : Nat → Nat} {n : Nat} {sc ot ow : Nat → Nat} {oc : Nat} {fc : Nat → Nat} {ct jd : Nat} {ta : Nat → Int64} {vl vb me sn sv sm ss : Nat → Nat} (hn : n ≤ 14) : cI l D (tyP kc) yX1_back cX1_back 1 (some .int) (rm_ 0 0) [.ref (a 0)] (pmW a kc w tk n sc ot ow oc fc ct jd ta vl vb me sn sv sm ss) (fun r w1 => (n = 0 ∧ r = -1 ∧ w1 = pmW a kc w tk n sc ot ow oc fc ct jd ta vl vb me sn sv sm ss) ∨ (0 < n ∧ r = nI (tk (n - 1)) ∧ w1 = pmW a kc w tk (n - 1) sc ot ow oc fc ct 0 ta vl vb me sn sv sm ss)) := by
  refine cI_of (by decide) (Nat.le_of_ble_eq_true rfl) ?_
  intro p e s m below meth c ls S hr hlk X hA hl
  have hx := S.1
  have hb := S.2.1
  have hl : lv_has ls 1 [(0, .ref (a 0))] := hl
  refine lv_aload_n hx hb dX1_back_0 rfl (lv_at hl 0 rfl) ?_
  refine gP_n S X dX1_back_1 ?_
  refine mn_if_ne (tgt := 9) hx hb (by omega) dX1_back_4 (by decide) (fun c4 => ?_) (fun c4 => ?_)
  · skip
    refine lv_aload_n hx hb dX1_back_9 rfl (lv_at hl 0 rfl) ?_
    refine lv_dup hx hb dX1_back_10 rfl ?_
    refine gP_n S X dX1_back_11 ?_
    refine lv_iconst (v := nI 1) hx hb dX1_back_14 (by decide) ?_
    refine mn_isub hx hb (by omega) dX1_back_15 ?_
    refine pP_n S X dX1_back_16 (fun H locs X => ?_)
    refine lv_aload_n hx hb dX1_back_19 rfl (lv_at hl 0 rfl) ?_
    refine lv_iconst (v := nI 0) hx hb dX1_back_20 (by decide) ?_
    refine pP_jd S X dX1_back_21 (fun H locs X => ?_)
    refine lv_aload_n hx hb dX1_back_24 rfl (lv_at hl 0 rfl) ?_
    refine gP_tk S X dX1_back_25 ?_
    refine lv_aload_n hx hb dX1_back_28 rfl (lv_at hl 0 rfl) ?_
    refine gP_n S X dX1_back_29 ?_
    refine lP_tk S X (by omega) dX1_back_32 ?_
    exact cI_ret S hr hlk X dX1_back_33 (Or.inr ⟨by omega, rfl, rfl⟩)
  · skip
    refine lv_iconst (v := (-1)) hx hb dX1_back_7 (by decide) ?_
    exact cI_ret S hr hlk X dX1_back_8 (Or.inl ⟨by omega, rfl, rfl⟩)
set_option maxHeartbeats 4000000 in
theorem mP_window (l : Launch) (D : va_G) (a : Nat → Nat) (kc : Nat → ClassId) {w : Nat} {tk : Nat → Nat} {n : Nat} {sc ot ow : Nat → Nat} {oc : Nat} {fc : Nat → Nat} {ct jd : Nat} {ta : Nat → Int64} {vl vb me sn sv sm ss : Nat → Nat} : cI l D (tyP kc) yX1_window cX1_window 1 (some .int) (rm_ 0 0) [.ref (a 0)] (pmW a kc w tk n sc ot ow oc fc ct jd ta vl vb me sn sv sm ss) (fun r w1 => r = nI w ∧ w1 = pmW a kc w tk n sc ot ow oc fc ct jd ta vl vb me sn sv sm ss) := by
  refine cI_of (by decide) (Nat.le_of_ble_eq_true rfl) ?_
  intro p e s m below meth c ls S hr hlk X hA hl
  have hx := S.1
  have hb := S.2.1
  have hl : lv_has ls 1 [(0, .ref (a 0))] := hl
  refine lv_aload_n hx hb dX1_window_0 rfl (lv_at hl 0 rfl) ?_
  refine gP_w S X dX1_window_1 ?_
  exact cI_ret S hr hlk X dX1_window_4 ⟨rfl, rfl⟩
set_option maxHeartbeats 4000000 in
theorem mP_events (l : Launch) (D : va_G) (a : Nat → Nat) (kc : Nat → ClassId) {w : Nat} {tk : Nat → Nat} {n : Nat} {sc ot ow : Nat → Nat} {oc : Nat} {fc : Nat → Nat} {ct jd : Nat} {ta : Nat → Int64} {vl vb me sn sv sm ss : Nat → Nat} : cI l D (tyP kc) yX1_events cX1_events 1 (some .int) (rm_ 0 0) [.ref (a 0)] (pmW a kc w tk n sc ot ow oc fc ct jd ta vl vb me sn sv sm ss) (fun r w1 => r = nI ct ∧ w1 = pmW a kc w tk n sc ot ow oc fc ct jd ta vl vb me sn sv sm ss) := by
  refine cI_of (by decide) (Nat.le_of_ble_eq_true rfl) ?_
  intro p e s m below meth c ls S hr hlk X hA hl
  have hx := S.1
  have hb := S.2.1
  have hl : lv_has ls 1 [(0, .ref (a 0))] := hl
  refine lv_aload_n hx hb dX1_events_0 rfl (lv_at hl 0 rfl) ?_
  refine gP_ct S X dX1_events_1 ?_
  exact cI_ret S hr hlk X dX1_events_4 ⟨rfl, rfl⟩
set_option maxHeartbeats 4000000 in
theorem mP_event (l : Launch) (D : va_G) (a : Nat → Nat) (kc : Nat → ClassId) (v : Int32) {w : Nat} {tk : Nat → Nat} {n : Nat} {sc ot ow : Nat → Nat} {oc : Nat} {fc : Nat → Nat} {ct jd : Nat} {ta : Nat → Int64} {vl vb me sn sv sm ss : Nat → Nat} (hct : ct ≤ 200) : cI l D (tyP kc) yX1_event cX1_event 2 (some .int) (rm_ 0 0) [.ref (a 0), .int v] (pmW a kc w tk n sc ot ow oc fc ct jd ta vl vb me sn sv sm ss) (fun r w1 => (∃ t, v = nI t ∧ t ≤ 15 ∧ ct < 200 ∧ r = nI ct ∧ w1 = pmW a kc w tk n sc ot ow oc (va_up fc ct t) (ct + 1) jd ta vl vb me sn sv sm ss) ∨ ((∃ t, v = nI t ∧ t ≤ 15) ∧ 200 ≤ ct ∧ r = -2 ∧ w1 = pmW a kc w tk n sc ot ow oc fc ct jd ta vl vb me sn sv sm ss) ∨ ((∀ t, ¬ (v = nI t ∧ t ≤ 15)) ∧ r = -1 ∧ w1 = pmW a kc w tk n sc ot ow oc fc ct jd ta vl vb me sn sv sm ss)) := by
  refine cI_of (by decide) (Nat.le_of_ble_eq_true rfl) ?_
  intro p e s m below meth c ls S hr hlk X hA hl
  have hx := S.1
  have hb := S.2.1
  have hl : lv_has ls 2 [(0, .ref (a 0)), (1, .int v)] := hl
  refine lv_iload_n hx hb dX1_event_0 rfl (lv_at hl 1 rfl) ?_
  refine mi_if_lt (tgt := 10) hx hb dX1_event_1 (by decide) (fun c1 => ?_) (fun x hx31 cx => ?_)
  · skip
    refine lv_iconst (v := (-1)) hx hb dX1_event_10 (by decide) ?_
    exact cI_ret S hr hlk X dX1_event_11 (Or.inr (Or.inr ⟨fun t e => nI_neg c1 (show t ≤ 1000 by have := e.2; omega) e.1, rfl, rfl⟩))
  · subst cx
    refine lv_iload_n hx hb dX1_event_4 rfl (lv_at hl 1 rfl) ?_
    refine lv_bipush (v := nI 15) hx hb dX1_event_5 (by decide) ?_
    refine mn_icmp_le (tgt := 12) hx hb (by omega) (by omega) dX1_event_7 (by decide) (fun c7 => ?_) (fun c7 => ?_)
    · skip
      refine lv_aload_n hx hb dX1_event_12 rfl (lv_at hl 0 rfl) ?_
      refine gP_ct S X dX1_event_13 ?_
      refine lv_sipush (v := nI 200) hx hb dX1_event_16 (by decide) ?_
      refine mn_icmp_lt (tgt := 25) hx hb (by omega) (by omega) dX1_event_19 (by decide) (fun c19 => ?_) (fun c19 => ?_)
      · skip
        refine lv_aload_n hx hb dX1_event_25 rfl (lv_at hl 0 rfl) ?_
        refine gP_fc S X dX1_event_26 ?_
        refine lv_aload_n hx hb dX1_event_29 rfl (lv_at hl 0 rfl) ?_
        refine gP_ct S X dX1_event_30 ?_
        refine lv_iload_n hx hb dX1_event_33 rfl (lv_at hl 1 rfl) ?_
        refine lv_i2b (v := nI x) hx hb dX1_event_34 (mo_byte _ (by omega)) ?_
        refine sP_fc (by omega) S X (by omega) dX1_event_35 (fun H locs X => ?_)
        refine lv_aload_n hx hb dX1_event_36 rfl (lv_at hl 0 rfl) ?_
        refine lv_dup hx hb dX1_event_37 rfl ?_
        refine gP_ct S X dX1_event_38 ?_
        refine lv_iconst (v := nI 1) hx hb dX1_event_41 (by decide) ?_
        refine mn_iadd hx hb dX1_event_42 ?_
        refine pP_ct S X dX1_event_43 (fun H locs X => ?_)
        refine lv_aload_n hx hb dX1_event_46 rfl (lv_at hl 0 rfl) ?_
        refine gP_ct S X dX1_event_47 ?_
        refine lv_iconst (v := nI 1) hx hb dX1_event_50 (by decide) ?_
        refine mn_isub hx hb (by omega) dX1_event_51 ?_
        exact cI_ret S hr hlk X dX1_event_52 (Or.inl ⟨x, rfl, by omega, by omega, congrArg nI (by omega), rfl⟩)
      · skip
        refine lv_bipush (v := (-2)) hx hb dX1_event_22 (by decide) ?_
        exact cI_ret S hr hlk X dX1_event_24 (Or.inr (Or.inl ⟨⟨x, rfl, by omega⟩, by omega, rfl, rfl⟩))
    · skip
      refine lv_iconst (v := (-1)) hx hb dX1_event_10 (by decide) ?_
      exact cI_ret S hr hlk X dX1_event_11 (Or.inr (Or.inr ⟨fun t e => by have h1 := e.2; have := nI_inj hx31 (by omega) e.1; omega, rfl, rfl⟩))
set_option maxHeartbeats 4000000 in
theorem mP_undo (l : Launch) (D : va_G) (a : Nat → Nat) (kc : Nat → ClassId) {w : Nat} {tk : Nat → Nat} {n : Nat} {sc ot ow : Nat → Nat} {oc : Nat} {fc : Nat → Nat} {ct jd : Nat} {ta : Nat → Int64} {vl vb me sn sv sm ss : Nat → Nat} (hct : ct ≤ 200) (hjd : jd ≤ 200) : cI l D (tyP kc) yX1_undo cX1_undo 1 (some .int) (rm_ 0 0) [.ref (a 0)] (pmW a kc w tk n sc ot ow oc fc ct jd ta vl vb me sn sv sm ss) (fun r w1 => (ct = 0 ∧ r = -1 ∧ w1 = pmW a kc w tk n sc ot ow oc fc ct jd ta vl vb me sn sv sm ss) ∨ (0 < ct ∧ r = nI (ct - 1) ∧ w1 = pmW a kc w tk n sc ot ow oc fc (ct - 1) (if ct - 1 < jd then 0 else jd) ta vl vb me sn sv sm ss)) := by
  refine cI_of (by decide) (Nat.le_of_ble_eq_true rfl) ?_
  intro p e s m below meth c ls S hr hlk X hA hl
  have hx := S.1
  have hb := S.2.1
  have hl : lv_has ls 1 [(0, .ref (a 0))] := hl
  refine lv_aload_n hx hb dX1_undo_0 rfl (lv_at hl 0 rfl) ?_
  refine gP_ct S X dX1_undo_1 ?_
  refine mn_if_ne (tgt := 9) hx hb (by omega) dX1_undo_4 (by decide) (fun c4 => ?_) (fun c4 => ?_)
  · skip
    refine lv_aload_n hx hb dX1_undo_9 rfl (lv_at hl 0 rfl) ?_
    refine lv_dup hx hb dX1_undo_10 rfl ?_
    refine gP_ct S X dX1_undo_11 ?_
    refine lv_iconst (v := nI 1) hx hb dX1_undo_14 (by decide) ?_
    refine mn_isub hx hb (by omega) dX1_undo_15 ?_
    refine pP_ct S X dX1_undo_16 (fun H locs X => ?_)
    refine lv_aload_n hx hb dX1_undo_19 rfl (lv_at hl 0 rfl) ?_
    refine gP_jd S X dX1_undo_20 ?_
    refine lv_aload_n hx hb dX1_undo_23 rfl (lv_at hl 0 rfl) ?_
    refine gP_ct S X dX1_undo_24 ?_
    refine mn_icmp_le (tgt := 35) hx hb (by omega) (by omega) dX1_undo_27 (by decide) (fun c27 => ?_) (fun c27 => ?_)
    · skip
      refine lv_aload_n hx hb dX1_undo_35 rfl (lv_at hl 0 rfl) ?_
      refine gP_ct S X dX1_undo_36 ?_
      exact cI_ret S hr hlk X dX1_undo_39 (Or.inr ⟨by omega, rfl, by rw [if_neg (by omega)]⟩)
    · skip
      refine lv_aload_n hx hb dX1_undo_30 rfl (lv_at hl 0 rfl) ?_
      refine lv_iconst (v := nI 0) hx hb dX1_undo_31 (by decide) ?_
      refine pP_jd S X dX1_undo_32 (fun H locs X => ?_)
      refine lv_aload_n hx hb dX1_undo_35 rfl (lv_at hl 0 rfl) ?_
      refine gP_ct S X dX1_undo_36 ?_
      exact cI_ret S hr hlk X dX1_undo_39 (Or.inr ⟨by omega, rfl, by rw [if_pos (by omega)]⟩)
  · skip
    refine lv_iconst (v := (-1)) hx hb dX1_undo_7 (by decide) ?_
    exact cI_ret S hr hlk X dX1_undo_8 (Or.inl ⟨by omega, rfl, rfl⟩)
set_option maxHeartbeats 4000000 in
theorem mP_restart (l : Launch) (D : va_G) (a : Nat → Nat) (kc : Nat → ClassId) {w : Nat} {tk : Nat → Nat} {n : Nat} {sc ot ow : Nat → Nat} {oc : Nat} {fc : Nat → Nat} {ct jd : Nat} {ta : Nat → Int64} {vl vb me sn sv sm ss : Nat → Nat} : cV l D (tyP kc) yX1_restart cX1_restart 1 (rm_ 0 0) [.ref (a 0)] (pmW a kc w tk n sc ot ow oc fc ct jd ta vl vb me sn sv sm ss) (fun w1 => w1 = pmW a kc w tk n sc ot ow oc fc 0 0 ta vl vb me sn sv sm ss) := by
  refine cV_of (by decide) (Nat.le_of_ble_eq_true rfl) ?_
  intro p e s m below meth c ls S hr hlk X hA hl
  have hx := S.1
  have hb := S.2.1
  have hl : lv_has ls 1 [(0, .ref (a 0))] := hl
  refine lv_aload_n hx hb dX1_restart_0 rfl (lv_at hl 0 rfl) ?_
  refine lv_iconst (v := nI 0) hx hb dX1_restart_1 (by decide) ?_
  refine pP_ct S X dX1_restart_2 (fun H locs X => ?_)
  refine lv_aload_n hx hb dX1_restart_5 rfl (lv_at hl 0 rfl) ?_
  refine lv_iconst (v := nI 0) hx hb dX1_restart_6 (by decide) ?_
  refine pP_jd S X dX1_restart_7 (fun H locs X => ?_)
  exact cV_ret S hr hlk X dX1_restart_10 rfl
end
section
set_option maxRecDepth 100000
theorem ts_bit {w : Int64} {s : UInt64} {j : Nat} (hj : j < 64) (hs : s.toNat = j) : ((w.toUInt64 >>> s).toInt64 &&& 1) = 0 ↔ w.toBitVec.getLsbD j = false := by
  have e : (w.toUInt64 >>> s).toInt64.toBitVec = w.toBitVec >>> j := by
    apply BitVec.eq_of_toNat_eq
    show (w.toUInt64 >>> s).toNat = _
    rw [UInt64.toNat_shiftRight, hs, Nat.mod_eq_of_lt hj, BitVec.toNat_ushiftRight]
    rfl
  rw [← Int64.toBitVec_inj, Int64.toBitVec_and, e]
  show w.toBitVec >>> j &&& 1#64 = 0#64 ↔ _
  constructor
  · intro h
    have t := congrArg (fun x => x.getLsbD 0) h
    simpa using t
  · intro h
    apply BitVec.eq_of_getLsbD_eq
    intro i hi
    cases i with
    | zero => simp [h]
    | succ i => simp
/-- the bit of event t: 0 or 1 -/
def tb_ (ta : Nat → Int64) (t : Nat) : Nat := ((ta (t / 64)).toBitVec.getLsbD (t % 64)).toNat
theorem tb_lt (ta : Nat → Int64) (t : Nat) : tb_ ta t < 2 := by
  unfold tb_
  cases (ta (t / 64)).toBitVec.getLsbD (t % 64) <;> decide
theorem tb_sh : ∀ k, k < 64 → ((nI k).toInt64.toUInt64 &&& Int64.toUInt64 63).toNat = k := by decide +kernel
theorem tb_pw : ∀ k, k < 64 → ((1 : Int64) <<< ((nI k).toInt64 &&& 63)).toBitVec = BitVec.twoPow 64 k := by decide +kernel
theorem tb_iff {ta : Nat → Int64} {t : Nat} : lg_cmp (((ta (t / 64)).toUInt64 >>> ((nI (t % 64)).toInt64.toUInt64 &&& Int64.toUInt64 63)).toInt64 &&& 1) 0 = 0 ↔ tb_ ta t = 0 := by
  have h : t % 64 < 64 := Nat.mod_lt _ (by decide)
  rw [lg_cmp_eq, ts_bit h (tb_sh _ h)]
  unfold tb_
  cases (ta (t / 64)).toBitVec.getLsbD (t % 64) <;> decide
theorem tb_set {ta : Nat → Int64} {j : Nat} {v : Int64} (hv : ∀ i, i < 64 → v.toBitVec.getLsbD i = if i = j % 64 then true else (ta (j / 64)).toBitVec.getLsbD i) : tb_ (vp_updL ta (j / 64) v) j = 1 ∧ ∀ t, t ≠ j → tb_ (vp_updL ta (j / 64) v) t = tb_ ta t := by
  constructor
  · unfold tb_ vp_updL
    rw [if_pos rfl, hv _ (Nat.mod_lt _ (by decide)), if_pos rfl]
    rfl
  · intro t ht
    unfold tb_ vp_updL
    by_cases e : t / 64 = j / 64
    · rw [if_pos e, hv _ (Nat.mod_lt _ (by decide)), if_neg (by omega), e]
    · rw [if_neg e]
theorem tb_clr {ta : Nat → Int64} {j : Nat} {v : Int64} (hv : ∀ i, i < 64 → v.toBitVec.getLsbD i = if i = j % 64 then false else (ta (j / 64)).toBitVec.getLsbD i) : tb_ (vp_updL ta (j / 64) v) j = 0 ∧ ∀ t, t ≠ j → tb_ (vp_updL ta (j / 64) v) t = tb_ ta t := by
  constructor
  · unfold tb_ vp_updL
    rw [if_pos rfl, hv _ (Nat.mod_lt _ (by decide)), if_pos rfl]
    rfl
  · intro t ht
    unfold tb_ vp_updL
    by_cases e : t / 64 = j / 64
    · rw [if_pos e, hv _ (Nat.mod_lt _ (by decide)), if_neg (by omega), e]
    · rw [if_neg e]
theorem tb_or {w : Int64} {k : Nat} (hk : k < 64) : ∀ i, i < 64 → (w ||| ((1 : Int64) <<< ((nI k).toInt64 &&& 63))).toBitVec.getLsbD i = if i = k then true else w.toBitVec.getLsbD i := by
  intro i hi
  rw [Int64.toBitVec_or, tb_pw k hk, BitVec.getLsbD_or, BitVec.getLsbD_twoPow]
  by_cases e : i = k
  · subst e
    simp [hi]
  · have e2 : ¬ k = i := fun z => e z.symm
    simp [e, e2]
theorem tb_and {w : Int64} {k : Nat} (hk : k < 64) : ∀ i, i < 64 → (w &&& (((1 : Int64) <<< ((nI k).toInt64 &&& 63)) ^^^ (-1))).toBitVec.getLsbD i = if i = k then false else w.toBitVec.getLsbD i := by
  intro i hi
  have e0 : (-1 : Int64).toBitVec = BitVec.allOnes 64 := by decide
  rw [Int64.toBitVec_and, Int64.toBitVec_xor, tb_pw k hk, e0, BitVec.getLsbD_and, BitVec.getLsbD_xor, BitVec.getLsbD_twoPow, BitVec.getLsbD_allOnes]
  by_cases e : i = k
  · subst e
    simp [hi]
  · have e2 : ¬ k = i := fun z => e z.symm
    simp [e, e2, hi]
theorem mo_bit : ∀ s, s < 16 → ∀ q, q < 4 → ((nI s >>> (nI q &&& 31)) &&& nI 1) = nI (s / 2 ^ q % 2) := by decide +kernel
theorem mo_or {x y : Nat} (hx : x < 2) (hy : y < 2) : nI x ||| nI y = nI (if x = 1 ∨ y = 1 then 1 else 0) := by
  have h : ∀ x, x < 2 → ∀ y, y < 2 → nI x ||| nI y = nI (if x = 1 ∨ y = 1 then 1 else 0) := by decide +kernel
  exact h x hx y hy
theorem mo_and {x y : Nat} (hx : x < 2) (hy : y < 2) : nI x &&& nI y = nI (if x = 1 ∧ y = 1 then 1 else 0) := by
  have h : ∀ x, x < 2 → ∀ y, y < 2 → nI x &&& nI y = nI (if x = 1 ∧ y = 1 then 1 else 0) := by decide +kernel
  exact h x hx y hy
theorem mm_lt {x : Nat} (hx : x < 2 ^ 31) : nI x - 1 < 0 ↔ x = 0 := by
  cases x with
  | zero => exact ⟨fun _ => rfl, fun _ => by decide⟩
  | succ y =>
    rw [nI_pred]
    exact ⟨fun h => absurd h (nI_pos (by omega)), fun h => absurd h (by omega)⟩
theorem up3 {P : Nat → Nat → Nat → Nat → Prop} {f g h : Nat → Nat} {k x y z : Nat} (h0 : ∀ j, j < k → P j (f j) (g j) (h j)) (h1 : P k x y z) : ∀ j, j < k + 1 → P j (va_up f k x j) (va_up g k y j) (va_up h k z j) := by
  intro j hj
  by_cases e : j = k
  · subst e
    rw [va_up_self, va_up_self, va_up_self]
    exact h1
  · rw [va_up_ne f _ e, va_up_ne g _ e, va_up_ne h _ e]
    exact h0 j (by omega)
section RMM
variable {p : Program} {l : Launch} {e : Env} {R : Room} {s : State} {m : MethodId} {args : Array Value} {below : List Frame} {meth : Method} {c : Code} {H : Heap} {locs : List Loc} {cells slots : Nat} {Q : State → Prop} {cc : ByteArray} {pc nL : Nat} {ls : Array Slot} {rest : List Value}
theorem mm_eq {x y : Nat} (h : x = y) (k : W p l e R s m args below meth c H locs cells slots Q (F0 m pc ls (.int (nI y - 1) :: rest))) : W p l e R s m args below meth c H locs cells slots Q (F0 m pc ls (.int (nI x - 1) :: rest)) := by rw [h]; exact k
theorem mm_nat {x : Nat} (h : 1 ≤ x) (k : W p l e R s m args below meth c H locs cells slots Q (F0 m pc ls (.int (nI (x - 1)) :: rest))) : W p l e R s m args below meth c H locs cells slots Q (F0 m pc ls (.int (nI x - 1) :: rest)) := by
  have e1 : nI x - 1 = nI (x - 1) := by
    obtain ⟨y, rfl⟩ : ∃ y, x = y + 1 := ⟨x - 1, by omega⟩
    exact nI_pred y
  rw [e1]
  exact k
theorem mm_if_lt (hexec : p.tables.exec = Jvm.exec) (hb : c.code = cc) {x : Nat} (hx : x < 2 ^ 31) {off : Int} {tgt : Nat} (hdg : decode cc pc = .ok (.ifCond .lt off, 3)) (ht : (pc : Int) + off = (tgt : Int)) (kt : x = 0 → W p l e R s m args below meth c H locs cells slots Q (F0 m tgt ls rest)) (kf : 1 ≤ x → W p l e R s m args below meth c H locs cells slots Q (F0 m (pc + 3) ls rest)) : W p l e R s m args below meth c H locs cells slots Q (F0 m pc ls (.int (nI x - 1) :: rest)) := lv_if_lt hexec hb hdg ht (fun h => kt ((mm_lt hx).mp h)) (fun h => kf (by have h2 := mt (mm_lt hx).mpr h; omega))
end RMM
set_option maxHeartbeats 4000000 in
theorem mP_wasTrue (l : Launch) (D : va_G) (a : Nat → Nat) (kc : Nat → ClassId) {t : Nat} {w : Nat} {tk : Nat → Nat} {n : Nat} {sc ot ow : Nat → Nat} {oc : Nat} {fc : Nat → Nat} {ct jd : Nat} {ta : Nat → Int64} {vl vb me sn sv sm ss : Nat → Nat} (ht : t < 256) : cI l D (tyP kc) yX1_wasTrue cX1_wasTrue 2 (some .boolean) (rm_ 0 0) [.ref (a 0), .int (nI t)] (pmW a kc w tk n sc ot ow oc fc ct jd ta vl vb me sn sv sm ss) (fun r w1 => r = nI (tb_ ta t) ∧ w1 = pmW a kc w tk n sc ot ow oc fc ct jd ta vl vb me sn sv sm ss) := by
  refine cI_of (by decide) (Nat.le_of_ble_eq_true rfl) ?_
  intro p e s m below meth c ls S hr hlk X hA hl
  have hx := S.1
  have hb := S.2.1
  have hl : lv_has ls 2 [(0, .ref (a 0)), (1, .int (nI t))] := hl
  refine lv_aload_n hx hb dX1_wasTrue_0 rfl (lv_at hl 0 rfl) ?_
  refine gP_ta S X dX1_wasTrue_1 ?_
  refine lv_iload_n hx hb dX1_wasTrue_4 rfl (lv_at hl 1 rfl) ?_
  refine lv_bipush (v := nI 6) hx hb dX1_wasTrue_5 (by decide) ?_
  refine lv_ishr hx hb dX1_wasTrue_7 ?_
  refine mi_eq (y := nI (t / 64)) (pk_shrN (by omega) _ 6 (by decide)) ?_
  refine lP_ta S X (by omega) dX1_wasTrue_8 ?_
  refine lv_iload_n hx hb dX1_wasTrue_9 rfl (lv_at hl 1 rfl) ?_
  refine lv_bipush (v := nI 63) hx hb dX1_wasTrue_10 (by decide) ?_
  refine lv_iand hx hb dX1_wasTrue_12 ?_
  refine mi_eq (y := nI (t % 64)) (pk_andN (by omega) 6 (by decide)) ?_
  refine lv_lushr (v := ((ta (t / 64)).toUInt64 >>> ((nI (t % 64)).toInt64.toUInt64 &&& Int64.toUInt64 63)).toInt64) hx hb dX1_wasTrue_13 rfl ?_
  refine lv_lconst (v := 1) hx hb dX1_wasTrue_14 (by decide) ?_
  refine lv_land hx hb dX1_wasTrue_15 ?_
  refine lv_lconst (v := 0) hx hb dX1_wasTrue_16 (by decide) ?_
  refine W.lcmp hx hb dX1_wasTrue_17 ?_
  refine lv_if_eq (tgt := 25) hx hb dX1_wasTrue_18 (by decide) (fun c18 => ?_) (fun c18 => ?_)
  · have c18 := tb_iff.mp c18
    refine lv_iconst (v := nI 0) hx hb dX1_wasTrue_25 (by decide) ?_
    exact cZ_ret S hr hlk X (by omega) dX1_wasTrue_26 ⟨congrArg nI (show 0 = tb_ ta t by have := tb_lt ta t; omega), rfl⟩
  · have c18 := mt tb_iff.mpr c18
    refine lv_iconst (v := nI 1) hx hb dX1_wasTrue_21 (by decide) ?_
    refine lv_goto (tgt := 26) hx hb dX1_wasTrue_22 (by decide) ?_
    exact cZ_ret S hr hlk X (by omega) dX1_wasTrue_26 ⟨congrArg nI (show 1 = tb_ ta t by have := tb_lt ta t; omega), rfl⟩
section BGN
variable {p : Program} {l : Launch} {e : Env} {R : Room} {s : State} {m : MethodId} {args : Array Value} {below : List Frame} {meth : Method} {c : Code} {Q : State → Prop} {D : va_G} {A : Nat → Prop} {a : Nat → Nat} {kc : Nat → ClassId}
set_option maxHeartbeats 4000000 in
theorem lpP_begin {w : Nat} {tk : Nat → Nat} {n : Nat} {sc ot ow : Nat → Nat} {oc : Nat} {fc : Nat → Nat} {ct jd : Nat} {ta : Nat → Int64} {vb sv sm ss : Nat → Nat} (htk : ∀ k, tk k ≤ 12) (S : CallFix p m c cX1_begin 2 s args lw_all RX1)
    (K : ∀ (vl me sn : Nat → Nat) (H : Heap) (locs : List Loc) (ls : Array Slot), (∀ j, j < 14 → vl j = 0 ∧ me j = (if tk j = 9 then 1 else 0) ∧ sn j = 0) → wX D (tyP kc) A s H locs (pmW a kc w tk n sc ot ow oc fc ct jd ta vl vb me sn sv sm ss) → lv_has ls 2 [(0, .ref (a 0))] → W p l e R s m args below meth c H locs 0 0 Q (F0 m 50 ls [])) :
    ∀ (d k : Nat) (vl me sn : Nat → Nat) (H : Heap) (locs : List Loc) (ls : Array Slot), 14 - k < d → k ≤ 14 → (∀ j, j < k → vl j = 0 ∧ me j = (if tk j = 9 then 1 else 0) ∧ sn j = 0) → wX D (tyP kc) A s H locs (pmW a kc w tk n sc ot ow oc fc ct jd ta vl vb me sn sv sm ss) → lv_has ls 2 [(1, .int (nI k)), (0, .ref (a 0))] → W p l e R s m args below meth c H locs 0 0 Q (F0 m 2 ls []) := by
  have hx := S.1
  have hb := S.2.1
  intro d
  induction d with
  | zero =>
    intro k vl me sn H locs ls hd
    omega
  | succ d ih =>
    intro k vl me sn H locs ls hd hk hI X hl
    have htkk := htk k
    refine lv_iload_n hx hb dX1_begin_2 rfl (lv_at hl 0 rfl) ?_
    refine lv_bipush (v := nI 14) hx hb dX1_begin_3 (by decide) ?_
    refine mn_icmp_ge (tgt := 50) hx hb (by omega) (by omega) dX1_begin_5 (by decide) (fun c5 => ?_) (fun c5 => ?_)
    · skip
      have e0 : k = 14 := by omega
      subst e0
      exact K vl me sn H locs ls hI X (lv_sub hl [1] rfl)
    · skip
      refine lv_aload_n hx hb dX1_begin_8 rfl (lv_at hl 1 rfl) ?_
      refine gP_vl S X dX1_begin_9 ?_
      refine lv_iload_n hx hb dX1_begin_12 rfl (lv_at hl 0 rfl) ?_
      refine lv_iconst (v := nI 0) hx hb dX1_begin_13 (by decide) ?_
      refine sP_vl (by omega) S X (by omega) dX1_begin_14 (fun H locs X => ?_)
      refine lv_aload_n hx hb dX1_begin_15 rfl (lv_at hl 1 rfl) ?_
      refine gP_me S X dX1_begin_16 ?_
      refine lv_iload_n hx hb dX1_begin_19 rfl (lv_at hl 0 rfl) ?_
      refine lv_aload_n hx hb dX1_begin_20 rfl (lv_at hl 1 rfl) ?_
      refine gP_tk S X dX1_begin_21 ?_
      refine lv_iload_n hx hb dX1_begin_24 rfl (lv_at hl 0 rfl) ?_
      refine lP_tk S X (by omega) dX1_begin_25 ?_
      refine lv_bipush (v := nI 9) hx hb dX1_begin_26 (by decide) ?_
      refine mn_icmp_ne (tgt := 35) hx hb (by omega) (by omega) dX1_begin_28 (by decide) (fun c28 => ?_) (fun c28 => ?_)
      · skip
        refine lv_iconst (v := nI 0) hx hb dX1_begin_35 (by decide) ?_
        refine sP_me (by omega) S X (by omega) dX1_begin_36 (fun H locs X => ?_)
        refine lv_aload_n hx hb dX1_begin_37 rfl (lv_at hl 1 rfl) ?_
        refine gP_sn S X dX1_begin_38 ?_
        refine lv_iload_n hx hb dX1_begin_41 rfl (lv_at hl 0 rfl) ?_
        refine lv_iconst (v := nI 0 - 1) hx hb dX1_begin_42 (by decide) ?_
        refine sP_sn (by omega) S X (by omega) dX1_begin_43 (fun H locs X => ?_)
        refine lv_iinc (v := nI (k + 1)) (lv' := [(1, .int (nI (k + 1))), (0, .ref (a 0))]) hx hb dX1_begin_44 hl (k := 0) rfl (nI_1 k) (by decide) rfl (fun ls hl => ?_)
        refine lv_goto (tgt := 2) hx hb dX1_begin_47 (by decide) ?_
        exact ih (k + 1) _ _ _ _ _ _ (by omega) (by omega) (up3 (P := fun j x y z => x = 0 ∧ y = (if tk j = 9 then 1 else 0) ∧ z = 0) hI ⟨rfl, by first | rw [if_pos c28] | rw [if_neg c28], rfl⟩) X (lv_sub hl [0, 1] rfl)
      · skip
        refine lv_iconst (v := nI 1) hx hb dX1_begin_31 (by decide) ?_
        refine lv_goto (tgt := 36) hx hb dX1_begin_32 (by decide) ?_
        refine sP_me (by omega) S X (by omega) dX1_begin_36 (fun H locs X => ?_)
        refine lv_aload_n hx hb dX1_begin_37 rfl (lv_at hl 1 rfl) ?_
        refine gP_sn S X dX1_begin_38 ?_
        refine lv_iload_n hx hb dX1_begin_41 rfl (lv_at hl 0 rfl) ?_
        refine lv_iconst (v := nI 0 - 1) hx hb dX1_begin_42 (by decide) ?_
        refine sP_sn (by omega) S X (by omega) dX1_begin_43 (fun H locs X => ?_)
        refine lv_iinc (v := nI (k + 1)) (lv' := [(1, .int (nI (k + 1))), (0, .ref (a 0))]) hx hb dX1_begin_44 hl (k := 0) rfl (nI_1 k) (by decide) rfl (fun ls hl => ?_)
        refine lv_goto (tgt := 2) hx hb dX1_begin_47 (by decide) ?_
        exact ih (k + 1) _ _ _ _ _ _ (by omega) (by omega) (up3 (P := fun j x y z => x = 0 ∧ y = (if tk j = 9 then 1 else 0) ∧ z = 0) hI ⟨rfl, by first | rw [if_pos c28] | rw [if_neg c28], rfl⟩) X (lv_sub hl [0, 1] rfl)
end BGN
set_option maxHeartbeats 4000000 in
theorem mP_begin (l : Launch) (D : va_G) (a : Nat → Nat) (kc : Nat → ClassId) {w : Nat} {tk : Nat → Nat} {n : Nat} {sc ot ow : Nat → Nat} {oc : Nat} {fc : Nat → Nat} {ct jd : Nat} {ta : Nat → Int64} {vl vb me sn sv sm ss : Nat → Nat} (htk : ∀ k, tk k ≤ 12) : cV l D (tyP kc) yX1_begin cX1_begin 2 (rm_ 0 0) [.ref (a 0)] (pmW a kc w tk n sc ot ow oc fc ct jd ta vl vb me sn sv sm ss) (fun w1 => ∃ vl' me' sn' : Nat → Nat, w1 = pmW a kc w tk n sc ot ow oc fc ct jd ta vl' vb me' sn' sv sm ss ∧ ∀ j, j < 14 → vl' j = 0 ∧ me' j = (if tk j = 9 then 1 else 0) ∧ sn' j = 0) := by
  refine cV_of (by decide) (Nat.le_of_ble_eq_true rfl) ?_
  intro p e s m below meth c ls S hr hlk X hA hl
  have hx := S.1
  have hb := S.2.1
  have hl : lv_has ls 2 [(0, .ref (a 0))] := hl
  refine lv_iconst (v := nI 0) hx hb dX1_begin_0 (by decide) ?_
  refine lv_istore_n (lv' := [(1, .int (nI 0)), (0, .ref (a 0))]) hx hb dX1_begin_1 rfl hl (by decide) rfl (fun ls hl => ?_)
  refine lpP_begin htk S (fun vl me sn H locs ls hI X hl => ?_) 15 0 vl me sn _ _ ls (by omega) (by omega) (fun j hj => absurd hj (by omega)) X hl
  exact cV_ret S hr hlk X dX1_begin_50 ⟨vl, me, sn, rfl, hI⟩
set_option maxHeartbeats 4000000 in
theorem mP_remembering (l : Launch) (D : va_G) (a : Nat → Nat) (kc : Nat → ClassId) {k f t : Nat} {w : Nat} {tk : Nat → Nat} {n : Nat} {sc ot ow : Nat → Nat} {oc : Nat} {fc : Nat → Nat} {ct jd : Nat} {ta : Nat → Int64} {vl vb me sn sv sm ss : Nat → Nat} (hk : k < 14) (h8 : 8 ≤ tk k) (h12 : tk k ≤ 12) (hf : f < 2) (ht : t ≤ 200) (hw : w ≤ 12) (hme : me k < 2) (hsn : sn k ≤ t) (hsc : tk k = 10 → sc k < 14 ∧ vl (sc k) < 2) : cI l D (tyP kc) yX1_remembering cX1_remembering 6 (some .boolean) (rm_ 0 0) [.ref (a 0), .int (nI k), .int (nI f), .int (nI t)] (pmW a kc w tk n sc ot ow oc fc ct jd ta vl vb me sn sv sm ss) (fun r w1 => r = nI (rmR (tk k) w t f (vl (sc k)) (me k) (sn k)) ∧ w1 = pmW a kc w tk n sc ot ow oc fc ct jd ta vl vb (va_up me k (rmM (tk k) f (vl (sc k)) (me k))) (va_up sn k (rmL (tk k) t f (sn k))) sv sm ss) := by
  refine cI_of (by decide) (Nat.le_of_ble_eq_true rfl) ?_
  intro p e s m below meth c ls S hr hlk X hA hl
  have hx := S.1
  have hb := S.2.1
  have hl : lv_has ls 6 [(0, .ref (a 0)), (1, .int (nI k)), (2, .int (nI f)), (3, .int (nI t))] := hl
  refine lv_aload_n hx hb dX1_remembering_0 rfl (lv_at hl 0 rfl) ?_
  refine gP_tk S X dX1_remembering_1 ?_
  refine lv_iload_n hx hb dX1_remembering_4 rfl (lv_at hl 1 rfl) ?_
  refine lP_tk S X (by omega) dX1_remembering_5 ?_
  refine lv_istore (lv' := [(4, .int (nI (tk k))), (0, .ref (a 0)), (1, .int (nI k)), (2, .int (nI f)), (3, .int (nI t))]) hx hb dX1_remembering_6 hl (by decide) rfl (fun ls hl => ?_)
  refine lv_iload hx hb dX1_remembering_8 (lv_at hl 0 rfl) ?_
  refine lv_bipush (v := nI 11) hx hb dX1_remembering_10 (by decide) ?_
  refine mn_icmp_eq (tgt := 22) hx hb (by omega) (by omega) dX1_remembering_12 (by decide) (fun c12 => ?_) (fun c12 => ?_)
  · skip
    refine lv_iload_n hx hb dX1_remembering_22 rfl (lv_at hl 3 rfl) ?_
    refine lv_iload hx hb dX1_remembering_23 (lv_at hl 0 rfl) ?_
    refine lv_bipush (v := nI 11) hx hb dX1_remembering_25 (by decide) ?_
    refine mn_icmp_ne (tgt := 34) hx hb (by omega) (by omega) dX1_remembering_27 (by decide) (fun c27 => absurd c27 (by omega)) (fun c27 => ?_)
    refine lv_iconst (v := nI 1) hx hb dX1_remembering_30 (by decide) ?_
    refine lv_goto (tgt := 35) hx hb dX1_remembering_31 (by decide) ?_
    refine mn_icmp_ne (tgt := 46) hx hb (by omega) (by omega) dX1_remembering_35 (by decide) (fun c35 => ?_) (fun c35 => ?_)
    · skip
      refine lv_aload_n hx hb dX1_remembering_46 rfl (lv_at hl 1 rfl) ?_
      refine gP_sn S X dX1_remembering_47 ?_
      refine lv_iload_n hx hb dX1_remembering_50 rfl (lv_at hl 2 rfl) ?_
      refine lP_sn S X (by omega) dX1_remembering_51 ?_
      refine mm_if_lt (tgt := 74) hx hb (by omega) dX1_remembering_52 (by decide) (fun c52 => ?_) (fun c52 => ?_)
      · skip
        refine lv_iconst (v := nI 0) hx hb dX1_remembering_74 (by decide) ?_
        refine lv_istore (lv' := [(5, .int (nI 0)), (4, .int (nI (tk k))), (0, .ref (a 0)), (1, .int (nI k)), (2, .int (nI f)), (3, .int (nI t))]) hx hb dX1_remembering_75 hl (by decide) rfl (fun ls hl => ?_)
        refine lv_iload hx hb dX1_remembering_77 (lv_at hl 0 rfl) ?_
        refine lv_iload hx hb dX1_remembering_79 (lv_at hl 1 rfl) ?_
        refine lv_bipush (v := nI 11) hx hb dX1_remembering_81 (by decide) ?_
        refine mn_icmp_ne (tgt := 90) hx hb (by omega) (by omega) dX1_remembering_83 (by decide) (fun c83 => absurd c83 (by omega)) (fun c83 => ?_)
        refine lv_iconst (v := nI 1) hx hb dX1_remembering_86 (by decide) ?_
        refine lv_goto (tgt := 91) hx hb dX1_remembering_87 (by decide) ?_
        refine mn_icmp_ne (tgt := 98) hx hb (by omega) (by omega) dX1_remembering_91 (by decide) (fun c91 => ?_) (fun c91 => absurd c91 (by omega))
        refine lv_iconst (v := nI 0) hx hb dX1_remembering_98 (by decide) ?_
        exact cZ_ret S hr hlk X (by omega) dX1_remembering_99 ⟨congrArg nI (show 0 = rmR (tk k) w t f (vl (sc k)) (me k) (sn k) by (unfold rmR rmL rmM; repeat' split) <;> omega), by rw [show rmM (tk k) f (vl (sc k)) (me k) = me k by (unfold rmM; repeat' split) <;> omega, show rmL (tk k) t f (sn k) = sn k by (unfold rmL; repeat' split) <;> omega, up_id me k, up_id sn k]⟩
      · skip
        refine lv_iload_n hx hb dX1_remembering_55 rfl (lv_at hl 4 rfl) ?_
        refine lv_aload_n hx hb dX1_remembering_56 rfl (lv_at hl 1 rfl) ?_
        refine gP_sn S X dX1_remembering_57 ?_
        refine lv_iload_n hx hb dX1_remembering_60 rfl (lv_at hl 2 rfl) ?_
        refine lP_sn S X (by omega) dX1_remembering_61 ?_
        refine mm_nat (by omega) ?_
        refine mn_isub hx hb (by omega) dX1_remembering_62 ?_
        refine lv_aload_n hx hb dX1_remembering_63 rfl (lv_at hl 1 rfl) ?_
        refine gP_w S X dX1_remembering_64 ?_
        refine mn_icmp_gt (tgt := 74) hx hb (by omega) (by omega) dX1_remembering_67 (by decide) (fun c67 => ?_) (fun c67 => ?_)
        · skip
          refine lv_iconst (v := nI 0) hx hb dX1_remembering_74 (by decide) ?_
          refine lv_istore (lv' := [(5, .int (nI 0)), (4, .int (nI (tk k))), (0, .ref (a 0)), (1, .int (nI k)), (2, .int (nI f)), (3, .int (nI t))]) hx hb dX1_remembering_75 hl (by decide) rfl (fun ls hl => ?_)
          refine lv_iload hx hb dX1_remembering_77 (lv_at hl 0 rfl) ?_
          refine lv_iload hx hb dX1_remembering_79 (lv_at hl 1 rfl) ?_
          refine lv_bipush (v := nI 11) hx hb dX1_remembering_81 (by decide) ?_
          refine mn_icmp_ne (tgt := 90) hx hb (by omega) (by omega) dX1_remembering_83 (by decide) (fun c83 => absurd c83 (by omega)) (fun c83 => ?_)
          refine lv_iconst (v := nI 1) hx hb dX1_remembering_86 (by decide) ?_
          refine lv_goto (tgt := 91) hx hb dX1_remembering_87 (by decide) ?_
          refine mn_icmp_ne (tgt := 98) hx hb (by omega) (by omega) dX1_remembering_91 (by decide) (fun c91 => ?_) (fun c91 => absurd c91 (by omega))
          refine lv_iconst (v := nI 0) hx hb dX1_remembering_98 (by decide) ?_
          exact cZ_ret S hr hlk X (by omega) dX1_remembering_99 ⟨congrArg nI (show 0 = rmR (tk k) w t f (vl (sc k)) (me k) (sn k) by (unfold rmR rmL rmM; repeat' split) <;> omega), by rw [show rmM (tk k) f (vl (sc k)) (me k) = me k by (unfold rmM; repeat' split) <;> omega, show rmL (tk k) t f (sn k) = sn k by (unfold rmL; repeat' split) <;> omega, up_id me k, up_id sn k]⟩
        · skip
          refine lv_iconst (v := nI 1) hx hb dX1_remembering_70 (by decide) ?_
          refine lv_goto (tgt := 75) hx hb dX1_remembering_71 (by decide) ?_
          refine lv_istore (lv' := [(5, .int (nI 1)), (4, .int (nI (tk k))), (0, .ref (a 0)), (1, .int (nI k)), (2, .int (nI f)), (3, .int (nI t))]) hx hb dX1_remembering_75 hl (by decide) rfl (fun ls hl => ?_)
          refine lv_iload hx hb dX1_remembering_77 (lv_at hl 0 rfl) ?_
          refine lv_iload hx hb dX1_remembering_79 (lv_at hl 1 rfl) ?_
          refine lv_bipush (v := nI 11) hx hb dX1_remembering_81 (by decide) ?_
          refine mn_icmp_ne (tgt := 90) hx hb (by omega) (by omega) dX1_remembering_83 (by decide) (fun c83 => absurd c83 (by omega)) (fun c83 => ?_)
          refine lv_iconst (v := nI 1) hx hb dX1_remembering_86 (by decide) ?_
          refine lv_goto (tgt := 91) hx hb dX1_remembering_87 (by decide) ?_
          refine mn_icmp_ne (tgt := 98) hx hb (by omega) (by omega) dX1_remembering_91 (by decide) (fun c91 => absurd c91 (by omega)) (fun c91 => ?_)
          refine lv_iconst (v := nI 1) hx hb dX1_remembering_94 (by decide) ?_
          refine lv_goto (tgt := 99) hx hb dX1_remembering_95 (by decide) ?_
          exact cZ_ret S hr hlk X (by omega) dX1_remembering_99 ⟨congrArg nI (show 1 = rmR (tk k) w t f (vl (sc k)) (me k) (sn k) by (unfold rmR rmL rmM; repeat' split) <;> omega), by rw [show rmM (tk k) f (vl (sc k)) (me k) = me k by (unfold rmM; repeat' split) <;> omega, show rmL (tk k) t f (sn k) = sn k by (unfold rmL; repeat' split) <;> omega, up_id me k, up_id sn k]⟩
    · skip
      refine lv_aload_n hx hb dX1_remembering_38 rfl (lv_at hl 1 rfl) ?_
      refine gP_sn S X dX1_remembering_39 ?_
      refine lv_iload_n hx hb dX1_remembering_42 rfl (lv_at hl 2 rfl) ?_
      refine lv_iload_n hx hb dX1_remembering_43 rfl (lv_at hl 4 rfl) ?_
      refine lv_i2s (v := nI (t + 1) - 1) hx hb dX1_remembering_44 ((mo_short _ (by omega)).trans (mo_p1 _)) ?_
      refine sP_sn (by omega) S X (by omega) dX1_remembering_45 (fun H locs X => ?_)
      refine lv_aload_n hx hb dX1_remembering_46 rfl (lv_at hl 1 rfl) ?_
      refine gP_sn S X dX1_remembering_47 ?_
      refine lv_iload_n hx hb dX1_remembering_50 rfl (lv_at hl 2 rfl) ?_
      refine lP_sn S X (by omega) dX1_remembering_51 ?_
      refine mm_eq (y := t + 1) (va_up_self _ _ _) ?_
      refine mm_if_lt (tgt := 74) hx hb (by omega) dX1_remembering_52 (by decide) (fun c52 => ?_) (fun c52 => ?_)
      · skip
        refine lv_iconst (v := nI 0) hx hb dX1_remembering_74 (by decide) ?_
        refine lv_istore (lv' := [(5, .int (nI 0)), (4, .int (nI (tk k))), (0, .ref (a 0)), (1, .int (nI k)), (2, .int (nI f)), (3, .int (nI t))]) hx hb dX1_remembering_75 hl (by decide) rfl (fun ls hl => ?_)
        refine lv_iload hx hb dX1_remembering_77 (lv_at hl 0 rfl) ?_
        refine lv_iload hx hb dX1_remembering_79 (lv_at hl 1 rfl) ?_
        refine lv_bipush (v := nI 11) hx hb dX1_remembering_81 (by decide) ?_
        refine mn_icmp_ne (tgt := 90) hx hb (by omega) (by omega) dX1_remembering_83 (by decide) (fun c83 => absurd c83 (by omega)) (fun c83 => ?_)
        refine lv_iconst (v := nI 1) hx hb dX1_remembering_86 (by decide) ?_
        refine lv_goto (tgt := 91) hx hb dX1_remembering_87 (by decide) ?_
        refine mn_icmp_ne (tgt := 98) hx hb (by omega) (by omega) dX1_remembering_91 (by decide) (fun c91 => ?_) (fun c91 => absurd c91 (by omega))
        refine lv_iconst (v := nI 0) hx hb dX1_remembering_98 (by decide) ?_
        exact cZ_ret S hr hlk X (by omega) dX1_remembering_99 ⟨congrArg nI (show 0 = rmR (tk k) w t f (vl (sc k)) (me k) (sn k) by (unfold rmR rmL rmM; repeat' split) <;> omega), by rw [show rmM (tk k) f (vl (sc k)) (me k) = me k by (unfold rmM; repeat' split) <;> omega, show rmL (tk k) t f (sn k) = (t + 1) by (unfold rmL; repeat' split) <;> omega, up_id me k]⟩
      · skip
        refine lv_iload_n hx hb dX1_remembering_55 rfl (lv_at hl 4 rfl) ?_
        refine lv_aload_n hx hb dX1_remembering_56 rfl (lv_at hl 1 rfl) ?_
        refine gP_sn S X dX1_remembering_57 ?_
        refine lv_iload_n hx hb dX1_remembering_60 rfl (lv_at hl 2 rfl) ?_
        refine lP_sn S X (by omega) dX1_remembering_61 ?_
        refine mm_eq (y := t + 1) (va_up_self _ _ _) ?_
        refine mm_nat (by omega) ?_
        refine mn_isub hx hb (by omega) dX1_remembering_62 ?_
        refine lv_aload_n hx hb dX1_remembering_63 rfl (lv_at hl 1 rfl) ?_
        refine gP_w S X dX1_remembering_64 ?_
        refine mn_icmp_gt (tgt := 74) hx hb (by omega) (by omega) dX1_remembering_67 (by decide) (fun c67 => ?_) (fun c67 => ?_)
        · skip
          refine lv_iconst (v := nI 0) hx hb dX1_remembering_74 (by decide) ?_
          refine lv_istore (lv' := [(5, .int (nI 0)), (4, .int (nI (tk k))), (0, .ref (a 0)), (1, .int (nI k)), (2, .int (nI f)), (3, .int (nI t))]) hx hb dX1_remembering_75 hl (by decide) rfl (fun ls hl => ?_)
          refine lv_iload hx hb dX1_remembering_77 (lv_at hl 0 rfl) ?_
          refine lv_iload hx hb dX1_remembering_79 (lv_at hl 1 rfl) ?_
          refine lv_bipush (v := nI 11) hx hb dX1_remembering_81 (by decide) ?_
          refine mn_icmp_ne (tgt := 90) hx hb (by omega) (by omega) dX1_remembering_83 (by decide) (fun c83 => absurd c83 (by omega)) (fun c83 => ?_)
          refine lv_iconst (v := nI 1) hx hb dX1_remembering_86 (by decide) ?_
          refine lv_goto (tgt := 91) hx hb dX1_remembering_87 (by decide) ?_
          refine mn_icmp_ne (tgt := 98) hx hb (by omega) (by omega) dX1_remembering_91 (by decide) (fun c91 => ?_) (fun c91 => absurd c91 (by omega))
          refine lv_iconst (v := nI 0) hx hb dX1_remembering_98 (by decide) ?_
          exact cZ_ret S hr hlk X (by omega) dX1_remembering_99 ⟨congrArg nI (show 0 = rmR (tk k) w t f (vl (sc k)) (me k) (sn k) by (unfold rmR rmL rmM; repeat' split) <;> omega), by rw [show rmM (tk k) f (vl (sc k)) (me k) = me k by (unfold rmM; repeat' split) <;> omega, show rmL (tk k) t f (sn k) = (t + 1) by (unfold rmL; repeat' split) <;> omega, up_id me k]⟩
        · skip
          refine lv_iconst (v := nI 1) hx hb dX1_remembering_70 (by decide) ?_
          refine lv_goto (tgt := 75) hx hb dX1_remembering_71 (by decide) ?_
          refine lv_istore (lv' := [(5, .int (nI 1)), (4, .int (nI (tk k))), (0, .ref (a 0)), (1, .int (nI k)), (2, .int (nI f)), (3, .int (nI t))]) hx hb dX1_remembering_75 hl (by decide) rfl (fun ls hl => ?_)
          refine lv_iload hx hb dX1_remembering_77 (lv_at hl 0 rfl) ?_
          refine lv_iload hx hb dX1_remembering_79 (lv_at hl 1 rfl) ?_
          refine lv_bipush (v := nI 11) hx hb dX1_remembering_81 (by decide) ?_
          refine mn_icmp_ne (tgt := 90) hx hb (by omega) (by omega) dX1_remembering_83 (by decide) (fun c83 => absurd c83 (by omega)) (fun c83 => ?_)
          refine lv_iconst (v := nI 1) hx hb dX1_remembering_86 (by decide) ?_
          refine lv_goto (tgt := 91) hx hb dX1_remembering_87 (by decide) ?_
          refine mn_icmp_ne (tgt := 98) hx hb (by omega) (by omega) dX1_remembering_91 (by decide) (fun c91 => absurd c91 (by omega)) (fun c91 => ?_)
          refine lv_iconst (v := nI 1) hx hb dX1_remembering_94 (by decide) ?_
          refine lv_goto (tgt := 99) hx hb dX1_remembering_95 (by decide) ?_
          exact cZ_ret S hr hlk X (by omega) dX1_remembering_99 ⟨congrArg nI (show 1 = rmR (tk k) w t f (vl (sc k)) (me k) (sn k) by (unfold rmR rmL rmM; repeat' split) <;> omega), by rw [show rmM (tk k) f (vl (sc k)) (me k) = me k by (unfold rmM; repeat' split) <;> omega, show rmL (tk k) t f (sn k) = (t + 1) by (unfold rmL; repeat' split) <;> omega, up_id me k]⟩
  · skip
    refine lv_iload hx hb dX1_remembering_15 (lv_at hl 0 rfl) ?_
    refine lv_bipush (v := nI 12) hx hb dX1_remembering_17 (by decide) ?_
    refine mn_icmp_ne (tgt := 100) hx hb (by omega) (by omega) dX1_remembering_19 (by decide) (fun c19 => ?_) (fun c19 => ?_)
    · skip
      refine lv_iload hx hb dX1_remembering_100 (lv_at hl 0 rfl) ?_
      refine lv_bipush (v := nI 8) hx hb dX1_remembering_102 (by decide) ?_
      refine mn_icmp_ne (tgt := 120) hx hb (by omega) (by omega) dX1_remembering_104 (by decide) (fun c104 => ?_) (fun c104 => ?_)
      · skip
        refine lv_iload hx hb dX1_remembering_120 (lv_at hl 0 rfl) ?_
        refine lv_bipush (v := nI 9) hx hb dX1_remembering_122 (by decide) ?_
        refine mn_icmp_ne (tgt := 140) hx hb (by omega) (by omega) dX1_remembering_124 (by decide) (fun c124 => ?_) (fun c124 => ?_)
        · skip
          refine lv_aload_n hx hb dX1_remembering_140 rfl (lv_at hl 1 rfl) ?_
          refine gP_me S X dX1_remembering_141 ?_
          refine lv_iload_n hx hb dX1_remembering_144 rfl (lv_at hl 2 rfl) ?_
          refine lv_aload_n hx hb dX1_remembering_145 rfl (lv_at hl 1 rfl) ?_
          refine gP_vl S X dX1_remembering_146 ?_
          refine lv_aload_n hx hb dX1_remembering_149 rfl (lv_at hl 1 rfl) ?_
          refine gP_sc S X dX1_remembering_150 ?_
          refine lv_iload_n hx hb dX1_remembering_153 rfl (lv_at hl 2 rfl) ?_
          obtain ⟨hsc1, hsc2⟩ := hsc (by omega)
          refine lP_sc S X (by omega) dX1_remembering_154 ?_
          refine lP_vl S X (by omega) dX1_remembering_155 ?_
          refine mn_if_ne (tgt := 172) hx hb (by omega) dX1_remembering_156 (by decide) (fun c156 => ?_) (fun c156 => ?_)
          · skip
            refine lv_iconst (v := nI 1) hx hb dX1_remembering_172 (by decide) ?_
            refine lv_goto (tgt := 177) hx hb dX1_remembering_173 (by decide) ?_
            refine sP_me (by omega) S X (by omega) dX1_remembering_177 (fun H locs X => ?_)
            refine lv_aload_n hx hb dX1_remembering_178 rfl (lv_at hl 1 rfl) ?_
            refine gP_me S X dX1_remembering_179 ?_
            refine lv_iload_n hx hb dX1_remembering_182 rfl (lv_at hl 2 rfl) ?_
            refine lP_me S X (by omega) dX1_remembering_183 ?_
            refine mn_eq (y := 1) (va_up_self _ _ _) ?_
            exact cZ_ret S hr hlk X (by first | omega | (split <;> omega)) dX1_remembering_184 ⟨congrArg nI (show 1 = rmR (tk k) w t f (vl (sc k)) (me k) (sn k) by (unfold rmR rmL rmM; repeat' split) <;> omega), by rw [show rmM (tk k) f (vl (sc k)) (me k) = 1 by (unfold rmM; repeat' split) <;> omega, show rmL (tk k) t f (sn k) = sn k by (unfold rmL; repeat' split) <;> omega, up_id sn k]⟩
          · skip
            refine lv_iload_n hx hb dX1_remembering_159 rfl (lv_at hl 3 rfl) ?_
            refine mn_if_eq (tgt := 176) hx hb (by omega) dX1_remembering_160 (by decide) (fun c160 => ?_) (fun c160 => ?_)
            · skip
              refine lv_iconst (v := nI 0) hx hb dX1_remembering_176 (by decide) ?_
              refine sP_me (by omega) S X (by omega) dX1_remembering_177 (fun H locs X => ?_)
              refine lv_aload_n hx hb dX1_remembering_178 rfl (lv_at hl 1 rfl) ?_
              refine gP_me S X dX1_remembering_179 ?_
              refine lv_iload_n hx hb dX1_remembering_182 rfl (lv_at hl 2 rfl) ?_
              refine lP_me S X (by omega) dX1_remembering_183 ?_
              refine mn_eq (y := 0) (va_up_self _ _ _) ?_
              exact cZ_ret S hr hlk X (by first | omega | (split <;> omega)) dX1_remembering_184 ⟨congrArg nI (show 0 = rmR (tk k) w t f (vl (sc k)) (me k) (sn k) by (unfold rmR rmL rmM; repeat' split) <;> omega), by rw [show rmM (tk k) f (vl (sc k)) (me k) = 0 by (unfold rmM; repeat' split) <;> omega, show rmL (tk k) t f (sn k) = sn k by (unfold rmL; repeat' split) <;> omega, up_id sn k]⟩
            · skip
              refine lv_aload_n hx hb dX1_remembering_163 rfl (lv_at hl 1 rfl) ?_
              refine gP_me S X dX1_remembering_164 ?_
              refine lv_iload_n hx hb dX1_remembering_167 rfl (lv_at hl 2 rfl) ?_
              refine lP_me S X (by omega) dX1_remembering_168 ?_
              refine mn_if_eq (tgt := 176) hx hb (by omega) dX1_remembering_169 (by decide) (fun c169 => ?_) (fun c169 => ?_)
              · skip
                refine lv_iconst (v := nI 0) hx hb dX1_remembering_176 (by decide) ?_
                refine sP_me (by omega) S X (by omega) dX1_remembering_177 (fun H locs X => ?_)
                refine lv_aload_n hx hb dX1_remembering_178 rfl (lv_at hl 1 rfl) ?_
                refine gP_me S X dX1_remembering_179 ?_
                refine lv_iload_n hx hb dX1_remembering_182 rfl (lv_at hl 2 rfl) ?_
                refine lP_me S X (by omega) dX1_remembering_183 ?_
                refine mn_eq (y := 0) (va_up_self _ _ _) ?_
                exact cZ_ret S hr hlk X (by first | omega | (split <;> omega)) dX1_remembering_184 ⟨congrArg nI (show 0 = rmR (tk k) w t f (vl (sc k)) (me k) (sn k) by (unfold rmR rmL rmM; repeat' split) <;> omega), by rw [show rmM (tk k) f (vl (sc k)) (me k) = 0 by (unfold rmM; repeat' split) <;> omega, show rmL (tk k) t f (sn k) = sn k by (unfold rmL; repeat' split) <;> omega, up_id sn k]⟩
              · skip
                refine lv_iconst (v := nI 1) hx hb dX1_remembering_172 (by decide) ?_
                refine lv_goto (tgt := 177) hx hb dX1_remembering_173 (by decide) ?_
                refine sP_me (by omega) S X (by omega) dX1_remembering_177 (fun H locs X => ?_)
                refine lv_aload_n hx hb dX1_remembering_178 rfl (lv_at hl 1 rfl) ?_
                refine gP_me S X dX1_remembering_179 ?_
                refine lv_iload_n hx hb dX1_remembering_182 rfl (lv_at hl 2 rfl) ?_
                refine lP_me S X (by omega) dX1_remembering_183 ?_
                refine mn_eq (y := 1) (va_up_self _ _ _) ?_
                exact cZ_ret S hr hlk X (by first | omega | (split <;> omega)) dX1_remembering_184 ⟨congrArg nI (show 1 = rmR (tk k) w t f (vl (sc k)) (me k) (sn k) by (unfold rmR rmL rmM; repeat' split) <;> omega), by rw [show rmM (tk k) f (vl (sc k)) (me k) = 1 by (unfold rmM; repeat' split) <;> omega, show rmL (tk k) t f (sn k) = sn k by (unfold rmL; repeat' split) <;> omega, up_id sn k]⟩
        · skip
          refine lv_aload_n hx hb dX1_remembering_127 rfl (lv_at hl 1 rfl) ?_
          refine gP_me S X dX1_remembering_128 ?_
          refine lv_iload_n hx hb dX1_remembering_131 rfl (lv_at hl 2 rfl) ?_
          refine lv_dup2_11 hx hb dX1_remembering_132 rfl rfl ?_
          refine lP_me S X (by omega) dX1_remembering_133 ?_
          refine lv_iload_n hx hb dX1_remembering_134 rfl (lv_at hl 3 rfl) ?_
          refine lv_iand hx hb dX1_remembering_135 ?_
          refine mi_eq (y := nI (if me k = 1 ∧ f = 1 then 1 else 0)) (mo_and (by omega) (by omega)) ?_
          refine sP_me (by split <;> omega) S X (by omega) dX1_remembering_136 (fun H locs X => ?_)
          refine lv_goto (tgt := 178) hx hb dX1_remembering_137 (by decide) ?_
          refine lv_aload_n hx hb dX1_remembering_178 rfl (lv_at hl 1 rfl) ?_
          refine gP_me S X dX1_remembering_179 ?_
          refine lv_iload_n hx hb dX1_remembering_182 rfl (lv_at hl 2 rfl) ?_
          refine lP_me S X (by omega) dX1_remembering_183 ?_
          refine mn_eq (y := (if me k = 1 ∧ f = 1 then 1 else 0)) (va_up_self _ _ _) ?_
          exact cZ_ret S hr hlk X (by first | omega | (split <;> omega)) dX1_remembering_184 ⟨congrArg nI (show (if me k = 1 ∧ f = 1 then 1 else 0) = rmR (tk k) w t f (vl (sc k)) (me k) (sn k) by (unfold rmR rmL rmM; repeat' split) <;> omega), by rw [show rmM (tk k) f (vl (sc k)) (me k) = (if me k = 1 ∧ f = 1 then 1 else 0) by (unfold rmM; repeat' split) <;> omega, show rmL (tk k) t f (sn k) = sn k by (unfold rmL; repeat' split) <;> omega, up_id sn k]⟩
      · skip
        refine lv_aload_n hx hb dX1_remembering_107 rfl (lv_at hl 1 rfl) ?_
        refine gP_me S X dX1_remembering_108 ?_
        refine lv_iload_n hx hb dX1_remembering_111 rfl (lv_at hl 2 rfl) ?_
        refine lv_dup2_11 hx hb dX1_remembering_112 rfl rfl ?_
        refine lP_me S X (by omega) dX1_remembering_113 ?_
        refine lv_iload_n hx hb dX1_remembering_114 rfl (lv_at hl 3 rfl) ?_
        refine lv_ior hx hb dX1_remembering_115 ?_
        refine mi_eq (y := nI (if me k = 1 ∨ f = 1 then 1 else 0)) (mo_or (by omega) (by omega)) ?_
        refine sP_me (by split <;> omega) S X (by omega) dX1_remembering_116 (fun H locs X => ?_)
        refine lv_goto (tgt := 178) hx hb dX1_remembering_117 (by decide) ?_
        refine lv_aload_n hx hb dX1_remembering_178 rfl (lv_at hl 1 rfl) ?_
        refine gP_me S X dX1_remembering_179 ?_
        refine lv_iload_n hx hb dX1_remembering_182 rfl (lv_at hl 2 rfl) ?_
        refine lP_me S X (by omega) dX1_remembering_183 ?_
        refine mn_eq (y := (if me k = 1 ∨ f = 1 then 1 else 0)) (va_up_self _ _ _) ?_
        exact cZ_ret S hr hlk X (by first | omega | (split <;> omega)) dX1_remembering_184 ⟨congrArg nI (show (if me k = 1 ∨ f = 1 then 1 else 0) = rmR (tk k) w t f (vl (sc k)) (me k) (sn k) by (unfold rmR rmL rmM; repeat' split) <;> omega), by rw [show rmM (tk k) f (vl (sc k)) (me k) = (if me k = 1 ∨ f = 1 then 1 else 0) by (unfold rmM; repeat' split) <;> omega, show rmL (tk k) t f (sn k) = sn k by (unfold rmL; repeat' split) <;> omega, up_id sn k]⟩
    · skip
      refine lv_iload_n hx hb dX1_remembering_22 rfl (lv_at hl 3 rfl) ?_
      refine lv_iload hx hb dX1_remembering_23 (lv_at hl 0 rfl) ?_
      refine lv_bipush (v := nI 11) hx hb dX1_remembering_25 (by decide) ?_
      refine mn_icmp_ne (tgt := 34) hx hb (by omega) (by omega) dX1_remembering_27 (by decide) (fun c27 => ?_) (fun c27 => absurd c27 (by omega))
      refine lv_iconst (v := nI 0) hx hb dX1_remembering_34 (by decide) ?_
      refine mn_icmp_ne (tgt := 46) hx hb (by omega) (by omega) dX1_remembering_35 (by decide) (fun c35 => ?_) (fun c35 => ?_)
      · skip
        refine lv_aload_n hx hb dX1_remembering_46 rfl (lv_at hl 1 rfl) ?_
        refine gP_sn S X dX1_remembering_47 ?_
        refine lv_iload_n hx hb dX1_remembering_50 rfl (lv_at hl 2 rfl) ?_
        refine lP_sn S X (by omega) dX1_remembering_51 ?_
        refine mm_if_lt (tgt := 74) hx hb (by omega) dX1_remembering_52 (by decide) (fun c52 => ?_) (fun c52 => ?_)
        · skip
          refine lv_iconst (v := nI 0) hx hb dX1_remembering_74 (by decide) ?_
          refine lv_istore (lv' := [(5, .int (nI 0)), (4, .int (nI (tk k))), (0, .ref (a 0)), (1, .int (nI k)), (2, .int (nI f)), (3, .int (nI t))]) hx hb dX1_remembering_75 hl (by decide) rfl (fun ls hl => ?_)
          refine lv_iload hx hb dX1_remembering_77 (lv_at hl 0 rfl) ?_
          refine lv_iload hx hb dX1_remembering_79 (lv_at hl 1 rfl) ?_
          refine lv_bipush (v := nI 11) hx hb dX1_remembering_81 (by decide) ?_
          refine mn_icmp_ne (tgt := 90) hx hb (by omega) (by omega) dX1_remembering_83 (by decide) (fun c83 => ?_) (fun c83 => absurd c83 (by omega))
          refine lv_iconst (v := nI 0) hx hb dX1_remembering_90 (by decide) ?_
          refine mn_icmp_ne (tgt := 98) hx hb (by omega) (by omega) dX1_remembering_91 (by decide) (fun c91 => absurd c91 (by omega)) (fun c91 => ?_)
          refine lv_iconst (v := nI 1) hx hb dX1_remembering_94 (by decide) ?_
          refine lv_goto (tgt := 99) hx hb dX1_remembering_95 (by decide) ?_
          exact cZ_ret S hr hlk X (by omega) dX1_remembering_99 ⟨congrArg nI (show 1 = rmR (tk k) w t f (vl (sc k)) (me k) (sn k) by (unfold rmR rmL rmM; repeat' split) <;> omega), by rw [show rmM (tk k) f (vl (sc k)) (me k) = me k by (unfold rmM; repeat' split) <;> omega, show rmL (tk k) t f (sn k) = sn k by (unfold rmL; repeat' split) <;> omega, up_id me k, up_id sn k]⟩
        · skip
          refine lv_iload_n hx hb dX1_remembering_55 rfl (lv_at hl 4 rfl) ?_
          refine lv_aload_n hx hb dX1_remembering_56 rfl (lv_at hl 1 rfl) ?_
          refine gP_sn S X dX1_remembering_57 ?_
          refine lv_iload_n hx hb dX1_remembering_60 rfl (lv_at hl 2 rfl) ?_
          refine lP_sn S X (by omega) dX1_remembering_61 ?_
          refine mm_nat (by omega) ?_
          refine mn_isub hx hb (by omega) dX1_remembering_62 ?_
          refine lv_aload_n hx hb dX1_remembering_63 rfl (lv_at hl 1 rfl) ?_
          refine gP_w S X dX1_remembering_64 ?_
          refine mn_icmp_gt (tgt := 74) hx hb (by omega) (by omega) dX1_remembering_67 (by decide) (fun c67 => ?_) (fun c67 => ?_)
          · skip
            refine lv_iconst (v := nI 0) hx hb dX1_remembering_74 (by decide) ?_
            refine lv_istore (lv' := [(5, .int (nI 0)), (4, .int (nI (tk k))), (0, .ref (a 0)), (1, .int (nI k)), (2, .int (nI f)), (3, .int (nI t))]) hx hb dX1_remembering_75 hl (by decide) rfl (fun ls hl => ?_)
            refine lv_iload hx hb dX1_remembering_77 (lv_at hl 0 rfl) ?_
            refine lv_iload hx hb dX1_remembering_79 (lv_at hl 1 rfl) ?_
            refine lv_bipush (v := nI 11) hx hb dX1_remembering_81 (by decide) ?_
            refine mn_icmp_ne (tgt := 90) hx hb (by omega) (by omega) dX1_remembering_83 (by decide) (fun c83 => ?_) (fun c83 => absurd c83 (by omega))
            refine lv_iconst (v := nI 0) hx hb dX1_remembering_90 (by decide) ?_
            refine mn_icmp_ne (tgt := 98) hx hb (by omega) (by omega) dX1_remembering_91 (by decide) (fun c91 => absurd c91 (by omega)) (fun c91 => ?_)
            refine lv_iconst (v := nI 1) hx hb dX1_remembering_94 (by decide) ?_
            refine lv_goto (tgt := 99) hx hb dX1_remembering_95 (by decide) ?_
            exact cZ_ret S hr hlk X (by omega) dX1_remembering_99 ⟨congrArg nI (show 1 = rmR (tk k) w t f (vl (sc k)) (me k) (sn k) by (unfold rmR rmL rmM; repeat' split) <;> omega), by rw [show rmM (tk k) f (vl (sc k)) (me k) = me k by (unfold rmM; repeat' split) <;> omega, show rmL (tk k) t f (sn k) = sn k by (unfold rmL; repeat' split) <;> omega, up_id me k, up_id sn k]⟩
          · skip
            refine lv_iconst (v := nI 1) hx hb dX1_remembering_70 (by decide) ?_
            refine lv_goto (tgt := 75) hx hb dX1_remembering_71 (by decide) ?_
            refine lv_istore (lv' := [(5, .int (nI 1)), (4, .int (nI (tk k))), (0, .ref (a 0)), (1, .int (nI k)), (2, .int (nI f)), (3, .int (nI t))]) hx hb dX1_remembering_75 hl (by decide) rfl (fun ls hl => ?_)
            refine lv_iload hx hb dX1_remembering_77 (lv_at hl 0 rfl) ?_
            refine lv_iload hx hb dX1_remembering_79 (lv_at hl 1 rfl) ?_
            refine lv_bipush (v := nI 11) hx hb dX1_remembering_81 (by decide) ?_
            refine mn_icmp_ne (tgt := 90) hx hb (by omega) (by omega) dX1_remembering_83 (by decide) (fun c83 => ?_) (fun c83 => absurd c83 (by omega))
            refine lv_iconst (v := nI 0) hx hb dX1_remembering_90 (by decide) ?_
            refine mn_icmp_ne (tgt := 98) hx hb (by omega) (by omega) dX1_remembering_91 (by decide) (fun c91 => ?_) (fun c91 => absurd c91 (by omega))
            refine lv_iconst (v := nI 0) hx hb dX1_remembering_98 (by decide) ?_
            exact cZ_ret S hr hlk X (by omega) dX1_remembering_99 ⟨congrArg nI (show 0 = rmR (tk k) w t f (vl (sc k)) (me k) (sn k) by (unfold rmR rmL rmM; repeat' split) <;> omega), by rw [show rmM (tk k) f (vl (sc k)) (me k) = me k by (unfold rmM; repeat' split) <;> omega, show rmL (tk k) t f (sn k) = sn k by (unfold rmL; repeat' split) <;> omega, up_id me k, up_id sn k]⟩
      · skip
        refine lv_aload_n hx hb dX1_remembering_38 rfl (lv_at hl 1 rfl) ?_
        refine gP_sn S X dX1_remembering_39 ?_
        refine lv_iload_n hx hb dX1_remembering_42 rfl (lv_at hl 2 rfl) ?_
        refine lv_iload_n hx hb dX1_remembering_43 rfl (lv_at hl 4 rfl) ?_
        refine lv_i2s (v := nI (t + 1) - 1) hx hb dX1_remembering_44 ((mo_short _ (by omega)).trans (mo_p1 _)) ?_
        refine sP_sn (by omega) S X (by omega) dX1_remembering_45 (fun H locs X => ?_)
        refine lv_aload_n hx hb dX1_remembering_46 rfl (lv_at hl 1 rfl) ?_
        refine gP_sn S X dX1_remembering_47 ?_
        refine lv_iload_n hx hb dX1_remembering_50 rfl (lv_at hl 2 rfl) ?_
        refine lP_sn S X (by omega) dX1_remembering_51 ?_
        refine mm_eq (y := t + 1) (va_up_self _ _ _) ?_
        refine mm_if_lt (tgt := 74) hx hb (by omega) dX1_remembering_52 (by decide) (fun c52 => ?_) (fun c52 => ?_)
        · skip
          refine lv_iconst (v := nI 0) hx hb dX1_remembering_74 (by decide) ?_
          refine lv_istore (lv' := [(5, .int (nI 0)), (4, .int (nI (tk k))), (0, .ref (a 0)), (1, .int (nI k)), (2, .int (nI f)), (3, .int (nI t))]) hx hb dX1_remembering_75 hl (by decide) rfl (fun ls hl => ?_)
          refine lv_iload hx hb dX1_remembering_77 (lv_at hl 0 rfl) ?_
          refine lv_iload hx hb dX1_remembering_79 (lv_at hl 1 rfl) ?_
          refine lv_bipush (v := nI 11) hx hb dX1_remembering_81 (by decide) ?_
          refine mn_icmp_ne (tgt := 90) hx hb (by omega) (by omega) dX1_remembering_83 (by decide) (fun c83 => ?_) (fun c83 => absurd c83 (by omega))
          refine lv_iconst (v := nI 0) hx hb dX1_remembering_90 (by decide) ?_
          refine mn_icmp_ne (tgt := 98) hx hb (by omega) (by omega) dX1_remembering_91 (by decide) (fun c91 => absurd c91 (by omega)) (fun c91 => ?_)
          refine lv_iconst (v := nI 1) hx hb dX1_remembering_94 (by decide) ?_
          refine lv_goto (tgt := 99) hx hb dX1_remembering_95 (by decide) ?_
          exact cZ_ret S hr hlk X (by omega) dX1_remembering_99 ⟨congrArg nI (show 1 = rmR (tk k) w t f (vl (sc k)) (me k) (sn k) by (unfold rmR rmL rmM; repeat' split) <;> omega), by rw [show rmM (tk k) f (vl (sc k)) (me k) = me k by (unfold rmM; repeat' split) <;> omega, show rmL (tk k) t f (sn k) = (t + 1) by (unfold rmL; repeat' split) <;> omega, up_id me k]⟩
        · skip
          refine lv_iload_n hx hb dX1_remembering_55 rfl (lv_at hl 4 rfl) ?_
          refine lv_aload_n hx hb dX1_remembering_56 rfl (lv_at hl 1 rfl) ?_
          refine gP_sn S X dX1_remembering_57 ?_
          refine lv_iload_n hx hb dX1_remembering_60 rfl (lv_at hl 2 rfl) ?_
          refine lP_sn S X (by omega) dX1_remembering_61 ?_
          refine mm_eq (y := t + 1) (va_up_self _ _ _) ?_
          refine mm_nat (by omega) ?_
          refine mn_isub hx hb (by omega) dX1_remembering_62 ?_
          refine lv_aload_n hx hb dX1_remembering_63 rfl (lv_at hl 1 rfl) ?_
          refine gP_w S X dX1_remembering_64 ?_
          refine mn_icmp_gt (tgt := 74) hx hb (by omega) (by omega) dX1_remembering_67 (by decide) (fun c67 => ?_) (fun c67 => ?_)
          · skip
            refine lv_iconst (v := nI 0) hx hb dX1_remembering_74 (by decide) ?_
            refine lv_istore (lv' := [(5, .int (nI 0)), (4, .int (nI (tk k))), (0, .ref (a 0)), (1, .int (nI k)), (2, .int (nI f)), (3, .int (nI t))]) hx hb dX1_remembering_75 hl (by decide) rfl (fun ls hl => ?_)
            refine lv_iload hx hb dX1_remembering_77 (lv_at hl 0 rfl) ?_
            refine lv_iload hx hb dX1_remembering_79 (lv_at hl 1 rfl) ?_
            refine lv_bipush (v := nI 11) hx hb dX1_remembering_81 (by decide) ?_
            refine mn_icmp_ne (tgt := 90) hx hb (by omega) (by omega) dX1_remembering_83 (by decide) (fun c83 => ?_) (fun c83 => absurd c83 (by omega))
            refine lv_iconst (v := nI 0) hx hb dX1_remembering_90 (by decide) ?_
            refine mn_icmp_ne (tgt := 98) hx hb (by omega) (by omega) dX1_remembering_91 (by decide) (fun c91 => absurd c91 (by omega)) (fun c91 => ?_)
            refine lv_iconst (v := nI 1) hx hb dX1_remembering_94 (by decide) ?_
            refine lv_goto (tgt := 99) hx hb dX1_remembering_95 (by decide) ?_
            exact cZ_ret S hr hlk X (by omega) dX1_remembering_99 ⟨congrArg nI (show 1 = rmR (tk k) w t f (vl (sc k)) (me k) (sn k) by (unfold rmR rmL rmM; repeat' split) <;> omega), by rw [show rmM (tk k) f (vl (sc k)) (me k) = me k by (unfold rmM; repeat' split) <;> omega, show rmL (tk k) t f (sn k) = (t + 1) by (unfold rmL; repeat' split) <;> omega, up_id me k]⟩
          · skip
            refine lv_iconst (v := nI 1) hx hb dX1_remembering_70 (by decide) ?_
            refine lv_goto (tgt := 75) hx hb dX1_remembering_71 (by decide) ?_
            refine lv_istore (lv' := [(5, .int (nI 1)), (4, .int (nI (tk k))), (0, .ref (a 0)), (1, .int (nI k)), (2, .int (nI f)), (3, .int (nI t))]) hx hb dX1_remembering_75 hl (by decide) rfl (fun ls hl => ?_)
            refine lv_iload hx hb dX1_remembering_77 (lv_at hl 0 rfl) ?_
            refine lv_iload hx hb dX1_remembering_79 (lv_at hl 1 rfl) ?_
            refine lv_bipush (v := nI 11) hx hb dX1_remembering_81 (by decide) ?_
            refine mn_icmp_ne (tgt := 90) hx hb (by omega) (by omega) dX1_remembering_83 (by decide) (fun c83 => ?_) (fun c83 => absurd c83 (by omega))
            refine lv_iconst (v := nI 0) hx hb dX1_remembering_90 (by decide) ?_
            refine mn_icmp_ne (tgt := 98) hx hb (by omega) (by omega) dX1_remembering_91 (by decide) (fun c91 => ?_) (fun c91 => absurd c91 (by omega))
            refine lv_iconst (v := nI 0) hx hb dX1_remembering_98 (by decide) ?_
            exact cZ_ret S hr hlk X (by omega) dX1_remembering_99 ⟨congrArg nI (show 0 = rmR (tk k) w t f (vl (sc k)) (me k) (sn k) by (unfold rmR rmL rmM; repeat' split) <;> omega), by rw [show rmM (tk k) f (vl (sc k)) (me k) = me k by (unfold rmM; repeat' split) <;> omega, show rmL (tk k) t f (sn k) = (t + 1) by (unfold rmL; repeat' split) <;> omega, up_id me k]⟩
end
section
set_option maxRecDepth 100000
theorem rmR_lt {op w t fst snd me sn : Nat} (h : me < 2) : rmR op w t fst snd me sn < 2 := by
  unfold rmR rmM
  repeat' split
  all_goals omega
theorem up1 {P : Nat → Nat → Prop} {f : Nat → Nat} {k x : Nat} (h0 : ∀ j, j < k → P j (f j)) (h1 : P k x) : ∀ j, j < k + 1 → P j (va_up f k x j) := by
  intro j hj
  by_cases e : j = k
  · subst e
    rw [va_up_self]
    exact h1
  · rw [va_up_ne f _ e]
    exact h0 j (by omega)
/-- the parts are up to date with the events before t -/
def st_J (tk : Nat → Nat) (n : Nat) (sc : Nat → Nat) (M : Nat → Nat → Prop) (t : Nat) (vl me sn : Nat → Nat) : Prop := (∀ j, j < n → fl_Mem (tk j) (M (j + 1)) (M (sc j)) t (me j) (sn j)) ∧ (0 < t → ∀ j, j < n → (vl j = 1 ↔ M j (t - 1))) ∧ (∀ j, j < 14 → vl j < 2 ∧ me j < 2 ∧ sn j ≤ t)
/-- the parts from i on are up to date with event t, the others with those before it -/
def st_L (tk : Nat → Nat) (n : Nat) (sc : Nat → Nat) (M : Nat → Nat → Prop) (t i : Nat) (vl me sn : Nat → Nat) : Prop := (∀ j, i ≤ j → j < n → (vl j = 1 ↔ M j t) ∧ fl_Mem (tk j) (M (j + 1)) (M (sc j)) (t + 1) (me j) (sn j)) ∧ (∀ j, j < i → j < n → fl_Mem (tk j) (M (j + 1)) (M (sc j)) t (me j) (sn j)) ∧ (∀ j, j < 14 → vl j < 2 ∧ me j < 2 ∧ sn j ≤ t + 1) ∧ ∀ j, j < i → j < 14 → sn j ≤ t
theorem st_L_of {tk sc vl me sn : Nat → Nat} {n t : Nat} {M : Nat → Nat → Prop} (h : st_J tk n sc M t vl me sn) : st_L tk n sc M t n vl me sn := ⟨fun j h1 h2 => absurd h2 (by omega), fun j h1 h2 => h.1 j h2, fun j hj => ⟨(h.2.2 j hj).1, (h.2.2 j hj).2.1, by have := (h.2.2 j hj).2.2; omega⟩, fun j _ hj => (h.2.2 j hj).2.2⟩
theorem st_L_end {tk sc vl me sn : Nat → Nat} {n t : Nat} {M : Nat → Nat → Prop} (h : st_L tk n sc M t 0 vl me sn) : st_J tk n sc M (t + 1) vl me sn := ⟨fun j hj => (h.1 j (by omega) hj).2, fun _ j hj => (h.1 j (by omega) hj).1, h.2.2.1⟩
theorem st_L_step {tk sc vl vb me sn fc : Nat → Nat} {n t w k set : Nat} {M : Nat → Nat → Prop} (F : fl_Full tk n sc) (hn : n ≤ 14) (hT : fl_Tru tk fc w n M (t + 1)) (hset : fc t = set) (hk : k < n) (hvb : 0 < t → ∀ j, j < n → (vb j = 1 ↔ M j (t - 1))) (h : st_L tk n sc M t (k + 1) vl me sn) : st_L tk n sc M t k (va_up vl k (paR (tk k) w set t (vl (k + 1)) (vl (sc k)) (vb (k + 1)) (me k) (sn k))) (va_up me k (rmM (tk k) (vl (k + 1)) (vl (sc k)) (me k))) (va_up sn k (rmL (tk k) t (vl (k + 1)) (sn k))) := by
  obtain ⟨h1, h2, h3, h4⟩ := h
  have hs : fl_ar (tk k) = 2 → fl_Sec tk k (sc k) := fun q => F.2.2.2 k hk q
  have b3 := h3 k (by omega)
  have b4 := h4 k (by omega) (by omega)
  have key : fl_Mem (tk k) (M (k + 1)) (M (sc k)) (t + 1) (rmM (tk k) (vl (k + 1)) (vl (sc k)) (me k)) (rmL (tk k) t (vl (k + 1)) (sn k)) ∧ (paR (tk k) w set t (vl (k + 1)) (vl (sc k)) (vb (k + 1)) (me k) (sn k) = 1 ↔ M k t) := by
    rcases Nat.lt_or_ge (fl_ar (tk k)) 1 with q | q
    · have q4 : tk k < 4 := fl_ar_0.mp (by omega)
      refine ⟨⟨fun e => absurd e (by omega), fun e => absurd e (by omega), fun e => absurd e (by omega), fun e => absurd e (by omega), fun e => absurd e (by omega)⟩, ?_⟩
      rw [hT k hk t (by omega) (sc k) hs, fl_Sem_lt q4, hset]
      unfold paR
      rw [if_pos q4]
    · have k1 := F.k1 hk q
      rw [hT k hk t (by omega) (sc k) hs]
      refine fl_step (F.1 k) hset.symm (h3 (k + 1) (by omega)).1 (fun _ => (h1 (k + 1) (by omega) k1).1) (fun q2 => ?_) (fun q7 q0 => hvb q0 (k + 1) k1) (h2 k (by omega) hk)
      have k2 := F.k2 hk q2
      exact (h1 (sc k) (by omega) k2.2).1
  refine ⟨fun j j1 j2 => ?_, fun j j1 j2 => ?_, fun j j1 => ?_, fun j j1 j2 => ?_⟩
  · by_cases e : j = k
    · subst e
      rw [va_up_self, va_up_self, va_up_self]
      exact ⟨key.2, key.1⟩
    · rw [va_up_ne vl _ e, va_up_ne me _ e, va_up_ne sn _ e]
      exact h1 j (by omega) j2
  · rw [va_up_ne me _ (show j ≠ k by omega), va_up_ne sn _ (show j ≠ k by omega)]
    exact h2 j (by omega) j2
  · by_cases e : j = k
    · subst e
      rw [va_up_self, va_up_self, va_up_self]
      exact ⟨paR_lt b3.2.1, rmM_lt b3.2.1, rmL_le (by omega)⟩
    · rw [va_up_ne vl _ e, va_up_ne me _ e, va_up_ne sn _ e]
      exact h3 j j1
  · rw [va_up_ne sn _ (show j ≠ k by omega)]
    exact h4 j (by omega) j2
set_option maxHeartbeats 4000000 in
theorem mP_partAt (l : Launch) (D : va_G) (a : Nat → Nat) (kc : Nat → ClassId) {k set t : Nat} {w : Nat} {tk : Nat → Nat} {n : Nat} {sc ot ow : Nat → Nat} {oc : Nat} {fc : Nat → Nat} {ct jd : Nat} {ta : Nat → Int64} {vl vb me sn sv sm ss : Nat → Nat} (hk : k < 14) (h12 : tk k ≤ 12) (hset : set < 16) (ht : t ≤ 200) (hw : w ≤ 12) (h1 : 4 ≤ tk k → k + 1 < 14) (hsc : fl_ar (tk k) = 2 → sc k < 14) (hv : ∀ j, j < 14 → vl j < 2) (hvb : 4 ≤ tk k → vb (k + 1) < 2) (hme : me k < 2) (hsn : sn k ≤ t) : cI l D (tyP kc) yX1_partAt cX1_partAt 6 (some .boolean) (rm_ 1 25) [.ref (a 0), .int (nI k), .int (nI set), .int (nI t)] (pmW a kc w tk n sc ot ow oc fc ct jd ta vl vb me sn sv sm ss) (fun r w1 => r = nI (paR (tk k) w set t (vl (k + 1)) (vl (sc k)) (vb (k + 1)) (me k) (sn k)) ∧ w1 = pmW a kc w tk n sc ot ow oc fc ct jd ta vl vb (va_up me k (rmM (tk k) (vl (k + 1)) (vl (sc k)) (me k))) (va_up sn k (rmL (tk k) t (vl (k + 1)) (sn k))) sv sm ss) := by
  refine cI_of (by decide) (Nat.le_of_ble_eq_true rfl) ?_
  intro p e s m below meth c ls S hr hlk X hA hl
  have hx := S.1
  have hb := S.2.1
  have hl : lv_has ls 6 [(0, .ref (a 0)), (1, .int (nI k)), (2, .int (nI set)), (3, .int (nI t))] := hl
  refine lv_aload_n hx hb dX1_partAt_0 rfl (lv_at hl 0 rfl) ?_
  refine gP_tk S X dX1_partAt_1 ?_
  refine lv_iload_n hx hb dX1_partAt_4 rfl (lv_at hl 1 rfl) ?_
  refine lP_tk S X (by omega) dX1_partAt_5 ?_
  refine lv_istore (lv' := [(4, .int (nI (tk k))), (0, .ref (a 0)), (1, .int (nI k)), (2, .int (nI set)), (3, .int (nI t))]) hx hb dX1_partAt_6 hl (by decide) rfl (fun ls hl => ?_)
  refine lv_iload hx hb dX1_partAt_8 (lv_at hl 0 rfl) ?_
  refine lv_iconst (v := nI 4) hx hb dX1_partAt_10 (by decide) ?_
  refine mn_icmp_ge (tgt := 29) hx hb (by omega) (by omega) dX1_partAt_11 (by decide) (fun c11 => ?_) (fun c11 => ?_)
  · skip
    have hk1 := h1 c11
    have hv1 := hv (k + 1) hk1
    refine lv_aload_n hx hb dX1_partAt_29 rfl (lv_at hl 1 rfl) ?_
    refine gP_vl S X dX1_partAt_30 ?_
    refine lv_iload_n hx hb dX1_partAt_33 rfl (lv_at hl 2 rfl) ?_
    refine lv_iconst (v := nI 1) hx hb dX1_partAt_34 (by decide) ?_
    refine mn_iadd hx hb dX1_partAt_35 ?_
    refine lP_vl S X (by omega) dX1_partAt_36 ?_
    refine lv_istore (lv' := [(5, .int (nI (vl (k + 1)))), (4, .int (nI (tk k))), (0, .ref (a 0)), (1, .int (nI k)), (2, .int (nI set)), (3, .int (nI t))]) hx hb dX1_partAt_37 hl (by decide) rfl (fun ls hl => ?_)
    refine lv_iload hx hb dX1_partAt_39 (lv_at hl 1 rfl) ?_
    have ho : tk k = 4 ∨ tk k = 5 ∨ tk k = 6 ∨ tk k = 7 ∨ 8 ≤ tk k := by omega
    rcases ho with ho | ho | ho | ho | ho
    · refine mn_eq (y := 4) ho ?_
      refine lv_tableIn (tgt := 72) hx hb dX1_partAt_41 (by decide) (by decide) rfl (by decide) ?_
      refine lv_iload hx hb dX1_partAt_72 (lv_at hl 0 rfl) ?_
      refine mn_if_ne (tgt := 81) hx hb (by omega) dX1_partAt_74 (by decide) (fun c74 => ?_) (fun c74 => ?_)
      · skip
        refine lv_iconst (v := nI 0) hx hb dX1_partAt_81 (by decide) ?_
        exact cZ_ret S hr hlk X (by omega) dX1_partAt_82 ⟨congrArg nI (show 0 = paR (tk k) w set t (vl (k + 1)) (vl (sc k)) (vb (k + 1)) (me k) (sn k) by rw [ho]; unfold paR; simp only [Nat.reduceLT, Nat.reduceEqDiff, if_true, if_false]; split <;> omega), by rw [show rmM (tk k) (vl (k + 1)) (vl (sc k)) (me k) = me k by (unfold rmM; repeat' split) <;> omega, show rmL (tk k) t (vl (k + 1)) (sn k) = sn k by (unfold rmL; repeat' split) <;> omega, up_id me k, up_id sn k]⟩
      · skip
        refine lv_iconst (v := nI 1) hx hb dX1_partAt_77 (by decide) ?_
        refine lv_goto (tgt := 82) hx hb dX1_partAt_78 (by decide) ?_
        exact cZ_ret S hr hlk X (by omega) dX1_partAt_82 ⟨congrArg nI (show 1 = paR (tk k) w set t (vl (k + 1)) (vl (sc k)) (vb (k + 1)) (me k) (sn k) by rw [ho]; unfold paR; simp only [Nat.reduceLT, Nat.reduceEqDiff, if_true, if_false]; split <;> omega), by rw [show rmM (tk k) (vl (k + 1)) (vl (sc k)) (me k) = me k by (unfold rmM; repeat' split) <;> omega, show rmL (tk k) t (vl (k + 1)) (sn k) = sn k by (unfold rmL; repeat' split) <;> omega, up_id me k, up_id sn k]⟩
    · refine mn_eq (y := 5) ho ?_
      refine lv_tableIn (tgt := 83) hx hb dX1_partAt_41 (by decide) (by decide) rfl (by decide) ?_
      have hs := hsc (fl_ar_2.mpr (by omega))
      have hv2 := hv (sc k) hs
      refine lv_iload hx hb dX1_partAt_83 (lv_at hl 0 rfl) ?_
      refine mn_if_eq (tgt := 106) hx hb (by omega) dX1_partAt_85 (by decide) (fun c85 => ?_) (fun c85 => ?_)
      · skip
        refine lv_iconst (v := nI 0) hx hb dX1_partAt_106 (by decide) ?_
        exact cZ_ret S hr hlk X (by omega) dX1_partAt_107 ⟨congrArg nI (show 0 = paR (tk k) w set t (vl (k + 1)) (vl (sc k)) (vb (k + 1)) (me k) (sn k) by rw [ho]; unfold paR; simp only [Nat.reduceLT, Nat.reduceEqDiff, if_true, if_false]; split <;> omega), by rw [show rmM (tk k) (vl (k + 1)) (vl (sc k)) (me k) = me k by (unfold rmM; repeat' split) <;> omega, show rmL (tk k) t (vl (k + 1)) (sn k) = sn k by (unfold rmL; repeat' split) <;> omega, up_id me k, up_id sn k]⟩
      · skip
        refine lv_aload_n hx hb dX1_partAt_88 rfl (lv_at hl 2 rfl) ?_
        refine gP_vl S X dX1_partAt_89 ?_
        refine lv_aload_n hx hb dX1_partAt_92 rfl (lv_at hl 2 rfl) ?_
        refine gP_sc S X dX1_partAt_93 ?_
        refine lv_iload_n hx hb dX1_partAt_96 rfl (lv_at hl 3 rfl) ?_
        refine lP_sc S X (by omega) dX1_partAt_97 ?_
        refine lP_vl S X (by omega) dX1_partAt_98 ?_
        refine mn_if_eq (tgt := 106) hx hb (by omega) dX1_partAt_99 (by decide) (fun c99 => ?_) (fun c99 => ?_)
        · skip
          refine lv_iconst (v := nI 0) hx hb dX1_partAt_106 (by decide) ?_
          exact cZ_ret S hr hlk X (by omega) dX1_partAt_107 ⟨congrArg nI (show 0 = paR (tk k) w set t (vl (k + 1)) (vl (sc k)) (vb (k + 1)) (me k) (sn k) by rw [ho]; unfold paR; simp only [Nat.reduceLT, Nat.reduceEqDiff, if_true, if_false]; split <;> omega), by rw [show rmM (tk k) (vl (k + 1)) (vl (sc k)) (me k) = me k by (unfold rmM; repeat' split) <;> omega, show rmL (tk k) t (vl (k + 1)) (sn k) = sn k by (unfold rmL; repeat' split) <;> omega, up_id me k, up_id sn k]⟩
        · skip
          refine lv_iconst (v := nI 1) hx hb dX1_partAt_102 (by decide) ?_
          refine lv_goto (tgt := 107) hx hb dX1_partAt_103 (by decide) ?_
          exact cZ_ret S hr hlk X (by omega) dX1_partAt_107 ⟨congrArg nI (show 1 = paR (tk k) w set t (vl (k + 1)) (vl (sc k)) (vb (k + 1)) (me k) (sn k) by rw [ho]; unfold paR; simp only [Nat.reduceLT, Nat.reduceEqDiff, if_true, if_false]; split <;> omega), by rw [show rmM (tk k) (vl (k + 1)) (vl (sc k)) (me k) = me k by (unfold rmM; repeat' split) <;> omega, show rmL (tk k) t (vl (k + 1)) (sn k) = sn k by (unfold rmL; repeat' split) <;> omega, up_id me k, up_id sn k]⟩
    · refine mn_eq (y := 6) ho ?_
      refine lv_tableIn (tgt := 108) hx hb dX1_partAt_41 (by decide) (by decide) rfl (by decide) ?_
      have hs := hsc (fl_ar_2.mpr (by omega))
      have hv2 := hv (sc k) hs
      refine lv_iload hx hb dX1_partAt_108 (lv_at hl 0 rfl) ?_
      refine mn_if_ne (tgt := 127) hx hb (by omega) dX1_partAt_110 (by decide) (fun c110 => ?_) (fun c110 => ?_)
      · skip
        refine lv_iconst (v := nI 1) hx hb dX1_partAt_127 (by decide) ?_
        refine lv_goto (tgt := 132) hx hb dX1_partAt_128 (by decide) ?_
        exact cZ_ret S hr hlk X (by omega) dX1_partAt_132 ⟨congrArg nI (show 1 = paR (tk k) w set t (vl (k + 1)) (vl (sc k)) (vb (k + 1)) (me k) (sn k) by rw [ho]; unfold paR; simp only [Nat.reduceLT, Nat.reduceEqDiff, if_true, if_false]; split <;> omega), by rw [show rmM (tk k) (vl (k + 1)) (vl (sc k)) (me k) = me k by (unfold rmM; repeat' split) <;> omega, show rmL (tk k) t (vl (k + 1)) (sn k) = sn k by (unfold rmL; repeat' split) <;> omega, up_id me k, up_id sn k]⟩
      · skip
        refine lv_aload_n hx hb dX1_partAt_113 rfl (lv_at hl 2 rfl) ?_
        refine gP_vl S X dX1_partAt_114 ?_
        refine lv_aload_n hx hb dX1_partAt_117 rfl (lv_at hl 2 rfl) ?_
        refine gP_sc S X dX1_partAt_118 ?_
        refine lv_iload_n hx hb dX1_partAt_121 rfl (lv_at hl 3 rfl) ?_
        refine lP_sc S X (by omega) dX1_partAt_122 ?_
        refine lP_vl S X (by omega) dX1_partAt_123 ?_
        refine mn_if_eq (tgt := 131) hx hb (by omega) dX1_partAt_124 (by decide) (fun c124 => ?_) (fun c124 => ?_)
        · skip
          refine lv_iconst (v := nI 0) hx hb dX1_partAt_131 (by decide) ?_
          exact cZ_ret S hr hlk X (by omega) dX1_partAt_132 ⟨congrArg nI (show 0 = paR (tk k) w set t (vl (k + 1)) (vl (sc k)) (vb (k + 1)) (me k) (sn k) by rw [ho]; unfold paR; simp only [Nat.reduceLT, Nat.reduceEqDiff, if_true, if_false]; split <;> omega), by rw [show rmM (tk k) (vl (k + 1)) (vl (sc k)) (me k) = me k by (unfold rmM; repeat' split) <;> omega, show rmL (tk k) t (vl (k + 1)) (sn k) = sn k by (unfold rmL; repeat' split) <;> omega, up_id me k, up_id sn k]⟩
        · skip
          refine lv_iconst (v := nI 1) hx hb dX1_partAt_127 (by decide) ?_
          refine lv_goto (tgt := 132) hx hb dX1_partAt_128 (by decide) ?_
          exact cZ_ret S hr hlk X (by omega) dX1_partAt_132 ⟨congrArg nI (show 1 = paR (tk k) w set t (vl (k + 1)) (vl (sc k)) (vb (k + 1)) (me k) (sn k) by rw [ho]; unfold paR; simp only [Nat.reduceLT, Nat.reduceEqDiff, if_true, if_false]; split <;> omega), by rw [show rmM (tk k) (vl (k + 1)) (vl (sc k)) (me k) = me k by (unfold rmM; repeat' split) <;> omega, show rmL (tk k) t (vl (k + 1)) (sn k) = sn k by (unfold rmL; repeat' split) <;> omega, up_id me k, up_id sn k]⟩
    · refine mn_eq (y := 7) ho ?_
      refine lv_tableIn (tgt := 133) hx hb dX1_partAt_41 (by decide) (by decide) rfl (by decide) ?_
      have hb1 := hvb c11
      refine lv_iload_n hx hb dX1_partAt_133 rfl (lv_at hl 5 rfl) ?_
      refine mn_if_le (tgt := 152) hx hb (by omega) dX1_partAt_134 (by decide) (fun c134 => ?_) (fun c134 => ?_)
      · skip
        refine lv_iconst (v := nI 0) hx hb dX1_partAt_152 (by decide) ?_
        exact cZ_ret S hr hlk X (by omega) dX1_partAt_153 ⟨congrArg nI (show 0 = paR (tk k) w set t (vl (k + 1)) (vl (sc k)) (vb (k + 1)) (me k) (sn k) by rw [ho]; unfold paR; simp only [Nat.reduceLT, Nat.reduceEqDiff, if_true, if_false]; split <;> omega), by rw [show rmM (tk k) (vl (k + 1)) (vl (sc k)) (me k) = me k by (unfold rmM; repeat' split) <;> omega, show rmL (tk k) t (vl (k + 1)) (sn k) = sn k by (unfold rmL; repeat' split) <;> omega, up_id me k, up_id sn k]⟩
      · skip
        refine lv_aload_n hx hb dX1_partAt_137 rfl (lv_at hl 2 rfl) ?_
        refine gP_vb S X dX1_partAt_138 ?_
        refine lv_iload_n hx hb dX1_partAt_141 rfl (lv_at hl 3 rfl) ?_
        refine lv_iconst (v := nI 1) hx hb dX1_partAt_142 (by decide) ?_
        refine mn_iadd hx hb dX1_partAt_143 ?_
        refine lP_vb S X (by omega) dX1_partAt_144 ?_
        refine mn_if_eq (tgt := 152) hx hb (by omega) dX1_partAt_145 (by decide) (fun c145 => ?_) (fun c145 => ?_)
        · skip
          refine lv_iconst (v := nI 0) hx hb dX1_partAt_152 (by decide) ?_
          exact cZ_ret S hr hlk X (by omega) dX1_partAt_153 ⟨congrArg nI (show 0 = paR (tk k) w set t (vl (k + 1)) (vl (sc k)) (vb (k + 1)) (me k) (sn k) by rw [ho]; unfold paR; simp only [Nat.reduceLT, Nat.reduceEqDiff, if_true, if_false]; split <;> omega), by rw [show rmM (tk k) (vl (k + 1)) (vl (sc k)) (me k) = me k by (unfold rmM; repeat' split) <;> omega, show rmL (tk k) t (vl (k + 1)) (sn k) = sn k by (unfold rmL; repeat' split) <;> omega, up_id me k, up_id sn k]⟩
        · skip
          refine lv_iconst (v := nI 1) hx hb dX1_partAt_148 (by decide) ?_
          refine lv_goto (tgt := 153) hx hb dX1_partAt_149 (by decide) ?_
          exact cZ_ret S hr hlk X (by omega) dX1_partAt_153 ⟨congrArg nI (show 1 = paR (tk k) w set t (vl (k + 1)) (vl (sc k)) (vb (k + 1)) (me k) (sn k) by rw [ho]; unfold paR; simp only [Nat.reduceLT, Nat.reduceEqDiff, if_true, if_false]; split <;> omega), by rw [show rmM (tk k) (vl (k + 1)) (vl (sc k)) (me k) = me k by (unfold rmM; repeat' split) <;> omega, show rmL (tk k) t (vl (k + 1)) (sn k) = sn k by (unfold rmL; repeat' split) <;> omega, up_id me k, up_id sn k]⟩
    · refine lv_tableOut (tgt := 154) hx hb dX1_partAt_41 (by right; rw [nI_toInt (by omega)]; omega) (by decide) ?_
      refine lv_aload_n hx hb dX1_partAt_154 rfl (lv_at hl 2 rfl) ?_
      refine lv_iload_n hx hb dX1_partAt_155 rfl (lv_at hl 3 rfl) ?_
      refine lv_iload hx hb dX1_partAt_156 (lv_at hl 0 rfl) ?_
      refine lv_iload_n hx hb dX1_partAt_158 rfl (lv_at hl 5 rfl) ?_
      refine cI_call (n := 3) (As := [.int (nI k), .int (nI (vl (k + 1))), .int (nI t)]) (rest := []) S X hA (mP_remembering l D a kc hk (by omega) (by omega) hv1 ht hw hme hsn (fun q => ⟨hsc (fl_ar_2.mpr (by omega)), hv (sc k) (hsc (fl_ar_2.mpr (by omega)))⟩)) (lw_V q146 q148 qs5 q13 q149) rfl rfl (by decide +kernel) ⟨Nat.le_of_ble_eq_true rfl, Nat.le_of_ble_eq_true rfl⟩ rfl rfl hl.1 rfl rfl (Nat.le_of_ble_eq_true rfl) dX1_partAt_159 ⟨Nat.zero_le _, Nat.zero_le _⟩ (fun r w1 H locs hq X => ?_)
      obtain ⟨rfl, rfl⟩ := hq
      exact cZ_ret S hr hlk X (rmR_lt hme) dX1_partAt_162 ⟨congrArg nI (show rmR (tk k) w t (vl (k + 1)) (vl (sc k)) (me k) (sn k) = paR (tk k) w set t (vl (k + 1)) (vl (sc k)) (vb (k + 1)) (me k) (sn k) by unfold paR; rw [if_neg (by omega), if_neg (by omega), if_neg (by omega), if_neg (by omega), if_neg (by omega)]), rfl⟩
  · skip
    refine lv_iload_n hx hb dX1_partAt_14 rfl (lv_at hl 3 rfl) ?_
    refine lv_iload hx hb dX1_partAt_15 (lv_at hl 0 rfl) ?_
    refine lv_ishr hx hb dX1_partAt_17 ?_
    refine lv_iconst (v := nI 1) hx hb dX1_partAt_18 (by decide) ?_
    refine lv_iand hx hb dX1_partAt_19 ?_
    obtain ⟨bq, hbq⟩ : ∃ bq, bq = set / 2 ^ tk k % 2 := ⟨_, rfl⟩
    have hbl : bq < 2 := by rw [hbq]; exact Nat.mod_lt _ (by decide)
    refine mi_eq (y := nI bq) (by rw [hbq]; exact mo_bit _ (by omega) _ (by omega)) ?_
    refine mn_if_eq (tgt := 27) hx hb (by omega) dX1_partAt_20 (by decide) (fun c20 => ?_) (fun c20 => ?_)
    · skip
      refine lv_iconst (v := nI 0) hx hb dX1_partAt_27 (by decide) ?_
      exact cZ_ret S hr hlk X (by omega) dX1_partAt_28 ⟨congrArg nI (show 0 = paR (tk k) w set t (vl (k + 1)) (vl (sc k)) (vb (k + 1)) (me k) (sn k) by unfold paR; rw [if_pos (by omega)]; omega), by rw [show rmM (tk k) (vl (k + 1)) (vl (sc k)) (me k) = me k by (unfold rmM; repeat' split) <;> omega, show rmL (tk k) t (vl (k + 1)) (sn k) = sn k by (unfold rmL; repeat' split) <;> omega, up_id me k, up_id sn k]⟩
    · skip
      refine lv_iconst (v := nI 1) hx hb dX1_partAt_23 (by decide) ?_
      refine lv_goto (tgt := 28) hx hb dX1_partAt_24 (by decide) ?_
      exact cZ_ret S hr hlk X (by omega) dX1_partAt_28 ⟨congrArg nI (show 1 = paR (tk k) w set t (vl (k + 1)) (vl (sc k)) (vb (k + 1)) (me k) (sn k) by unfold paR; rw [if_pos (by omega)]; omega), by rw [show rmM (tk k) (vl (k + 1)) (vl (sc k)) (me k) = me k by (unfold rmM; repeat' split) <;> omega, show rmL (tk k) t (vl (k + 1)) (sn k) = sn k by (unfold rmL; repeat' split) <;> omega, up_id me k, up_id sn k]⟩
section STP
variable {p : Program} {l : Launch} {e : Env} {R : Room} {s : State} {m : MethodId} {args : Array Value} {below : List Frame} {meth : Method} {c : Code} {Q : State → Prop} {D : va_G} {A : Nat → Prop} {a : Nat → Nat} {kc : Nat → ClassId}
set_option maxHeartbeats 4000000 in
theorem lpP_step1 {w : Nat} {tk : Nat → Nat} {n : Nat} {sc ot ow : Nat → Nat} {oc : Nat} {fc : Nat → Nat} {ct jd : Nat} {ta : Nat → Int64} {vl me sn sv sm ss : Nat → Nat} {set t : Nat} (hn : n ≤ 14) (hv : ∀ j, j < 14 → vl j < 2) (S : CallFix p m c cX1_step 4 s args lw_all RX1) (hA : ∀ q : Nat, s.heap.size ≤ q → A q)
    (K : ∀ (vb : Nat → Nat) (H : Heap) (locs : List Loc) (ls : Array Slot), (∀ j, j < n → vb j = vl j) → wX D (tyP kc) A s H locs (pmW a kc w tk n sc ot ow oc fc ct jd ta vl vb me sn sv sm ss) → lv_has ls 4 [(0, .ref (a 0)), (1, .int (nI set)), (2, .int (nI t))] → W p l e (rm_ 2 50) s m args below meth c H locs 0 0 Q (F0 m 28 ls [])) :
    ∀ (d k : Nat) (vb : Nat → Nat) (H : Heap) (locs : List Loc) (ls : Array Slot), n - k < d → k ≤ n → (∀ j, j < k → vb j = vl j) → wX D (tyP kc) A s H locs (pmW a kc w tk n sc ot ow oc fc ct jd ta vl vb me sn sv sm ss) → lv_has ls 4 [(3, .int (nI k)), (0, .ref (a 0)), (1, .int (nI set)), (2, .int (nI t))] → W p l e (rm_ 2 50) s m args below meth c H locs 0 0 Q (F0 m 2 ls []) := by
  have hx := S.1
  have hb := S.2.1
  intro d
  induction d with
  | zero =>
    intro k vb H locs ls hd
    omega
  | succ d ih =>
    intro k vb H locs ls hd hk hI X hl
    refine lv_iload_n hx hb dX1_step_2 rfl (lv_at hl 0 rfl) ?_
    refine lv_aload_n hx hb dX1_step_3 rfl (lv_at hl 1 rfl) ?_
    refine gP_n S X dX1_step_4 ?_
    refine mn_icmp_ge (tgt := 28) hx hb (by omega) (by omega) dX1_step_7 (by decide) (fun c7 => ?_) (fun c7 => ?_)
    · skip
      exact K vb H locs ls (fun j hj => hI j (by omega)) X (lv_sub hl [1, 2, 3] rfl)
    · skip
      refine lv_aload_n hx hb dX1_step_10 rfl (lv_at hl 1 rfl) ?_
      refine gP_vb S X dX1_step_11 ?_
      refine lv_iload_n hx hb dX1_step_14 rfl (lv_at hl 0 rfl) ?_
      refine lv_aload_n hx hb dX1_step_15 rfl (lv_at hl 1 rfl) ?_
      refine gP_vl S X dX1_step_16 ?_
      refine lv_iload_n hx hb dX1_step_19 rfl (lv_at hl 0 rfl) ?_
      refine lP_vl S X (by omega) dX1_step_20 ?_
      refine sP_vb (hv k (by omega)) S X (by omega) dX1_step_21 (fun H locs X => ?_)
      refine lv_iinc (v := nI (k + 1)) (lv' := [(3, .int (nI (k + 1))), (0, .ref (a 0)), (1, .int (nI set)), (2, .int (nI t))]) hx hb dX1_step_22 hl (k := 0) rfl (nI_1 k) (by decide) rfl (fun ls hl => ?_)
      refine lv_goto (tgt := 2) hx hb dX1_step_25 (by decide) ?_
      exact ih (k + 1) _ _ _ _ (by omega) (by omega) (up1 (P := fun j x => x = vl j) hI rfl) X hl
set_option maxHeartbeats 4000000 in
theorem lpP_step2 {w : Nat} {tk : Nat → Nat} {n : Nat} {sc ot ow : Nat → Nat} {oc : Nat} {fc : Nat → Nat} {ct jd : Nat} {ta : Nat → Int64} {vb sv sm ss : Nat → Nat} {set t : Nat} {gc : Nat → Nat} {M : Nat → Nat → Prop} (hn : n ≤ 14) (F : fl_Full tk n sc) (hset : set < 16) (ht : t ≤ 200) (hw : w ≤ 12) (hgc : gc t = set) (hT : fl_Tru tk gc w n M (t + 1)) (hvb : 0 < t → ∀ j, j < n → (vb j = 1 ↔ M j (t - 1))) (hvb2 : ∀ j, j < n → vb j < 2) (S : CallFix p m c cX1_step 4 s args lw_all RX1) (hA : ∀ q : Nat, s.heap.size ≤ q → A q)
    (K : ∀ (vl me sn : Nat → Nat) (H : Heap) (locs : List Loc) (ls : Array Slot), st_L tk n sc M t 0 vl me sn → wX D (tyP kc) A s H locs (pmW a kc w tk n sc ot ow oc fc ct jd ta vl vb me sn sv sm ss) → lv_has ls 4 [(0, .ref (a 0)), (1, .int (nI set)), (2, .int (nI t))] → W p l e (rm_ 2 50) s m args below meth c H locs 0 0 Q (F0 m 58 ls [])) :
    ∀ (d i : Nat) (vl me sn : Nat → Nat) (H : Heap) (locs : List Loc) (ls : Array Slot), i < d → i ≤ n → st_L tk n sc M t i vl me sn → wX D (tyP kc) A s H locs (pmW a kc w tk n sc ot ow oc fc ct jd ta vl vb me sn sv sm ss) → lv_has ls 4 [(3, .int (nI i - 1)), (0, .ref (a 0)), (1, .int (nI set)), (2, .int (nI t))] → W p l e (rm_ 2 50) s m args below meth c H locs 0 0 Q (F0 m 35 ls []) := by
  have hx := S.1
  have hb := S.2.1
  intro d
  induction d with
  | zero =>
    intro i vl me sn H locs ls hd
    omega
  | succ d ih =>
    intro i vl me sn H locs ls hd hi hI X hl
    refine lv_iload_n hx hb dX1_step_35 rfl (lv_at hl 0 rfl) ?_
    refine mm_if_lt (tgt := 58) hx hb (by omega) dX1_step_36 (by decide) (fun c36 => ?_) (fun c36 => ?_)
    · subst c36
      exact K vl me sn H locs ls hI X (lv_sub hl [1, 2, 3] rfl)
    · obtain ⟨k, rfl⟩ : ∃ k, i = k + 1 := ⟨i - 1, by omega⟩
      rw [nI_pred] at hl
      have b3 := hI.2.2.1 k (by omega)
      have b4 := hI.2.2.2 k (by omega) (by omega)
      refine lv_aload_n hx hb dX1_step_39 rfl (lv_at hl 1 rfl) ?_
      refine gP_vl S X dX1_step_40 ?_
      refine lv_iload_n hx hb dX1_step_43 rfl (lv_at hl 0 rfl) ?_
      refine lv_aload_n hx hb dX1_step_44 rfl (lv_at hl 1 rfl) ?_
      refine lv_iload_n hx hb dX1_step_45 rfl (lv_at hl 0 rfl) ?_
      refine lv_iload_n hx hb dX1_step_46 rfl (lv_at hl 2 rfl) ?_
      refine lv_iload_n hx hb dX1_step_47 rfl (lv_at hl 3 rfl) ?_
      refine cI_call (n := 3) (As := [.int (nI k), .int (nI set), .int (nI t)]) (rest := [.int (nI k), .ref (a 11)]) S X hA (mP_partAt l D a kc (by omega) (F.1 k) hset ht hw (fun q => by have := F.k1 (p := k) (by omega) (by have := mt fl_ar_0.mp (show ¬ tk k < 4 by omega); omega); omega) (fun q => by have := F.k2 (p := k) (by omega) q; omega) (fun j hj => (hI.2.2.1 j hj).1) (fun q => hvb2 (k + 1) (F.k1 (p := k) (by omega) (by have := mt fl_ar_0.mp (show ¬ tk k < 4 by omega); omega))) b3.2.1 b4) (lw_V q142 q144 qs4 q13 q145) rfl rfl (by decide +kernel) ⟨Nat.le_of_ble_eq_true rfl, Nat.le_of_ble_eq_true rfl⟩ rfl rfl hl.1 rfl rfl (Nat.le_of_ble_eq_true rfl) dX1_step_48 ⟨Nat.zero_le _, Nat.zero_le _⟩ (fun r w1 H locs hq X => ?_)
      obtain ⟨rfl, rfl⟩ := hq
      refine sP_vl (paR_lt b3.2.1) S X (by omega) dX1_step_51 (fun H locs X => ?_)
      refine lv_iinc (v := nI k - 1) (lv' := [(3, .int (nI k - 1)), (0, .ref (a 0)), (1, .int (nI set)), (2, .int (nI t))]) hx hb dX1_step_52 hl (k := 0) rfl (mo_dec _) (by decide) rfl (fun ls hl => ?_)
      refine lv_goto (tgt := 35) hx hb dX1_step_55 (by decide) ?_
      exact ih k _ _ _ _ _ _ (by omega) (by omega) (st_L_step F hn hT hgc (by omega) hvb hI) X hl
end STP
set_option maxHeartbeats 4000000 in
theorem mP_step (l : Launch) (D : va_G) (a : Nat → Nat) (kc : Nat → ClassId) {set t : Nat} {gc : Nat → Nat} {M : Nat → Nat → Prop} {w : Nat} {tk : Nat → Nat} {n : Nat} {sc ot ow : Nat → Nat} {oc : Nat} {fc : Nat → Nat} {ct jd : Nat} {ta : Nat → Int64} {vl vb me sn sv sm ss : Nat → Nat} (hn : n ≤ 14) (F : fl_Full tk n sc) (hset : set < 16) (ht : t ≤ 200) (hw : w ≤ 12) (hgc : gc t = set) (hT : fl_Tru tk gc w n M (t + 1)) (hJ : st_J tk n sc M t vl me sn) : cI l D (tyP kc) yX1_step cX1_step 4 (some .boolean) (rm_ 2 50) [.ref (a 0), .int (nI set), .int (nI t)] (pmW a kc w tk n sc ot ow oc fc ct jd ta vl vb me sn sv sm ss) (fun r w1 => ∃ vl' vb' me' sn' : Nat → Nat, w1 = pmW a kc w tk n sc ot ow oc fc ct jd ta vl' vb' me' sn' sv sm ss ∧ st_J tk n sc M (t + 1) vl' me' sn' ∧ r = nI (vl' 0)) := by
  refine cI_of (by decide) (Nat.le_of_ble_eq_true rfl) ?_
  intro p e s m below meth c ls S hr hlk X hA hl
  have hx := S.1
  have hb := S.2.1
  have hl : lv_has ls 4 [(0, .ref (a 0)), (1, .int (nI set)), (2, .int (nI t))] := hl
  refine lv_iconst (v := nI 0) hx hb dX1_step_0 (by decide) ?_
  refine lv_istore_n (lv' := [(3, .int (nI 0)), (0, .ref (a 0)), (1, .int (nI set)), (2, .int (nI t))]) hx hb dX1_step_1 rfl hl (by decide) rfl (fun ls hl => ?_)
  refine lpP_step1 hn (fun j hj => (hJ.2.2 j hj).1) S hA (fun vb H locs ls hVB X hl => ?_) (n + 1) 0 vb _ _ ls (by omega) (by omega) (fun j hj => absurd hj (by omega)) X hl
  refine lv_aload_n hx hb dX1_step_28 rfl (lv_at hl 0 rfl) ?_
  refine gP_n S X dX1_step_29 ?_
  refine lv_iconst (v := nI 1) hx hb dX1_step_32 (by decide) ?_
  refine lv_isub hx hb dX1_step_33 ?_
  refine mi_eq (y := nI n - 1) rfl ?_
  refine lv_istore_n (lv' := [(3, .int (nI n - 1)), (0, .ref (a 0)), (1, .int (nI set)), (2, .int (nI t))]) hx hb dX1_step_34 rfl hl (by decide) rfl (fun ls hl => ?_)
  refine lpP_step2 (vb := vb) hn F hset ht hw hgc hT (fun h0 j hj => by rw [hVB j hj]; exact hJ.2.1 h0 j hj) (fun j hj => by rw [hVB j hj]; exact (hJ.2.2 j (by omega)).1) S hA (fun vl me sn H locs ls hI X hl => ?_) (n + 1) n vl me sn _ _ ls (by omega) (by omega) (st_L_of hJ) X hl
  refine lv_aload_n hx hb dX1_step_58 rfl (lv_at hl 0 rfl) ?_
  refine gP_vl S X dX1_step_59 ?_
  refine lv_iconst (v := nI 0) hx hb dX1_step_62 (by decide) ?_
  refine lP_vl S X (by omega) dX1_step_63 ?_
  exact cZ_ret S hr hlk X (hI.2.2.1 0 (by omega)).1 dX1_step_64 ⟨vl, vb, me, sn, rfl, st_L_end hI, rfl⟩
end
section
set_option maxRecDepth 100000
theorem fl_Mem_congr {op : Nat} {g g' h h' : Nat → Prop} {t me sn : Nat} (hg : 8 ≤ op → ∀ u, u < t → (g u ↔ g' u)) (hh : op = 10 → ∀ u, u < t → (h u ↔ h' u)) (m : fl_Mem op g h t me sn) : fl_Mem op g' h' t me sn := by
  obtain ⟨m1, m2, m3, m4, m5⟩ := m
  refine ⟨fun e => ?_, fun e => ?_, fun e => ?_, fun e => ?_, fun e => ?_⟩
  · have g0 := hg (by omega)
    exact (m1 e).trans ⟨fun ⟨u, u1, u2⟩ => ⟨u, u1, (g0 u u1).mp u2⟩, fun ⟨u, u1, u2⟩ => ⟨u, u1, (g0 u u1).mpr u2⟩⟩
  · have g0 := hg (by omega)
    exact (m2 e).trans ⟨fun z u u1 => (g0 u u1).mp (z u u1), fun z u u1 => (g0 u u1).mpr (z u u1)⟩
  · have g0 := hg (by omega)
    have h0 := hh e
    exact (m3 e).trans ⟨fun ⟨u, u1, u2, u3⟩ => ⟨u, u1, (h0 u u1).mp u2, fun x x1 x2 => (g0 x x2).mp (u3 x x1 x2)⟩, fun ⟨u, u1, u2, u3⟩ => ⟨u, u1, (h0 u u1).mpr u2, fun x x1 x2 => (g0 x x2).mpr (u3 x x1 x2)⟩⟩
  · have g0 := hg (by omega)
    obtain ⟨a1, a2, a3⟩ := m4 e
    exact ⟨a1, fun z => (g0 _ (by omega)).mp (a2 z), fun u u1 u2 z => a3 u u1 u2 ((g0 u u2).mpr z)⟩
  · have g0 := hg (by omega)
    obtain ⟨a1, a2, a3⟩ := m5 e
    exact ⟨a1, fun z y => a2 z ((g0 _ (by omega)).mpr y), fun u u1 u2 => (g0 u u2).mp (a3 u u1 u2)⟩
theorem fl_ar_8 {t : Nat} (h : 8 ≤ t) : 1 ≤ fl_ar t := by
  have := mt fl_ar_0.mp (show ¬ t < 4 by omega)
  omega
/-- the same parts, by another reading of the truths and of where parts begin -/
theorem st_J_move {tk sc sc' vl me sn : Nat → Nat} {n t : Nat} {M M' : Nat → Nat → Prop} (F : fl_Full tk n sc) (F' : fl_Full tk n sc') (hM : ∀ k, k < n → ∀ u, u < t → (M k u ↔ M' k u)) (h : st_J tk n sc M t vl me sn) : st_J tk n sc' M' t vl me sn := by
  obtain ⟨h1, h2, h3⟩ := h
  refine ⟨fun j hj => fl_Mem_congr (fun q u hu => ?_) (fun q u hu => ?_) (h1 j hj), fun h0 j hj => (h2 h0 j hj).trans (hM j hj _ (by omega)), h3⟩
  · exact hM (j + 1) (F.k1 hj (fl_ar_8 q)) u hu
  · have q2 : fl_ar (tk j) = 2 := fl_ar_2.mpr (by omega)
    rw [← fl_Sec_uniq (F.2.2.2 j hj q2) (F'.2.2.2 j hj q2)]
    exact hM (sc j) (F.k2 hj q2).2 u hu
theorem st_J_ext {tk sc vl me sn vl' me' sn' : Nat → Nat} {n t : Nat} {M : Nat → Nat → Prop} (hn : n ≤ 14) (hx : ∀ j, j < 14 → vl' j = vl j ∧ me' j = me j ∧ sn' j = sn j) (h : st_J tk n sc M t vl me sn) : st_J tk n sc M t vl' me' sn' := by
  obtain ⟨h1, h2, h3⟩ := h
  refine ⟨fun j hj => ?_, fun h0 j hj => ?_, fun j hj => ?_⟩
  · obtain ⟨x1, x2, x3⟩ := hx j (by omega)
    rw [x2, x3]
    exact h1 j hj
  · obtain ⟨x1, x2, x3⟩ := hx j (by omega)
    rw [x1]
    exact h2 h0 j hj
  · obtain ⟨x1, x2, x3⟩ := hx j hj
    rw [x1, x2, x3]
    exact h3 j hj
theorem st_J_0 {tk sc vl me sn : Nat → Nat} {n : Nat} {M : Nat → Nat → Prop} (hn : n ≤ 14) (h : ∀ j, j < 14 → vl j = 0 ∧ me j = (if tk j = 9 then 1 else 0) ∧ sn j = 0) : st_J tk n sc M 0 vl me sn := by
  refine ⟨fun j hj => ?_, fun h0 => absurd h0 (by omega), fun j hj => ?_⟩
  · obtain ⟨x1, x2, x3⟩ := h j (by omega)
    rw [x2, x3]
    exact fl_Mem_0 _ _ _
  · obtain ⟨x1, x2, x3⟩ := h j hj
    rw [x1, x2, x3]
    refine ⟨by decide, ?_, Nat.le_refl _⟩
    split <;> decide
/-- what is known of the judged events -/
def jd_K (w : Nat) (tk : Nat → Nat) (n : Nat) (fc : Nat → Nat) (jd : Nat) (ta : Nat → Int64) (vl me sn sc : Nat → Nat) (M : Nat → Nat → Prop) : Prop := fl_Full tk n sc ∧ fl_Tru tk fc w n M jd ∧ st_J tk n sc M jd vl me sn ∧ ∀ t, t < jd → (tb_ ta t = 1 ↔ M 0 t)
/-- PastMonitor's own invariant between calls -/
def pm_I (w : Nat) (tk : Nat → Nat) (n : Nat) (fc : Nat → Nat) (ct jd : Nat) (ta : Nat → Int64) (vl me sn : Nat → Nat) : Prop := w ≤ 12 ∧ n ≤ 14 ∧ (∀ k, tk k ≤ 12) ∧ fl_Ok tk n ∧ ct ≤ 200 ∧ (∀ t, fc t ≤ 15) ∧ jd ≤ ct ∧ (0 < jd → ∃ sc M, jd_K w tk n fc jd ta vl me sn sc M)
section JDG
variable {p : Program} {l : Launch} {e : Env} {R : Room} {s : State} {m : MethodId} {args : Array Value} {below : List Frame} {meth : Method} {c : Code} {Q : State → Prop} {D : va_G} {A : Nat → Prop} {a : Nat → Nat} {kc : Nat → ClassId}
set_option maxHeartbeats 4000000 in
theorem lpP_judge {w : Nat} {tk : Nat → Nat} {n : Nat} {sc ot ow : Nat → Nat} {oc : Nat} {fc : Nat → Nat} {ct : Nat} {sv sm ss : Nat → Nat} {M : Nat → Nat → Prop} (hw : w ≤ 12) (hn : n ≤ 14) (F : fl_Full tk n sc) (hct : ct ≤ 200) (hfc : ∀ t, fc t ≤ 15) (hT : ∀ m, fl_Tru tk fc w n M m) (S : CallFix p m c cX1_judge 5 s args lw_all RX1) (hA : ∀ q : Nat, s.heap.size ≤ q → A q)
    (K : ∀ (ta : Nat → Int64) (vl vb me sn : Nat → Nat) (H : Heap) (locs : List Loc) (ls : Array Slot), st_J tk n sc M ct vl me sn → (∀ t, t < ct → (tb_ ta t = 1 ↔ M 0 t)) → wX D (tyP kc) A s H locs (pmW a kc w tk n sc ot ow oc fc ct ct ta vl vb me sn sv sm ss) → lv_has ls 5 [(0, .ref (a 0))] → W p l e (rm_ 3 73) s m args below meth c H locs 0 0 Q (F0 m 117 ls [])) :
    ∀ (d jd : Nat) (ta : Nat → Int64) (vl vb me sn : Nat → Nat) (H : Heap) (locs : List Loc) (ls : Array Slot), ct - jd < d → jd ≤ ct → st_J tk n sc M jd vl me sn → (∀ t, t < jd → (tb_ ta t = 1 ↔ M 0 t)) → wX D (tyP kc) A s H locs (pmW a kc w tk n sc ot ow oc fc ct jd ta vl vb me sn sv sm ss) → lv_has ls 5 [(0, .ref (a 0))] → W p l e (rm_ 3 73) s m args below meth c H locs 0 0 Q (F0 m 20 ls []) := by
  have hx := S.1
  have hb := S.2.1
  intro d
  induction d with
  | zero =>
    intro jd ta vl vb me sn H locs ls hd
    omega
  | succ d ih =>
    intro jd ta vl vb me sn H locs ls hd hjd hJ hB X hl
    refine lv_aload_n hx hb dX1_judge_20 rfl (lv_at hl 0 rfl) ?_
    refine gP_jd S X dX1_judge_21 ?_
    refine lv_aload_n hx hb dX1_judge_24 rfl (lv_at hl 0 rfl) ?_
    refine gP_ct S X dX1_judge_25 ?_
    refine mn_icmp_ge (tgt := 117) hx hb (by omega) (by omega) dX1_judge_28 (by decide) (fun c28 => ?_) (fun c28 => ?_)
    · skip
      have e0 : jd = ct := by omega
      subst e0
      exact K ta vl vb me sn H locs ls hJ hB X hl
    · skip
      refine lv_aload_n hx hb dX1_judge_31 rfl (lv_at hl 0 rfl) ?_
      refine lv_aload_n hx hb dX1_judge_32 rfl (lv_at hl 0 rfl) ?_
      refine gP_fc S X dX1_judge_33 ?_
      refine lv_aload_n hx hb dX1_judge_36 rfl (lv_at hl 0 rfl) ?_
      refine gP_jd S X dX1_judge_37 ?_
      refine lP_fc S X (by omega) dX1_judge_40 ?_
      refine lv_aload_n hx hb dX1_judge_41 rfl (lv_at hl 0 rfl) ?_
      refine gP_jd S X dX1_judge_42 ?_
      refine cI_call (n := 2) (As := [.int (nI (fc jd)), .int (nI jd)]) (rest := []) S X hA (mP_step l D a kc (gc := fc) hn F (by have := hfc jd; omega) (by omega) hw rfl (hT _) hJ) (lw_V q138 q140 qs3 q13 q141) rfl rfl (by decide +kernel) ⟨Nat.le_of_ble_eq_true rfl, Nat.le_of_ble_eq_true rfl⟩ rfl rfl hl.1 rfl rfl (Nat.le_of_ble_eq_true rfl) dX1_judge_45 ⟨Nat.zero_le _, Nat.zero_le _⟩ (fun r w1 H locs hq X => ?_)
      obtain ⟨vl1, vb1, me1, sn1, rfl, hJ1, rfl⟩ := hq
      have hz := hJ1.2.1 (by omega) 0 F.pos
      have hy := (hJ1.2.2 0 (by omega)).1
      refine lv_istore_n (lv' := [(1, .int (nI (vl1 0))), (0, .ref (a 0))]) hx hb dX1_judge_48 rfl hl (by decide) rfl (fun ls hl => ?_)
      refine lv_lconst (v := 1) hx hb dX1_judge_49 (by decide) ?_
      refine lv_aload_n hx hb dX1_judge_50 rfl (lv_at hl 1 rfl) ?_
      refine gP_jd S X dX1_judge_51 ?_
      refine lv_bipush (v := nI 63) hx hb dX1_judge_54 (by decide) ?_
      refine lv_iand hx hb dX1_judge_56 ?_
      refine mi_eq (y := nI (jd % 64)) (pk_andN (by omega) 6 (by decide)) ?_
      refine lv_lshl (v := (1 : Int64) <<< ((nI (jd % 64)).toInt64 &&& 63)) hx hb dX1_judge_57 rfl ?_
      refine lv_lstore_n (lv' := [(2, .long ((1 : Int64) <<< ((nI (jd % 64)).toInt64 &&& 63))), (1, .int (nI (vl1 0))), (0, .ref (a 0))]) hx hb dX1_judge_58 rfl hl (by decide) rfl (fun ls hl => ?_)
      refine lv_aload_n hx hb dX1_judge_59 rfl (lv_at hl 2 rfl) ?_
      refine gP_jd S X dX1_judge_60 ?_
      refine lv_bipush (v := nI 6) hx hb dX1_judge_63 (by decide) ?_
      refine lv_ishr hx hb dX1_judge_65 ?_
      refine mi_eq (y := nI (jd / 64)) (pk_shrN (by omega) _ 6 (by decide)) ?_
      refine lv_istore (lv' := [(4, .int (nI (jd / 64))), (2, .long ((1 : Int64) <<< ((nI (jd % 64)).toInt64 &&& 63))), (1, .int (nI (vl1 0))), (0, .ref (a 0))]) hx hb dX1_judge_66 hl (by decide) rfl (fun ls hl => ?_)
      refine lv_aload_n hx hb dX1_judge_68 rfl (lv_at hl 3 rfl) ?_
      refine gP_ta S X dX1_judge_69 ?_
      refine lv_iload hx hb dX1_judge_72 (lv_at hl 0 rfl) ?_
      refine lv_iload_n hx hb dX1_judge_74 rfl (lv_at hl 2 rfl) ?_
      refine mn_if_eq (tgt := 90) hx hb (by omega) dX1_judge_75 (by decide) (fun c75 => ?_) (fun c75 => ?_)
      · skip
        refine lv_aload_n hx hb dX1_judge_90 rfl (lv_at hl 3 rfl) ?_
        refine gP_ta S X dX1_judge_91 ?_
        refine lv_iload hx hb dX1_judge_94 (lv_at hl 0 rfl) ?_
        refine lP_ta S X (by omega) dX1_judge_96 ?_
        refine lv_lload_n hx hb dX1_judge_97 rfl (lv_at hl 1 rfl) ?_
        refine lv_ldc2 (v := -1) hx hb S.2.2.2.1 (S.2.2.2.2 _ q150) dX1_judge_98 ?_
        refine lv_lxor hx hb dX1_judge_101 ?_
        refine lv_land hx hb dX1_judge_102 ?_
        refine sP_ta S X (by omega) dX1_judge_103 (fun H locs X => ?_)
        refine lv_aload_n hx hb dX1_judge_104 rfl (lv_at hl 3 rfl) ?_
        refine lv_dup hx hb dX1_judge_105 rfl ?_
        refine gP_jd S X dX1_judge_106 ?_
        refine lv_iconst (v := nI 1) hx hb dX1_judge_109 (by decide) ?_
        refine mn_iadd hx hb dX1_judge_110 ?_
        refine pP_jd S X dX1_judge_111 (fun H locs X => ?_)
        refine lv_goto (tgt := 20) hx hb dX1_judge_114 (by decide) ?_
        have hE := tb_clr (ta := ta) (j := jd) (tb_and (w := ta (jd / 64)) (k := jd % 64) (Nat.mod_lt _ (by decide)))
        have hE2 : ∀ t, t < jd + 1 → (tb_ (vp_updL ta (jd / 64) ((ta (jd / 64)) &&& (((1 : Int64) <<< ((nI (jd % 64)).toInt64 &&& 63)) ^^^ (-1)))) t = 1 ↔ M 0 t) := by
          intro t ht
          by_cases e : t = jd
          · subst e
            rw [hE.1]
            exact ⟨fun q => absurd q (by decide), fun q => absurd (hz.mpr q) (by omega)⟩
          · rw [hE.2 t e]
            exact hB t (by omega)
        exact ih (jd + 1) _ _ _ _ _ _ _ _ (by omega) (by omega) hJ1 hE2 X (lv_sub hl [3] rfl)
      · skip
        refine lv_aload_n hx hb dX1_judge_78 rfl (lv_at hl 3 rfl) ?_
        refine gP_ta S X dX1_judge_79 ?_
        refine lv_iload hx hb dX1_judge_82 (lv_at hl 0 rfl) ?_
        refine lP_ta S X (by omega) dX1_judge_84 ?_
        refine lv_lload_n hx hb dX1_judge_85 rfl (lv_at hl 1 rfl) ?_
        refine lv_lor hx hb dX1_judge_86 ?_
        refine lv_goto (tgt := 103) hx hb dX1_judge_87 (by decide) ?_
        refine sP_ta S X (by omega) dX1_judge_103 (fun H locs X => ?_)
        refine lv_aload_n hx hb dX1_judge_104 rfl (lv_at hl 3 rfl) ?_
        refine lv_dup hx hb dX1_judge_105 rfl ?_
        refine gP_jd S X dX1_judge_106 ?_
        refine lv_iconst (v := nI 1) hx hb dX1_judge_109 (by decide) ?_
        refine mn_iadd hx hb dX1_judge_110 ?_
        refine pP_jd S X dX1_judge_111 (fun H locs X => ?_)
        refine lv_goto (tgt := 20) hx hb dX1_judge_114 (by decide) ?_
        have hE := tb_set (ta := ta) (j := jd) (tb_or (w := ta (jd / 64)) (k := jd % 64) (Nat.mod_lt _ (by decide)))
        have hE2 : ∀ t, t < jd + 1 → (tb_ (vp_updL ta (jd / 64) ((ta (jd / 64)) ||| ((1 : Int64) <<< ((nI (jd % 64)).toInt64 &&& 63)))) t = 1 ↔ M 0 t) := by
          intro t ht
          by_cases e : t = jd
          · subst e
            rw [hE.1]
            exact ⟨fun _ => hz.mp (by omega), fun _ => rfl⟩
          · rw [hE.2 t e]
            exact hB t (by omega)
        exact ih (jd + 1) _ _ _ _ _ _ _ _ (by omega) (by omega) hJ1 hE2 X (lv_sub hl [3] rfl)
end JDG
set_option maxHeartbeats 4000000 in
theorem mP_judge (l : Launch) (D : va_G) (a : Nat → Nat) (kc : Nat → ClassId) {w : Nat} {tk : Nat → Nat} {n : Nat} {sc ot ow : Nat → Nat} {oc : Nat} {fc : Nat → Nat} {ct jd : Nat} {ta : Nat → Int64} {vl vb me sn sv sm ss : Nat → Nat} (hI : pm_I w tk n fc ct jd ta vl me sn) : cI l D (tyP kc) yX1_judge cX1_judge 5 (some .boolean) (rm_ 3 73) [.ref (a 0)] (pmW a kc w tk n sc ot ow oc fc ct jd ta vl vb me sn sv sm ss) (fun r w1 => ∃ (oc' : Nat) (sc' ot' ow' : Nat → Nat) (jd' : Nat) (ta' : Nat → Int64) (vl' vb' me' sn' : Nat → Nat), w1 = pmW a kc w tk n sc' ot' ow' oc' fc ct jd' ta' vl' vb' me' sn' sv sm ss ∧ pm_I w tk n fc ct jd' ta' vl' me' sn' ∧ ((¬ fl_op tk n = 0 ∧ r = nI 0) ∨ (fl_op tk n = 0 ∧ r = nI 1 ∧ jd' = ct ∧ ∃ M, jd_K w tk n fc ct ta' vl' me' sn' sc' M))) := by
  obtain ⟨hw, hn, htk, hok, hct, hfc, hjd, hjd2⟩ := hI
  refine cI_of (by decide) (Nat.le_of_ble_eq_true rfl) ?_
  intro p e s m below meth c ls S hr hlk X hA hl
  have hx := S.1
  have hb := S.2.1
  have hl : lv_has ls 5 [(0, .ref (a 0))] := hl
  refine lv_aload_n hx hb dX1_judge_0 rfl (lv_at hl 0 rfl) ?_
  refine cI_call (n := 0) (As := []) (rest := []) S X hA (mP_complete l D a kc hn htk hok) (lw_V q86 q87 q88 q13 q89) rfl rfl (by decide +kernel) ⟨Nat.le_of_ble_eq_true rfl, Nat.le_of_ble_eq_true rfl⟩ rfl rfl hl.1 rfl rfl (Nat.le_of_ble_eq_true rfl) dX1_judge_1 ⟨Nat.zero_le _, Nat.zero_le _⟩ (fun r w1 H locs hq X => ?_)
  obtain ⟨oc1, sc1, ot1, ow1, rfl, hq⟩ := hq
  rcases hq with ⟨hq1, rfl, F⟩ | ⟨hq1, rfl⟩
  · refine mn_if_ne (tgt := 9) hx hb (by decide) dX1_judge_4 (by decide) (fun c4 => ?_) (fun c4 => absurd c4 (by decide))
    obtain ⟨M, hT⟩ := fl_exists (w := w) fc F
    refine lv_aload_n hx hb dX1_judge_9 rfl (lv_at hl 0 rfl) ?_
    refine gP_jd S X dX1_judge_10 ?_
    refine mn_if_ne (tgt := 20) hx hb (by omega) dX1_judge_13 (by decide) (fun c13 => ?_) (fun c13 => ?_)
    · skip
      obtain ⟨sc0, M0, F0_, T0, J0, B0⟩ := hjd2 (by omega)
      have hU := fl_uniq F T0 ((hT jd)) (fun _ _ => rfl)
      refine lpP_judge hw hn F hct hfc hT S hA (fun ta vl vb me sn H locs ls hJ hB X hl => ?_) (ct + 1) jd ta vl vb me sn _ _ ls (by omega) hjd (st_J_move F0_ F hU J0) (fun t ht => (B0 t ht).trans (hU 0 F.pos t ht)) X hl
      refine lv_iconst (v := nI 1) hx hb dX1_judge_117 (by decide) ?_
      exact cZ_ret S hr hlk X (by omega) dX1_judge_118 ⟨oc1, sc1, ot1, ow1, ct, ta, vl, vb, me, sn, rfl, ⟨hw, hn, htk, hok, hct, hfc, Nat.le_refl _, fun _ => ⟨sc1, M, F, hT ct, hJ, hB⟩⟩, Or.inr ⟨hq1, rfl, rfl, M, F, hT ct, hJ, hB⟩⟩
    · skip
      subst c13
      refine lv_aload_n hx hb dX1_judge_16 rfl (lv_at hl 0 rfl) ?_
      refine cV_call (n := 0) (As := []) (rest := []) S X hA (mP_begin l D a kc htk) (lw_V q134 q136 qs2 q13 q137) rfl rfl (by decide +kernel) ⟨Nat.le_of_ble_eq_true rfl, Nat.le_of_ble_eq_true rfl⟩ rfl rfl hl.1 rfl rfl (Nat.le_of_ble_eq_true rfl) dX1_judge_17 ⟨Nat.zero_le _, Nat.zero_le _⟩ (fun w1 H locs hq X => ?_)
      obtain ⟨vl1, me1, sn1, rfl, hq⟩ := hq
      refine lpP_judge hw hn F hct hfc hT S hA (fun ta vl vb me sn H locs ls hJ hB X hl => ?_) (ct + 1) 0 ta vl1 vb me1 sn1 _ _ ls (by omega) (by omega) (st_J_0 hn hq) (fun t ht => absurd ht (by omega)) X hl
      refine lv_iconst (v := nI 1) hx hb dX1_judge_117 (by decide) ?_
      exact cZ_ret S hr hlk X (by omega) dX1_judge_118 ⟨oc1, sc1, ot1, ow1, ct, ta, vl, vb, me, sn, rfl, ⟨hw, hn, htk, hok, hct, hfc, Nat.le_refl _, fun _ => ⟨sc1, M, F, hT ct, hJ, hB⟩⟩, Or.inr ⟨hq1, rfl, rfl, M, F, hT ct, hJ, hB⟩⟩
  · refine mn_if_ne (tgt := 9) hx hb (by decide) dX1_judge_4 (by decide) (fun c4 => absurd rfl c4) (fun c4 => ?_)
    refine lv_iconst (v := nI 0) hx hb dX1_judge_7 (by decide) ?_
    exact cZ_ret S hr hlk X (by omega) dX1_judge_8 ⟨oc1, sc1, ot1, ow1, jd, ta, vl, vb, me, sn, rfl, ⟨hw, hn, htk, hok, hct, hfc, hjd, hjd2⟩, Or.inl ⟨hq1, rfl⟩⟩
end
section
set_option maxRecDepth 100000
noncomputable def tf_ (tk fc : Nat → Nat) (w n : Nat) : Nat → Nat := fun t => fl_b (fl_tru tk fc w n t)
noncomputable def at_ (tk fc : Nat → Nat) (w n ct : Nat) (v : Int32) : Nat := fl_b (∃ t, v = nI t ∧ t < ct ∧ ct ≤ 200 ∧ fl_op tk n = 0 ∧ fl_tru tk fc w n t)
noncomputable def cn_ (tk fc : Nat → Nat) (w n ct : Nat) : Int32 := if fl_op tk n = 0 then nI (fl_sum (tf_ tk fc w n) ct) else -1
def fl_vio (f : Nat → Nat) : Nat → Nat → Int32
  | _, 0 => -1
  | x, d + 1 => if f x = 0 then nI x else fl_vio f (x + 1) d
theorem fl_vio_e {f : Nat → Nat} {x c : Nat} (h : c ≤ x) : fl_vio f x (c - x) = -1 := by
  rw [show c - x = 0 by omega]
  unfold fl_vio
  rfl
theorem fl_vio_s {f : Nat → Nat} {x c : Nat} (h : x < c) : fl_vio f x (c - x) = if f x = 0 then nI x else fl_vio f (x + 1) (c - (x + 1)) := by
  rw [show c - x = (c - (x + 1)) + 1 by omega]
  rw [fl_vio]
noncomputable def vi_ (tk fc : Nat → Nat) (w n ct : Nat) (v : Int32) : Int32 := if v < 0 then -1 else if fl_op tk n = 0 then fl_vio (tf_ tk fc w n) v.toNatClampNeg (ct - v.toNatClampNeg) else -1
def fl_run (f : Nat → Nat) (c : Nat) : Nat → Nat → Nat
  | k, 0 => k
  | k, d + 1 => if f (c - 1 - k) = 0 then k else fl_run f c (k + 1) d
theorem fl_run_e {f : Nat → Nat} {k c : Nat} (h : c ≤ k) : fl_run f c k (c - k) = k := by
  rw [show c - k = 0 by omega]
  unfold fl_run
  rfl
theorem fl_run_s {f : Nat → Nat} {k c : Nat} (h : k < c) : fl_run f c k (c - k) = if f (c - 1 - k) = 0 then k else fl_run f c (k + 1) (c - (k + 1)) := by
  rw [show c - k = (c - (k + 1)) + 1 by omega]
  rw [fl_run]
noncomputable def sk_ (tk fc : Nat → Nat) (w n ct : Nat) : Int32 := if fl_op tk n = 0 then nI (fl_run (tf_ tk fc w n) ct 0 (ct - 0)) else -1
noncomputable def wh_ (tk fc : Nat → Nat) (w n ct : Nat) (v : Int32) : Nat := fl_b (∃ t, v = nI t ∧ t ≤ 15 ∧ fl_op tk n = 0 ∧ fl_tru tk (va_up fc ct t) w n ct)
noncomputable def al_ (tk fc : Nat → Nat) (w n ct : Nat) : Int32 := nI (fl_sum (fun x => wh_ tk fc w n ct (nI x)) 16)
/-- a world that is a PastMonitor with that window, formula and events -/
def pm_R (a : Nat → Nat) (kc : Nat → ClassId) (w : Nat) (tk : Nat → Nat) (n : Nat) (fc : Nat → Nat) (ct : Nat) (w0 : va_W) : Prop := ∃ (sc ot ow : Nat → Nat) (oc jd : Nat) (ta : Nat → Int64) (vl vb me sn sv sm ss : Nat → Nat), w0 = pmW a kc w tk n sc ot ow oc fc ct jd ta vl vb me sn sv sm ss ∧ pm_I w tk n fc ct jd ta vl me sn
section IMG
variable {p : Program} {l : Launch} {e : Env} {R : Room} {s : State} {m : MethodId} {args : Array Value} {below : List Frame} {meth : Method} {c : Code} {Q : State → Prop} {D : va_G} {A : Nat → Prop} {a : Nat → Nat} {kc : Nat → ClassId}
set_option maxHeartbeats 4000000 in
theorem lpP_save {w : Nat} {tk : Nat → Nat} {n : Nat} {sc ot ow : Nat → Nat} {oc : Nat} {fc : Nat → Nat} {ct jd : Nat} {ta : Nat → Int64} {vl vb me sn : Nat → Nat} {set : Nat} (hb3 : ∀ j, j < 14 → vl j < 2 ∧ me j < 2 ∧ sn j ≤ 200) (S : CallFix p m c cX1_imagine 4 s args lw_all RX1)
    (K : ∀ (sv sm ss : Nat → Nat) (H : Heap) (locs : List Loc) (ls : Array Slot), (∀ j, j < 14 → sv j = vl j ∧ sm j = me j ∧ ss j = sn j) → wX D (tyP kc) A s H locs (pmW a kc w tk n sc ot ow oc fc ct jd ta vl vb me sn sv sm ss) → lv_has ls 4 [(0, .ref (a 0)), (1, .int (nI set))] → W p l e R s m args below meth c H locs 0 0 Q (F0 m 50 ls [])) :
    ∀ (d k : Nat) (sv sm ss : Nat → Nat) (H : Heap) (locs : List Loc) (ls : Array Slot), 14 - k < d → k ≤ 14 → (∀ j, j < k → sv j = vl j ∧ sm j = me j ∧ ss j = sn j) → wX D (tyP kc) A s H locs (pmW a kc w tk n sc ot ow oc fc ct jd ta vl vb me sn sv sm ss) → lv_has ls 4 [(2, .int (nI k)), (0, .ref (a 0)), (1, .int (nI set))] → W p l e R s m args below meth c H locs 0 0 Q (F0 m 2 ls []) := by
  have hx := S.1
  have hb := S.2.1
  intro d
  induction d with
  | zero =>
    intro k sv sm ss H locs ls hd
    omega
  | succ d ih =>
    intro k sv sm ss H locs ls hd hk hI X hl
    refine lv_iload_n hx hb dX1_imagine_2 rfl (lv_at hl 0 rfl) ?_
    refine lv_bipush (v := nI 14) hx hb dX1_imagine_3 (by decide) ?_
    refine mn_icmp_ge (tgt := 50) hx hb (by omega) (by omega) dX1_imagine_5 (by decide) (fun c5 => ?_) (fun c5 => ?_)
    · skip
      have e0 : k = 14 := by omega
      subst e0
      exact K sv sm ss H locs ls hI X (lv_sub hl [1, 2] rfl)
    · skip
      obtain ⟨b1, b2, b3⟩ := hb3 k (by omega)
      refine lv_aload_n hx hb dX1_imagine_8 rfl (lv_at hl 1 rfl) ?_
      refine gP_sv S X dX1_imagine_9 ?_
      refine lv_iload_n hx hb dX1_imagine_12 rfl (lv_at hl 0 rfl) ?_
      refine lv_aload_n hx hb dX1_imagine_13 rfl (lv_at hl 1 rfl) ?_
      refine gP_vl S X dX1_imagine_14 ?_
      refine lv_iload_n hx hb dX1_imagine_17 rfl (lv_at hl 0 rfl) ?_
      refine lP_vl S X (by omega) dX1_imagine_18 ?_
      refine sP_sv (by omega) S X (by omega) dX1_imagine_19 (fun H locs X => ?_)
      refine lv_aload_n hx hb dX1_imagine_20 rfl (lv_at hl 1 rfl) ?_
      refine gP_sm S X dX1_imagine_21 ?_
      refine lv_iload_n hx hb dX1_imagine_24 rfl (lv_at hl 0 rfl) ?_
      refine lv_aload_n hx hb dX1_imagine_25 rfl (lv_at hl 1 rfl) ?_
      refine gP_me S X dX1_imagine_26 ?_
      refine lv_iload_n hx hb dX1_imagine_29 rfl (lv_at hl 0 rfl) ?_
      refine lP_me S X (by omega) dX1_imagine_30 ?_
      refine sP_sm (by omega) S X (by omega) dX1_imagine_31 (fun H locs X => ?_)
      refine lv_aload_n hx hb dX1_imagine_32 rfl (lv_at hl 1 rfl) ?_
      refine gP_ss S X dX1_imagine_33 ?_
      refine lv_iload_n hx hb dX1_imagine_36 rfl (lv_at hl 0 rfl) ?_
      refine lv_aload_n hx hb dX1_imagine_37 rfl (lv_at hl 1 rfl) ?_
      refine gP_sn S X dX1_imagine_38 ?_
      refine lv_iload_n hx hb dX1_imagine_41 rfl (lv_at hl 0 rfl) ?_
      refine lP_sn S X (by omega) dX1_imagine_42 ?_
      refine sP_ss (by omega) S X (by omega) dX1_imagine_43 (fun H locs X => ?_)
      refine lv_iinc (v := nI (k + 1)) (lv' := [(2, .int (nI (k + 1))), (0, .ref (a 0)), (1, .int (nI set))]) hx hb dX1_imagine_44 hl (k := 0) rfl (nI_1 k) (by decide) rfl (fun ls hl => ?_)
      refine lv_goto (tgt := 2) hx hb dX1_imagine_47 (by decide) ?_
      exact ih (k + 1) _ _ _ _ _ _ (by omega) (by omega) (up3 (P := fun j x y z => x = vl j ∧ y = me j ∧ z = sn j) hI ⟨rfl, rfl, rfl⟩) X hl
set_option maxHeartbeats 4000000 in
theorem lpP_rest {w : Nat} {tk : Nat → Nat} {n : Nat} {sc ot ow : Nat → Nat} {oc : Nat} {fc : Nat → Nat} {ct jd : Nat} {ta : Nat → Int64} {vb sv sm ss : Nat → Nat} {hh : Nat} (hb3 : ∀ j, j < 14 → sv j < 2 ∧ sm j < 2 ∧ ss j ≤ 200) (S : CallFix p m c cX1_imagine 4 s args lw_all RX1)
    (K : ∀ (vl me sn : Nat → Nat) (H : Heap) (locs : List Loc) (ls : Array Slot), (∀ j, j < 14 → vl j = sv j ∧ me j = sm j ∧ sn j = ss j) → wX D (tyP kc) A s H locs (pmW a kc w tk n sc ot ow oc fc ct jd ta vl vb me sn sv sm ss) → lv_has ls 4 [(2, .int (nI hh))] → W p l e R s m args below meth c H locs 0 0 Q (F0 m 110 ls [])) :
    ∀ (d k : Nat) (vl me sn : Nat → Nat) (H : Heap) (locs : List Loc) (ls : Array Slot), 14 - k < d → k ≤ 14 → (∀ j, j < k → vl j = sv j ∧ me j = sm j ∧ sn j = ss j) → wX D (tyP kc) A s H locs (pmW a kc w tk n sc ot ow oc fc ct jd ta vl vb me sn sv sm ss) → lv_has ls 4 [(3, .int (nI k)), (2, .int (nI hh)), (0, .ref (a 0))] → W p l e R s m args below meth c H locs 0 0 Q (F0 m 62 ls []) := by
  have hx := S.1
  have hb := S.2.1
  intro d
  induction d with
  | zero =>
    intro k vl me sn H locs ls hd
    omega
  | succ d ih =>
    intro k vl me sn H locs ls hd hk hI X hl
    refine lv_iload_n hx hb dX1_imagine_62 rfl (lv_at hl 0 rfl) ?_
    refine lv_bipush (v := nI 14) hx hb dX1_imagine_63 (by decide) ?_
    refine mn_icmp_ge (tgt := 110) hx hb (by omega) (by omega) dX1_imagine_65 (by decide) (fun c65 => ?_) (fun c65 => ?_)
    · skip
      have e0 : k = 14 := by omega
      subst e0
      exact K vl me sn H locs ls hI X (lv_sub hl [1] rfl)
    · skip
      obtain ⟨b1, b2, b3⟩ := hb3 k (by omega)
      refine lv_aload_n hx hb dX1_imagine_68 rfl (lv_at hl 2 rfl) ?_
      refine gP_vl S X dX1_imagine_69 ?_
      refine lv_iload_n hx hb dX1_imagine_72 rfl (lv_at hl 0 rfl) ?_
      refine lv_aload_n hx hb dX1_imagine_73 rfl (lv_at hl 2 rfl) ?_
      refine gP_sv S X dX1_imagine_74 ?_
      refine lv_iload_n hx hb dX1_imagine_77 rfl (lv_at hl 0 rfl) ?_
      refine lP_sv S X (by omega) dX1_imagine_78 ?_
      refine sP_vl (by omega) S X (by omega) dX1_imagine_79 (fun H locs X => ?_)
      refine lv_aload_n hx hb dX1_imagine_80 rfl (lv_at hl 2 rfl) ?_
      refine gP_me S X dX1_imagine_81 ?_
      refine lv_iload_n hx hb dX1_imagine_84 rfl (lv_at hl 0 rfl) ?_
      refine lv_aload_n hx hb dX1_imagine_85 rfl (lv_at hl 2 rfl) ?_
      refine gP_sm S X dX1_imagine_86 ?_
      refine lv_iload_n hx hb dX1_imagine_89 rfl (lv_at hl 0 rfl) ?_
      refine lP_sm S X (by omega) dX1_imagine_90 ?_
      refine sP_me (by omega) S X (by omega) dX1_imagine_91 (fun H locs X => ?_)
      refine lv_aload_n hx hb dX1_imagine_92 rfl (lv_at hl 2 rfl) ?_
      refine gP_sn S X dX1_imagine_93 ?_
      refine lv_iload_n hx hb dX1_imagine_96 rfl (lv_at hl 0 rfl) ?_
      refine lv_aload_n hx hb dX1_imagine_97 rfl (lv_at hl 2 rfl) ?_
      refine gP_ss S X dX1_imagine_98 ?_
      refine lv_iload_n hx hb dX1_imagine_101 rfl (lv_at hl 0 rfl) ?_
      refine lP_ss S X (by omega) dX1_imagine_102 ?_
      refine sP_sn (by omega) S X (by omega) dX1_imagine_103 (fun H locs X => ?_)
      refine lv_iinc (v := nI (k + 1)) (lv' := [(3, .int (nI (k + 1))), (2, .int (nI hh)), (0, .ref (a 0))]) hx hb dX1_imagine_104 hl (k := 0) rfl (nI_1 k) (by decide) rfl (fun ls hl => ?_)
      refine lv_goto (tgt := 62) hx hb dX1_imagine_107 (by decide) ?_
      exact ih (k + 1) _ _ _ _ _ _ (by omega) (by omega) (up3 (P := fun j x y z => x = sv j ∧ y = sm j ∧ z = ss j) hI ⟨rfl, rfl, rfl⟩) X hl
end IMG
set_option maxHeartbeats 4000000 in
theorem mP_imagine (l : Launch) (D : va_G) (a : Nat → Nat) (kc : Nat → ClassId) {set : Nat} {M : Nat → Nat → Prop} {w : Nat} {tk : Nat → Nat} {n : Nat} {sc ot ow : Nat → Nat} {oc : Nat} {fc : Nat → Nat} {ct jd : Nat} {ta : Nat → Int64} {vl vb me sn sv sm ss : Nat → Nat} (hw : w ≤ 12) (hn : n ≤ 14) (hct : ct ≤ 200) (hset : set < 16) (F : fl_Full tk n sc) (hT0 : fl_Tru tk fc w n M ct) (hJ : st_J tk n sc M ct vl me sn) : cI l D (tyP kc) yX1_imagine cX1_imagine 4 (some .boolean) (rm_ 3 73) [.ref (a 0), .int (nI set)] (pmW a kc w tk n sc ot ow oc fc ct jd ta vl vb me sn sv sm ss) (fun r w1 => ∃ vl' vb' me' sn' sv' sm' ss' : Nat → Nat, w1 = pmW a kc w tk n sc ot ow oc fc ct jd ta vl' vb' me' sn' sv' sm' ss' ∧ (∀ j, j < 14 → vl' j = vl j ∧ me' j = me j ∧ sn' j = sn j) ∧ r = nI (fl_b (fl_tru tk (va_up fc ct set) w n ct))) := by
  obtain ⟨M', hT⟩ := fl_exists (w := w) (va_up fc ct set) F
  have hU := fl_uniq F hT0 (hT ct) (fun u hu => (va_up_ne fc set (show u ≠ ct by omega)).symm)
  refine cI_of (by decide) (Nat.le_of_ble_eq_true rfl) ?_
  intro p e s m below meth c ls S hr hlk X hA hl
  have hx := S.1
  have hb := S.2.1
  have hl : lv_has ls 4 [(0, .ref (a 0)), (1, .int (nI set))] := hl
  refine lv_iconst (v := nI 0) hx hb dX1_imagine_0 (by decide) ?_
  refine lv_istore_n (lv' := [(2, .int (nI 0)), (0, .ref (a 0)), (1, .int (nI set))]) hx hb dX1_imagine_1 rfl hl (by decide) rfl (fun ls hl => ?_)
  refine lpP_save (fun j hj => ⟨(hJ.2.2 j hj).1, (hJ.2.2 j hj).2.1, by have := (hJ.2.2 j hj).2.2; omega⟩) S (fun sv sm ss H locs ls hV X hl => ?_) 15 0 sv sm ss _ _ ls (by omega) (by omega) (fun j hj => absurd hj (by omega)) X hl
  refine lv_aload_n hx hb dX1_imagine_50 rfl (lv_at hl 0 rfl) ?_
  refine lv_iload_n hx hb dX1_imagine_51 rfl (lv_at hl 1 rfl) ?_
  refine lv_aload_n hx hb dX1_imagine_52 rfl (lv_at hl 0 rfl) ?_
  refine gP_ct S X dX1_imagine_53 ?_
  refine cI_call (n := 2) (As := [.int (nI set), .int (nI ct)]) (rest := []) S X hA (mP_step l D a kc (gc := va_up fc ct set) hn F hset hct hw (va_up_self _ _ _) (hT _) (st_J_move F F hU hJ)) (lw_V q138 q140 qs3 q13 q141) rfl rfl (by decide +kernel) ⟨Nat.le_of_ble_eq_true rfl, Nat.le_of_ble_eq_true rfl⟩ rfl rfl hl.1 rfl rfl (Nat.le_of_ble_eq_true rfl) dX1_imagine_56 ⟨Nat.zero_le _, Nat.zero_le _⟩ (fun r w1 H locs hq X => ?_)
  obtain ⟨vl1, vb1, me1, sn1, rfl, hJ1, rfl⟩ := hq
  have hz := hJ1.2.1 (by omega) 0 F.pos
  have hy := (hJ1.2.2 0 (by omega)).1
  refine lv_istore_n (lv' := [(2, .int (nI (vl1 0))), (0, .ref (a 0)), (1, .int (nI set))]) hx hb dX1_imagine_59 rfl hl (by decide) rfl (fun ls hl => ?_)
  refine lv_iconst (v := nI 0) hx hb dX1_imagine_60 (by decide) ?_
  refine lv_istore_n (lv' := [(3, .int (nI 0)), (2, .int (nI (vl1 0))), (0, .ref (a 0)), (1, .int (nI set))]) hx hb dX1_imagine_61 rfl hl (by decide) rfl (fun ls hl => ?_)
  refine lpP_rest (hh := vl1 0) (fun j hj => by obtain ⟨v1, v2, v3⟩ := hV j hj; rw [v1, v2, v3]; exact ⟨(hJ.2.2 j hj).1, (hJ.2.2 j hj).2.1, by have := (hJ.2.2 j hj).2.2; omega⟩) S (fun vl2 me2 sn2 H locs ls hR X hl => ?_) 15 0 vl1 me1 sn1 _ _ ls (by omega) (by omega) (fun j hj => absurd hj (by omega)) X (lv_sub hl [0, 1, 2] rfl)
  refine lv_iload_n hx hb dX1_imagine_110 rfl (lv_at hl 0 rfl) ?_
  exact cZ_ret S hr hlk X hy dX1_imagine_111 ⟨vl2, vb1, me2, sn2, sv, sm, ss, rfl, fun j hj => ⟨(hR j hj).1.trans (hV j hj).1, (hR j hj).2.1.trans (hV j hj).2.1, (hR j hj).2.2.trans (hV j hj).2.2⟩, congrArg nI (fl_b_of hy (hz.trans (fl_tru_iff F (hT (ct + 1)) (by omega)).symm))⟩
end
section
set_option maxRecDepth 100000
set_option maxHeartbeats 4000000 in
theorem mP_at (l : Launch) (D : va_G) (a : Nat → Nat) (kc : Nat → ClassId) (v : Int32) {w : Nat} {tk : Nat → Nat} {n : Nat} {fc : Nat → Nat} {ct : Nat} {w0 : va_W} (h : pm_R a kc w tk n fc ct w0) : cI l D (tyP kc) yX1_at cX1_at 2 (some .boolean) (rm_ 4 97) [.ref (a 0), .int v] w0 (fun r w1 => pm_R a kc w tk n fc ct w1 ∧ r = nI (at_ tk fc w n ct v)) := by
  obtain ⟨sc, ot, ow, oc, jd, ta, vl, vb, me, sn, sv, sm, ss, rfl, hI⟩ := h
  have hct := hI.2.2.2.2.1
  refine cI_of (by decide) (Nat.le_of_ble_eq_true rfl) ?_
  intro p e s m below meth c ls S hr hlk X hA hl
  have hx := S.1
  have hb := S.2.1
  have hl : lv_has ls 2 [(0, .ref (a 0)), (1, .int v)] := hl
  refine lv_iload_n hx hb dX1_at_0 rfl (lv_at hl 1 rfl) ?_
  refine mi_if_lt (tgt := 31) hx hb dX1_at_1 (by decide) (fun c1 => ?_) (fun x hx31 cx => ?_)
  · skip
    refine lv_iconst (v := nI 0) hx hb dX1_at_31 (by decide) ?_
    exact cZ_ret S hr hlk X (by omega) dX1_at_32 ⟨⟨sc, ot, ow, oc, jd, ta, vl, vb, me, sn, sv, sm, ss, rfl, hI⟩, congrArg nI (fl_b_f (fun ⟨t, q1, q2, q3, _⟩ => nI_neg c1 (show t ≤ 1000 by omega) q1)).symm⟩
  · subst cx
    refine lv_iload_n hx hb dX1_at_4 rfl (lv_at hl 1 rfl) ?_
    refine lv_aload_n hx hb dX1_at_5 rfl (lv_at hl 0 rfl) ?_
    refine gP_ct S X dX1_at_6 ?_
    refine mn_icmp_ge (tgt := 31) hx hb (by omega) (by omega) dX1_at_9 (by decide) (fun c9 => ?_) (fun c9 => ?_)
    · skip
      refine lv_iconst (v := nI 0) hx hb dX1_at_31 (by decide) ?_
      exact cZ_ret S hr hlk X (by omega) dX1_at_32 ⟨⟨sc, ot, ow, oc, jd, ta, vl, vb, me, sn, sv, sm, ss, rfl, hI⟩, congrArg nI (fl_b_f (fun ⟨t, q1, q2, q3, _⟩ => by have := nI_inj hx31 (show t ≤ 1000 by omega) q1; omega)).symm⟩
    · skip
      refine lv_aload_n hx hb dX1_at_12 rfl (lv_at hl 0 rfl) ?_
      refine cI_call (n := 0) (As := []) (rest := []) S X hA (mP_judge l D a kc hI) (lw_V q130 q132 qs1 q13 q133) rfl rfl (by decide +kernel) ⟨Nat.le_of_ble_eq_true rfl, Nat.le_of_ble_eq_true rfl⟩ rfl rfl hl.1 rfl rfl (Nat.le_of_ble_eq_true rfl) dX1_at_13 ⟨Nat.zero_le _, Nat.zero_le _⟩ (fun r w1 H locs hq X => ?_)
      obtain ⟨oc1, sc1, ot1, ow1, jd1, ta1, vl1, vb1, me1, sn1, rfl, hI, hq⟩ := hq
      rcases hq with ⟨hq1, rfl⟩ | ⟨hq1, rfl, hjq, M, hK⟩
      · refine mn_if_eq (tgt := 31) hx hb (by decide) dX1_at_16 (by decide) (fun c16 => ?_) (fun c16 => absurd rfl c16)
        refine lv_iconst (v := nI 0) hx hb dX1_at_31 (by decide) ?_
        exact cZ_ret S hr hlk X (by omega) dX1_at_32 ⟨⟨sc1, ot1, ow1, oc1, jd1, ta1, vl1, vb1, me1, sn1, sv, sm, ss, rfl, hI⟩, congrArg nI (fl_b_f (fun ⟨t, q1, q2, q3, q4, _⟩ => hq1 q4)).symm⟩
      · refine mn_if_eq (tgt := 31) hx hb (by decide) dX1_at_16 (by decide) (fun c16 => absurd c16 (by decide)) (fun c16 => ?_)
        have hbit : ∀ t, t < ct → tb_ ta1 t = tf_ tk fc w n t := fun t ht => fl_b_of (tb_lt _ _) ((hK.2.2.2 t ht).trans (fl_tru_iff hK.1 hK.2.1 ht).symm)
        refine lv_aload_n hx hb dX1_at_19 rfl (lv_at hl 0 rfl) ?_
        refine lv_iload_n hx hb dX1_at_20 rfl (lv_at hl 1 rfl) ?_
        refine cI_call (n := 1) (As := [.int (nI x)]) (rest := []) S X hA (mP_wasTrue l D a kc (t := x) (by omega)) (lw_V q151 q153 qs6 q13 q154) rfl rfl (by decide +kernel) ⟨Nat.le_of_ble_eq_true rfl, Nat.le_of_ble_eq_true rfl⟩ rfl rfl hl.1 rfl rfl (Nat.le_of_ble_eq_true rfl) dX1_at_21 ⟨Nat.zero_le _, Nat.zero_le _⟩ (fun r w1 H locs hq X => ?_)
        obtain ⟨rfl, rfl⟩ := hq
        have htb := tb_lt ta1 (x)
        refine mn_if_eq (tgt := 31) hx hb (by omega) dX1_at_24 (by decide) (fun c24 => ?_) (fun c24 => ?_)
        · skip
          refine lv_iconst (v := nI 0) hx hb dX1_at_31 (by decide) ?_
          exact cZ_ret S hr hlk X (by omega) dX1_at_32 ⟨⟨sc1, ot1, ow1, oc1, jd1, ta1, vl1, vb1, me1, sn1, sv, sm, ss, rfl, hI⟩, congrArg nI (fl_b_f (fun ⟨t, q1, q2, q3, q4, q5⟩ => by have e1 := nI_inj hx31 (show t ≤ 1000 by omega) q1; subst e1; have e2 : tf_ tk fc w n x = 1 := fl_b_1.mpr q5; rw [← hbit x (by omega)] at e2; omega)).symm⟩
        · skip
          refine lv_iconst (v := nI 1) hx hb dX1_at_27 (by decide) ?_
          refine lv_goto (tgt := 32) hx hb dX1_at_28 (by decide) ?_
          exact cZ_ret S hr hlk X (by omega) dX1_at_32 ⟨⟨sc1, ot1, ow1, oc1, jd1, ta1, vl1, vb1, me1, sn1, sv, sm, ss, rfl, hI⟩, congrArg nI (fl_b_t ⟨x, rfl, by omega, by omega, hq1, fl_b_1.mp (show tf_ tk fc w n x = 1 by rw [← hbit x (by omega)]; omega)⟩).symm⟩
set_option maxHeartbeats 4000000 in
theorem mP_now (l : Launch) (D : va_G) (a : Nat → Nat) (kc : Nat → ClassId) {w : Nat} {tk : Nat → Nat} {n : Nat} {fc : Nat → Nat} {ct : Nat} {w0 : va_W} (h : pm_R a kc w tk n fc ct w0) : cI l D (tyP kc) yX1_now cX1_now 1 (some .boolean) (rm_ 5 118) [.ref (a 0)] w0 (fun r w1 => pm_R a kc w tk n fc ct w1 ∧ r = nI (at_ tk fc w n ct (nI ct - nI 1))) := by
  obtain ⟨sc, ot, ow, oc, jd, ta, vl, vb, me, sn, sv, sm, ss, rfl, hI⟩ := h
  refine cI_of (by decide) (Nat.le_of_ble_eq_true rfl) ?_
  intro p e s m below meth c ls S hr hlk X hA hl
  have hx := S.1
  have hb := S.2.1
  have hl : lv_has ls 1 [(0, .ref (a 0))] := hl
  refine lv_aload_n hx hb dX1_now_0 rfl (lv_at hl 0 rfl) ?_
  refine lv_aload_n hx hb dX1_now_1 rfl (lv_at hl 0 rfl) ?_
  refine gP_ct S X dX1_now_2 ?_
  refine lv_iconst (v := nI 1) hx hb dX1_now_5 (by decide) ?_
  refine lv_isub hx hb dX1_now_6 ?_
  refine cI_call (n := 1) (As := [.int ((nI ct) - (nI 1))]) (rest := []) S X hA (mP_at l D a kc (nI ct - nI 1) ⟨sc, ot, ow, oc, jd, ta, vl, vb, me, sn, sv, sm, ss, rfl, hI⟩) (lw_V q126 q127 q128 q13 q129) rfl rfl (by decide +kernel) ⟨Nat.le_of_ble_eq_true rfl, Nat.le_of_ble_eq_true rfl⟩ rfl rfl hl.1 rfl rfl (Nat.le_of_ble_eq_true rfl) dX1_now_7 ⟨Nat.zero_le _, Nat.zero_le _⟩ (fun r w1 H locs hq X => ?_)
  obtain ⟨hR, rfl⟩ := hq
  exact cZ_ret S hr hlk X (fl_b_lt _) dX1_now_10 ⟨hR, rfl⟩
section ANS
variable {p : Program} {l : Launch} {e : Env} {R : Room} {s : State} {m : MethodId} {args : Array Value} {below : List Frame} {meth : Method} {c : Code} {Q : State → Prop} {D : va_G} {A : Nat → Prop} {a : Nat → Nat} {kc : Nat → ClassId}
set_option maxHeartbeats 4000000 in
theorem lpP_count {w : Nat} {tk : Nat → Nat} {n : Nat} {sc ot ow : Nat → Nat} {oc : Nat} {fc : Nat → Nat} {ct jd : Nat} {ta : Nat → Int64} {vl vb me sn sv sm ss : Nat → Nat} {f : Nat → Nat} (hct : ct ≤ 200) (hbit : ∀ t, t < ct → tb_ ta t = f t) (S : CallFix p m c cX1_count 3 s args lw_all RX1) (hA : ∀ q : Nat, s.heap.size ≤ q → A q)
    (K : ∀ (H : Heap) (locs : List Loc) (ls : Array Slot), wX D (tyP kc) A s H locs (pmW a kc w tk n sc ot ow oc fc ct jd ta vl vb me sn sv sm ss) → lv_has ls 3 [(1, .int (nI (fl_sum f ct)))] → W p l e (rm_ 4 97) s m args below meth c H locs 0 0 Q (F0 m 43 ls [])) :
    ∀ (d t c_ : Nat) (H : Heap) (locs : List Loc) (ls : Array Slot), ct - t < d → t ≤ ct → c_ = fl_sum f t → wX D (tyP kc) A s H locs (pmW a kc w tk n sc ot ow oc fc ct jd ta vl vb me sn sv sm ss) → lv_has ls 3 [(2, .int (nI t)), (1, .int (nI c_)), (0, .ref (a 0))] → W p l e (rm_ 4 97) s m args below meth c H locs 0 0 Q (F0 m 13 ls []) := by
  have hx := S.1
  have hb := S.2.1
  intro d
  induction d with
  | zero =>
    intro t c_ H locs ls hd
    omega
  | succ d ih =>
    intro t c_ H locs ls hd ht hc X hl
    refine lv_iload_n hx hb dX1_count_13 rfl (lv_at hl 0 rfl) ?_
    refine lv_aload_n hx hb dX1_count_14 rfl (lv_at hl 2 rfl) ?_
    refine gP_ct S X dX1_count_15 ?_
    refine mn_icmp_ge (tgt := 43) hx hb (by omega) (by omega) dX1_count_18 (by decide) (fun c18 => ?_) (fun c18 => ?_)
    · skip
      have e0 : t = ct := by omega
      subst e0
      subst hc
      exact K H locs ls X (lv_sub hl [1] rfl)
    · skip
      refine lv_iload_n hx hb dX1_count_21 rfl (lv_at hl 1 rfl) ?_
      refine lv_aload_n hx hb dX1_count_22 rfl (lv_at hl 2 rfl) ?_
      refine lv_iload_n hx hb dX1_count_23 rfl (lv_at hl 0 rfl) ?_
      refine cI_call (n := 1) (As := [.int (nI t)]) (rest := [.int (nI c_)]) S X hA (mP_wasTrue l D a kc (t := t) (by omega)) (lw_V q151 q153 qs6 q13 q154) rfl rfl (by decide +kernel) ⟨Nat.le_of_ble_eq_true rfl, Nat.le_of_ble_eq_true rfl⟩ rfl rfl hl.1 rfl rfl (Nat.le_of_ble_eq_true rfl) dX1_count_24 ⟨Nat.zero_le _, Nat.zero_le _⟩ (fun r w1 H locs hq X => ?_)
      obtain ⟨rfl, rfl⟩ := hq
      have htb := tb_lt ta (t)
      refine mn_if_eq (tgt := 34) hx hb (by omega) dX1_count_27 (by decide) (fun c27 => ?_) (fun c27 => ?_)
      · skip
        refine lv_iconst (v := nI 0) hx hb dX1_count_34 (by decide) ?_
        refine mn_iadd hx hb dX1_count_35 ?_
        refine lv_istore_n (lv' := [(1, .int (nI (c_ + 0))), (2, .int (nI t)), (0, .ref (a 0))]) hx hb dX1_count_36 rfl hl (by decide) rfl (fun ls hl => ?_)
        refine lv_iinc (v := nI (t + 1)) (lv' := [(2, .int (nI (t + 1))), (1, .int (nI (c_ + 0))), (0, .ref (a 0))]) hx hb dX1_count_37 hl (k := 1) rfl (nI_1 t) (by decide) rfl (fun ls hl => ?_)
        refine lv_goto (tgt := 13) hx hb dX1_count_40 (by decide) ?_
        exact ih (t + 1) _ _ _ _ (by omega) (by omega) (by rw [fl_sum_s, ← hbit t (by omega)]; omega) X (lv_sub hl [0, 1, 2] rfl)
      · skip
        refine lv_iconst (v := nI 1) hx hb dX1_count_30 (by decide) ?_
        refine lv_goto (tgt := 35) hx hb dX1_count_31 (by decide) ?_
        refine mn_iadd hx hb dX1_count_35 ?_
        refine lv_istore_n (lv' := [(1, .int (nI (c_ + 1))), (2, .int (nI t)), (0, .ref (a 0))]) hx hb dX1_count_36 rfl hl (by decide) rfl (fun ls hl => ?_)
        refine lv_iinc (v := nI (t + 1)) (lv' := [(2, .int (nI (t + 1))), (1, .int (nI (c_ + 1))), (0, .ref (a 0))]) hx hb dX1_count_37 hl (k := 1) rfl (nI_1 t) (by decide) rfl (fun ls hl => ?_)
        refine lv_goto (tgt := 13) hx hb dX1_count_40 (by decide) ?_
        exact ih (t + 1) _ _ _ _ (by omega) (by omega) (by rw [fl_sum_s, ← hbit t (by omega)]; omega) X (lv_sub hl [0, 1, 2] rfl)
set_option maxHeartbeats 4000000 in
theorem lpP_vio {w : Nat} {tk : Nat → Nat} {n : Nat} {sc ot ow : Nat → Nat} {oc : Nat} {fc : Nat → Nat} {ct jd : Nat} {ta : Nat → Int64} {vl vb me sn sv sm ss : Nat → Nat} {f : Nat → Nat} {r : Int32} (hct : ct ≤ 200) (hbit : ∀ t, t < ct → tb_ ta t = f t) (S : CallFix p m c cX1_violation 3 s args lw_all RX1) (hA : ∀ q : Nat, s.heap.size ≤ q → A q)
    (K1 : ∀ (H : Heap) (locs : List Loc) (ls : Array Slot), r = -1 → wX D (tyP kc) A s H locs (pmW a kc w tk n sc ot ow oc fc ct jd ta vl vb me sn sv sm ss) → lv_has ls 3 [(2, .int (nI 0)), (0, .ref (a 0))] ∨ True → W p l e (rm_ 4 97) s m args below meth c H locs 0 0 Q (F0 m 39 ls []))
    (K2 : ∀ (t : Nat) (H : Heap) (locs : List Loc) (ls : Array Slot), r = nI t → wX D (tyP kc) A s H locs (pmW a kc w tk n sc ot ow oc fc ct jd ta vl vb me sn sv sm ss) → lv_has ls 3 [(2, .int (nI t))] → W p l e (rm_ 4 97) s m args below meth c H locs 0 0 Q (F0 m 31 ls [])) :
    ∀ (d t : Nat) (H : Heap) (locs : List Loc) (ls : Array Slot), ct - t < d → t < 2 ^ 31 → r = fl_vio f t (ct - t) → wX D (tyP kc) A s H locs (pmW a kc w tk n sc ot ow oc fc ct jd ta vl vb me sn sv sm ss) → lv_has ls 3 [(2, .int (nI t)), (0, .ref (a 0))] → W p l e (rm_ 4 97) s m args below meth c H locs 0 0 Q (F0 m 15 ls []) := by
  have hx := S.1
  have hb := S.2.1
  intro d
  induction d with
  | zero =>
    intro t H locs ls hd
    omega
  | succ d ih =>
    intro t H locs ls hd ht hr X hl
    refine lv_iload_n hx hb dX1_violation_15 rfl (lv_at hl 0 rfl) ?_
    refine lv_aload_n hx hb dX1_violation_16 rfl (lv_at hl 1 rfl) ?_
    refine gP_ct S X dX1_violation_17 ?_
    refine mn_icmp_ge (tgt := 39) hx hb (by omega) (by omega) dX1_violation_20 (by decide) (fun c20 => ?_) (fun c20 => ?_)
    · skip
      exact K1 H locs ls (hr.trans (fl_vio_e (by omega))) X (Or.inr trivial)
    · skip
      refine lv_aload_n hx hb dX1_violation_23 rfl (lv_at hl 1 rfl) ?_
      refine lv_iload_n hx hb dX1_violation_24 rfl (lv_at hl 0 rfl) ?_
      refine cI_call (n := 1) (As := [.int (nI t)]) (rest := []) S X hA (mP_wasTrue l D a kc (t := t) (by omega)) (lw_V q151 q153 qs6 q13 q154) rfl rfl (by decide +kernel) ⟨Nat.le_of_ble_eq_true rfl, Nat.le_of_ble_eq_true rfl⟩ rfl rfl hl.1 rfl rfl (Nat.le_of_ble_eq_true rfl) dX1_violation_25 ⟨Nat.zero_le _, Nat.zero_le _⟩ (fun r w1 H locs hq X => ?_)
      obtain ⟨rfl, rfl⟩ := hq
      have htb := tb_lt ta (t)
      refine mn_if_ne (tgt := 33) hx hb (by omega) dX1_violation_28 (by decide) (fun c28 => ?_) (fun c28 => ?_)
      · skip
        refine lv_iinc (v := nI (t + 1)) (lv' := [(2, .int (nI (t + 1))), (0, .ref (a 0))]) hx hb dX1_violation_33 hl (k := 0) rfl (nI_1 t) (by decide) rfl (fun ls hl => ?_)
        refine lv_goto (tgt := 15) hx hb dX1_violation_36 (by decide) ?_
        exact ih (t + 1) _ _ _ (by omega) (by omega) (hr.trans ((fl_vio_s (by omega)).trans (if_neg (by rw [← hbit t (by omega)]; omega)))) X (lv_sub hl [0, 1] rfl)
      · skip
        exact K2 t H locs ls (hr.trans ((fl_vio_s (by omega)).trans (if_pos (by rw [← hbit t (by omega)]; omega)))) X (lv_sub hl [0] rfl)
set_option maxHeartbeats 4000000 in
theorem lpP_run {w : Nat} {tk : Nat → Nat} {n : Nat} {sc ot ow : Nat → Nat} {oc : Nat} {fc : Nat → Nat} {ct jd : Nat} {ta : Nat → Int64} {vl vb me sn sv sm ss : Nat → Nat} {f : Nat → Nat} {r : Nat} (hct : ct ≤ 200) (hbit : ∀ t, t < ct → tb_ ta t = f t) (S : CallFix p m c cX1_streak 2 s args lw_all RX1) (hA : ∀ q : Nat, s.heap.size ≤ q → A q)
    (K : ∀ (k : Nat) (H : Heap) (locs : List Loc) (ls : Array Slot), r = k → wX D (tyP kc) A s H locs (pmW a kc w tk n sc ot ow oc fc ct jd ta vl vb me sn sv sm ss) → lv_has ls 2 [(1, .int (nI k))] → W p l e (rm_ 4 97) s m args below meth c H locs 0 0 Q (F0 m 40 ls [])) :
    ∀ (d k : Nat) (H : Heap) (locs : List Loc) (ls : Array Slot), ct - k < d → k ≤ ct → r = fl_run f ct k (ct - k) → wX D (tyP kc) A s H locs (pmW a kc w tk n sc ot ow oc fc ct jd ta vl vb me sn sv sm ss) → lv_has ls 2 [(1, .int (nI k)), (0, .ref (a 0))] → W p l e (rm_ 4 97) s m args below meth c H locs 0 0 Q (F0 m 11 ls []) := by
  have hx := S.1
  have hb := S.2.1
  intro d
  induction d with
  | zero =>
    intro k H locs ls hd
    omega
  | succ d ih =>
    intro k H locs ls hd hk hr X hl
    refine lv_iload_n hx hb dX1_streak_11 rfl (lv_at hl 0 rfl) ?_
    refine lv_aload_n hx hb dX1_streak_12 rfl (lv_at hl 1 rfl) ?_
    refine gP_ct S X dX1_streak_13 ?_
    refine mn_icmp_ge (tgt := 40) hx hb (by omega) (by omega) dX1_streak_16 (by decide) (fun c16 => ?_) (fun c16 => ?_)
    · skip
      exact K k H locs ls (hr.trans (fl_run_e (by omega))) X (lv_sub hl [0] rfl)
    · skip
      refine lv_aload_n hx hb dX1_streak_19 rfl (lv_at hl 1 rfl) ?_
      refine lv_aload_n hx hb dX1_streak_20 rfl (lv_at hl 1 rfl) ?_
      refine gP_ct S X dX1_streak_21 ?_
      refine lv_iconst (v := nI 1) hx hb dX1_streak_24 (by decide) ?_
      refine mn_isub hx hb (by omega) dX1_streak_25 ?_
      refine lv_iload_n hx hb dX1_streak_26 rfl (lv_at hl 0 rfl) ?_
      refine mn_isub hx hb (by omega) dX1_streak_27 ?_
      refine cI_call (n := 1) (As := [.int (nI ((ct - 1) - k))]) (rest := []) S X hA (mP_wasTrue l D a kc (t := ct - 1 - k) (by omega)) (lw_V q151 q153 qs6 q13 q154) rfl rfl (by decide +kernel) ⟨Nat.le_of_ble_eq_true rfl, Nat.le_of_ble_eq_true rfl⟩ rfl rfl hl.1 rfl rfl (Nat.le_of_ble_eq_true rfl) dX1_streak_28 ⟨Nat.zero_le _, Nat.zero_le _⟩ (fun r w1 H locs hq X => ?_)
      obtain ⟨rfl, rfl⟩ := hq
      have htb := tb_lt ta (ct - 1 - k)
      refine mn_if_eq (tgt := 40) hx hb (by omega) dX1_streak_31 (by decide) (fun c31 => ?_) (fun c31 => ?_)
      · skip
        exact K k H locs ls (hr.trans ((fl_run_s (by omega)).trans (if_pos (by rw [← hbit (ct - 1 - k) (by omega)]; omega)))) X (lv_sub hl [0] rfl)
      · skip
        refine lv_iinc (v := nI (k + 1)) (lv' := [(1, .int (nI (k + 1))), (0, .ref (a 0))]) hx hb dX1_streak_34 hl (k := 0) rfl (nI_1 k) (by decide) rfl (fun ls hl => ?_)
        refine lv_goto (tgt := 11) hx hb dX1_streak_37 (by decide) ?_
        exact ih (k + 1) _ _ _ (by omega) (by omega) (hr.trans ((fl_run_s (by omega)).trans (if_neg (by rw [← hbit (ct - 1 - k) (by omega)]; omega)))) X (lv_sub hl [0, 1] rfl)
end ANS
set_option maxHeartbeats 4000000 in
theorem mP_count (l : Launch) (D : va_G) (a : Nat → Nat) (kc : Nat → ClassId) {w : Nat} {tk : Nat → Nat} {n : Nat} {fc : Nat → Nat} {ct : Nat} {w0 : va_W} (h : pm_R a kc w tk n fc ct w0) : cI l D (tyP kc) yX1_count cX1_count 3 (some .int) (rm_ 4 97) [.ref (a 0)] w0 (fun r w1 => pm_R a kc w tk n fc ct w1 ∧ r = cn_ tk fc w n ct) := by
  obtain ⟨sc, ot, ow, oc, jd, ta, vl, vb, me, sn, sv, sm, ss, rfl, hI⟩ := h
  have hct := hI.2.2.2.2.1
  refine cI_of (by decide) (Nat.le_of_ble_eq_true rfl) ?_
  intro p e s m below meth c ls S hr hlk X hA hl
  have hx := S.1
  have hb := S.2.1
  have hl : lv_has ls 3 [(0, .ref (a 0))] := hl
  refine lv_aload_n hx hb dX1_count_0 rfl (lv_at hl 0 rfl) ?_
  refine cI_call (n := 0) (As := []) (rest := []) S X hA (mP_judge l D a kc hI) (lw_V q130 q132 qs1 q13 q133) rfl rfl (by decide +kernel) ⟨Nat.le_of_ble_eq_true rfl, Nat.le_of_ble_eq_true rfl⟩ rfl rfl hl.1 rfl rfl (Nat.le_of_ble_eq_true rfl) dX1_count_1 ⟨Nat.zero_le _, Nat.zero_le _⟩ (fun r w1 H locs hq X => ?_)
  obtain ⟨oc1, sc1, ot1, ow1, jd1, ta1, vl1, vb1, me1, sn1, rfl, hI, hq⟩ := hq
  rcases hq with ⟨hq1, rfl⟩ | ⟨hq1, rfl, hjq, M, hK⟩
  · refine mn_if_ne (tgt := 9) hx hb (by decide) dX1_count_4 (by decide) (fun c4 => absurd rfl c4) (fun c4 => ?_)
    refine lv_iconst (v := (-1)) hx hb dX1_count_7 (by decide) ?_
    exact cI_ret S hr hlk X dX1_count_8 ⟨⟨sc1, ot1, ow1, oc1, jd1, ta1, vl1, vb1, me1, sn1, sv, sm, ss, rfl, hI⟩, (if_neg hq1).symm⟩
  · refine mn_if_ne (tgt := 9) hx hb (by decide) dX1_count_4 (by decide) (fun c4 => ?_) (fun c4 => absurd c4 (by decide))
    have hbit : ∀ t, t < ct → tb_ ta1 t = tf_ tk fc w n t := fun t ht => fl_b_of (tb_lt _ _) ((hK.2.2.2 t ht).trans (fl_tru_iff hK.1 hK.2.1 ht).symm)
    refine lv_iconst (v := nI 0) hx hb dX1_count_9 (by decide) ?_
    refine lv_istore_n (lv' := [(1, .int (nI 0)), (0, .ref (a 0))]) hx hb dX1_count_10 rfl hl (by decide) rfl (fun ls hl => ?_)
    refine lv_iconst (v := nI 0) hx hb dX1_count_11 (by decide) ?_
    refine lv_istore_n (lv' := [(2, .int (nI 0)), (1, .int (nI 0)), (0, .ref (a 0))]) hx hb dX1_count_12 rfl hl (by decide) rfl (fun ls hl => ?_)
    refine lpP_count hct hbit S hA (fun H locs ls X hl => ?_) (ct + 1) 0 0 _ _ ls (by omega) (by omega) rfl X hl
    refine lv_iload_n hx hb dX1_count_43 rfl (lv_at hl 0 rfl) ?_
    exact cI_ret S hr hlk X dX1_count_44 ⟨⟨sc1, ot1, ow1, oc1, jd1, ta1, vl1, vb1, me1, sn1, sv, sm, ss, rfl, hI⟩, (if_pos hq1).symm⟩
set_option maxHeartbeats 4000000 in
theorem mP_violation (l : Launch) (D : va_G) (a : Nat → Nat) (kc : Nat → ClassId) (v : Int32) {w : Nat} {tk : Nat → Nat} {n : Nat} {fc : Nat → Nat} {ct : Nat} {w0 : va_W} (h : pm_R a kc w tk n fc ct w0) : cI l D (tyP kc) yX1_violation cX1_violation 3 (some .int) (rm_ 4 97) [.ref (a 0), .int v] w0 (fun r w1 => pm_R a kc w tk n fc ct w1 ∧ r = vi_ tk fc w n ct v) := by
  obtain ⟨sc, ot, ow, oc, jd, ta, vl, vb, me, sn, sv, sm, ss, rfl, hI⟩ := h
  have hct := hI.2.2.2.2.1
  refine cI_of (by decide) (Nat.le_of_ble_eq_true rfl) ?_
  intro p e s m below meth c ls S hr hlk X hA hl
  have hx := S.1
  have hb := S.2.1
  have hl : lv_has ls 3 [(0, .ref (a 0)), (1, .int v)] := hl
  refine lv_iload_n hx hb dX1_violation_0 rfl (lv_at hl 1 rfl) ?_
  refine mi_if_lt (tgt := 11) hx hb dX1_violation_1 (by decide) (fun c1 => ?_) (fun x hx31 cx => ?_)
  · skip
    refine lv_iconst (v := (-1)) hx hb dX1_violation_11 (by decide) ?_
    exact cI_ret S hr hlk X dX1_violation_12 ⟨⟨sc, ot, ow, oc, jd, ta, vl, vb, me, sn, sv, sm, ss, rfl, hI⟩, (if_pos c1).symm⟩
  · subst cx
    refine lv_aload_n hx hb dX1_violation_4 rfl (lv_at hl 0 rfl) ?_
    refine cI_call (n := 0) (As := []) (rest := []) S X hA (mP_judge l D a kc hI) (lw_V q130 q132 qs1 q13 q133) rfl rfl (by decide +kernel) ⟨Nat.le_of_ble_eq_true rfl, Nat.le_of_ble_eq_true rfl⟩ rfl rfl hl.1 rfl rfl (Nat.le_of_ble_eq_true rfl) dX1_violation_5 ⟨Nat.zero_le _, Nat.zero_le _⟩ (fun r w1 H locs hq X => ?_)
    obtain ⟨oc1, sc1, ot1, ow1, jd1, ta1, vl1, vb1, me1, sn1, rfl, hI, hq⟩ := hq
    rcases hq with ⟨hq1, rfl⟩ | ⟨hq1, rfl, hjq, M, hK⟩
    · refine mn_if_ne (tgt := 13) hx hb (by decide) dX1_violation_8 (by decide) (fun c8 => absurd rfl c8) (fun c8 => ?_)
      refine lv_iconst (v := (-1)) hx hb dX1_violation_11 (by decide) ?_
      exact cI_ret S hr hlk X dX1_violation_12 ⟨⟨sc1, ot1, ow1, oc1, jd1, ta1, vl1, vb1, me1, sn1, sv, sm, ss, rfl, hI⟩, by unfold vi_; rw [if_neg (nI_pos hx31), if_neg hq1]⟩
    · refine mn_if_ne (tgt := 13) hx hb (by decide) dX1_violation_8 (by decide) (fun c8 => ?_) (fun c8 => absurd c8 (by decide))
      have hbit : ∀ t, t < ct → tb_ ta1 t = tf_ tk fc w n t := fun t ht => fl_b_of (tb_lt _ _) ((hK.2.2.2 t ht).trans (fl_tru_iff hK.1 hK.2.1 ht).symm)
      refine lv_iload_n hx hb dX1_violation_13 rfl (lv_at hl 1 rfl) ?_
      refine lv_istore_n (lv' := [(2, .int (nI x)), (0, .ref (a 0)), (1, .int (nI x))]) hx hb dX1_violation_14 rfl hl (by decide) rfl (fun ls hl => ?_)
      refine lpP_vio (r := fl_vio (tf_ tk fc w n) x (ct - x)) hct hbit S hA (fun H locs ls hr0 X _ => ?_) (fun t H locs ls hr0 X hl => ?_) (ct - x + 1) x _ _ ls (by omega) hx31 rfl X (lv_sub hl [0, 1] rfl)
      · skip
        refine lv_iconst (v := (-1)) hx hb dX1_violation_39 (by decide) ?_
        exact cI_ret S hr hlk X dX1_violation_40 ⟨⟨sc1, ot1, ow1, oc1, jd1, ta1, vl1, vb1, me1, sn1, sv, sm, ss, rfl, hI⟩, by unfold vi_; rw [if_neg (nI_pos hx31), if_pos hq1, nI_clamp hx31]; exact hr0.symm⟩
      · skip
        refine lv_iload_n hx hb dX1_violation_31 rfl (lv_at hl 0 rfl) ?_
        exact cI_ret S hr hlk X dX1_violation_32 ⟨⟨sc1, ot1, ow1, oc1, jd1, ta1, vl1, vb1, me1, sn1, sv, sm, ss, rfl, hI⟩, by unfold vi_; rw [if_neg (nI_pos hx31), if_pos hq1, nI_clamp hx31]; exact hr0.symm⟩
set_option maxHeartbeats 4000000 in
theorem mP_streak (l : Launch) (D : va_G) (a : Nat → Nat) (kc : Nat → ClassId) {w : Nat} {tk : Nat → Nat} {n : Nat} {fc : Nat → Nat} {ct : Nat} {w0 : va_W} (h : pm_R a kc w tk n fc ct w0) : cI l D (tyP kc) yX1_streak cX1_streak 2 (some .int) (rm_ 4 97) [.ref (a 0)] w0 (fun r w1 => pm_R a kc w tk n fc ct w1 ∧ r = sk_ tk fc w n ct) := by
  obtain ⟨sc, ot, ow, oc, jd, ta, vl, vb, me, sn, sv, sm, ss, rfl, hI⟩ := h
  have hct := hI.2.2.2.2.1
  refine cI_of (by decide) (Nat.le_of_ble_eq_true rfl) ?_
  intro p e s m below meth c ls S hr hlk X hA hl
  have hx := S.1
  have hb := S.2.1
  have hl : lv_has ls 2 [(0, .ref (a 0))] := hl
  refine lv_aload_n hx hb dX1_streak_0 rfl (lv_at hl 0 rfl) ?_
  refine cI_call (n := 0) (As := []) (rest := []) S X hA (mP_judge l D a kc hI) (lw_V q130 q132 qs1 q13 q133) rfl rfl (by decide +kernel) ⟨Nat.le_of_ble_eq_true rfl, Nat.le_of_ble_eq_true rfl⟩ rfl rfl hl.1 rfl rfl (Nat.le_of_ble_eq_true rfl) dX1_streak_1 ⟨Nat.zero_le _, Nat.zero_le _⟩ (fun r w1 H locs hq X => ?_)
  obtain ⟨oc1, sc1, ot1, ow1, jd1, ta1, vl1, vb1, me1, sn1, rfl, hI, hq⟩ := hq
  rcases hq with ⟨hq1, rfl⟩ | ⟨hq1, rfl, hjq, M, hK⟩
  · refine mn_if_ne (tgt := 9) hx hb (by decide) dX1_streak_4 (by decide) (fun c4 => absurd rfl c4) (fun c4 => ?_)
    refine lv_iconst (v := (-1)) hx hb dX1_streak_7 (by decide) ?_
    exact cI_ret S hr hlk X dX1_streak_8 ⟨⟨sc1, ot1, ow1, oc1, jd1, ta1, vl1, vb1, me1, sn1, sv, sm, ss, rfl, hI⟩, (if_neg hq1).symm⟩
  · refine mn_if_ne (tgt := 9) hx hb (by decide) dX1_streak_4 (by decide) (fun c4 => ?_) (fun c4 => absurd c4 (by decide))
    have hbit : ∀ t, t < ct → tb_ ta1 t = tf_ tk fc w n t := fun t ht => fl_b_of (tb_lt _ _) ((hK.2.2.2 t ht).trans (fl_tru_iff hK.1 hK.2.1 ht).symm)
    refine lv_iconst (v := nI 0) hx hb dX1_streak_9 (by decide) ?_
    refine lv_istore_n (lv' := [(1, .int (nI 0)), (0, .ref (a 0))]) hx hb dX1_streak_10 rfl hl (by decide) rfl (fun ls hl => ?_)
    refine lpP_run (r := fl_run (tf_ tk fc w n) ct 0 (ct - 0)) hct hbit S hA (fun k H locs ls hr0 X hl => ?_) (ct + 1) 0 _ _ ls (by omega) (by omega) rfl X hl
    refine lv_iload_n hx hb dX1_streak_40 rfl (lv_at hl 0 rfl) ?_
    exact cI_ret S hr hlk X dX1_streak_41 ⟨⟨sc1, ot1, ow1, oc1, jd1, ta1, vl1, vb1, me1, sn1, sv, sm, ss, rfl, hI⟩, by unfold sk_; rw [if_pos hq1, hr0]⟩
set_option maxHeartbeats 4000000 in
theorem mP_wouldHold (l : Launch) (D : va_G) (a : Nat → Nat) (kc : Nat → ClassId) (v : Int32) {w : Nat} {tk : Nat → Nat} {n : Nat} {fc : Nat → Nat} {ct : Nat} {w0 : va_W} (h : pm_R a kc w tk n fc ct w0) : cI l D (tyP kc) yX1_wouldHold cX1_wouldHold 2 (some .boolean) (rm_ 4 97) [.ref (a 0), .int v] w0 (fun r w1 => pm_R a kc w tk n fc ct w1 ∧ r = nI (wh_ tk fc w n ct v)) := by
  obtain ⟨sc, ot, ow, oc, jd, ta, vl, vb, me, sn, sv, sm, ss, rfl, hI⟩ := h
  have hct := hI.2.2.2.2.1
  refine cI_of (by decide) (Nat.le_of_ble_eq_true rfl) ?_
  intro p e s m below meth c ls S hr hlk X hA hl
  have hx := S.1
  have hb := S.2.1
  have hl : lv_has ls 2 [(0, .ref (a 0)), (1, .int v)] := hl
  refine lv_iload_n hx hb dX1_wouldHold_0 rfl (lv_at hl 1 rfl) ?_
  refine mi_if_lt (tgt := 29) hx hb dX1_wouldHold_1 (by decide) (fun c1 => ?_) (fun x hx31 cx => ?_)
  · skip
    refine lv_iconst (v := nI 0) hx hb dX1_wouldHold_29 (by decide) ?_
    exact cZ_ret S hr hlk X (by omega) dX1_wouldHold_30 ⟨⟨sc, ot, ow, oc, jd, ta, vl, vb, me, sn, sv, sm, ss, rfl, hI⟩, congrArg nI (fl_b_f (fun ⟨t, q1, q2, _⟩ => nI_neg c1 (show t ≤ 1000 by omega) q1)).symm⟩
  · subst cx
    refine lv_iload_n hx hb dX1_wouldHold_4 rfl (lv_at hl 1 rfl) ?_
    refine lv_bipush (v := nI 15) hx hb dX1_wouldHold_5 (by decide) ?_
    refine mn_icmp_gt (tgt := 29) hx hb (by omega) (by omega) dX1_wouldHold_7 (by decide) (fun c7 => ?_) (fun c7 => ?_)
    · skip
      refine lv_iconst (v := nI 0) hx hb dX1_wouldHold_29 (by decide) ?_
      exact cZ_ret S hr hlk X (by omega) dX1_wouldHold_30 ⟨⟨sc, ot, ow, oc, jd, ta, vl, vb, me, sn, sv, sm, ss, rfl, hI⟩, congrArg nI (fl_b_f (fun ⟨t, q1, q2, _⟩ => by have := nI_inj hx31 (show t ≤ 1000 by omega) q1; omega)).symm⟩
    · skip
      refine lv_aload_n hx hb dX1_wouldHold_10 rfl (lv_at hl 0 rfl) ?_
      refine cI_call (n := 0) (As := []) (rest := []) S X hA (mP_judge l D a kc hI) (lw_V q130 q132 qs1 q13 q133) rfl rfl (by decide +kernel) ⟨Nat.le_of_ble_eq_true rfl, Nat.le_of_ble_eq_true rfl⟩ rfl rfl hl.1 rfl rfl (Nat.le_of_ble_eq_true rfl) dX1_wouldHold_11 ⟨Nat.zero_le _, Nat.zero_le _⟩ (fun r w1 H locs hq X => ?_)
      obtain ⟨oc1, sc1, ot1, ow1, jd1, ta1, vl1, vb1, me1, sn1, rfl, hI, hq⟩ := hq
      rcases hq with ⟨hq1, rfl⟩ | ⟨hq1, rfl, hjq, M, hK⟩
      · refine mn_if_eq (tgt := 29) hx hb (by decide) dX1_wouldHold_14 (by decide) (fun c14 => ?_) (fun c14 => absurd rfl c14)
        refine lv_iconst (v := nI 0) hx hb dX1_wouldHold_29 (by decide) ?_
        exact cZ_ret S hr hlk X (by omega) dX1_wouldHold_30 ⟨⟨sc1, ot1, ow1, oc1, jd1, ta1, vl1, vb1, me1, sn1, sv, sm, ss, rfl, hI⟩, congrArg nI (fl_b_f (fun ⟨t, q1, q2, q3, _⟩ => hq1 q3)).symm⟩
      · refine mn_if_eq (tgt := 29) hx hb (by decide) dX1_wouldHold_14 (by decide) (fun c14 => absurd c14 (by decide)) (fun c14 => ?_)
        have hbit : ∀ t, t < ct → tb_ ta1 t = tf_ tk fc w n t := fun t ht => fl_b_of (tb_lt _ _) ((hK.2.2.2 t ht).trans (fl_tru_iff hK.1 hK.2.1 ht).symm)
        refine lv_aload_n hx hb dX1_wouldHold_17 rfl (lv_at hl 0 rfl) ?_
        refine lv_iload_n hx hb dX1_wouldHold_18 rfl (lv_at hl 1 rfl) ?_
        refine cI_call (n := 1) (As := [.int (nI x)]) (rest := []) S X hA (mP_imagine l D a kc (set := x) hI.1 hI.2.1 hct (by omega) hK.1 hK.2.1 hK.2.2.1) (lw_V q172 q174 qs7 q13 q175) rfl rfl (by decide +kernel) ⟨Nat.le_of_ble_eq_true rfl, Nat.le_of_ble_eq_true rfl⟩ rfl rfl hl.1 rfl rfl (Nat.le_of_ble_eq_true rfl) dX1_wouldHold_19 ⟨Nat.zero_le _, Nat.zero_le _⟩ (fun r w1 H locs hq X => ?_)
        obtain ⟨vl2, vb2, me2, sn2, sv2, sm2, ss2, rfl, hE, rfl⟩ := hq
        have hbl := fl_b_lt (fl_tru tk (va_up fc ct x) w n ct)
        have hI2 : pm_I w tk n fc ct jd1 ta1 vl2 me2 sn2 := ⟨hI.1, hI.2.1, hI.2.2.1, hI.2.2.2.1, hI.2.2.2.2.1, hI.2.2.2.2.2.1, hI.2.2.2.2.2.2.1, fun _ => ⟨sc1, M, hK.1, by rw [hjq]; exact hK.2.1, by rw [hjq]; exact st_J_ext hI.2.1 hE hK.2.2.1, by rw [hjq]; exact hK.2.2.2⟩⟩
        refine mn_if_eq (tgt := 29) hx hb (by omega) dX1_wouldHold_22 (by decide) (fun c22 => ?_) (fun c22 => ?_)
        · skip
          refine lv_iconst (v := nI 0) hx hb dX1_wouldHold_29 (by decide) ?_
          exact cZ_ret S hr hlk X (by omega) dX1_wouldHold_30 ⟨⟨sc1, ot1, ow1, oc1, jd1, ta1, vl2, vb2, me2, sn2, sv2, sm2, ss2, rfl, hI2⟩, congrArg nI (fl_b_f (fun ⟨t, q1, q2, q3, q4⟩ => by have e1 := nI_inj hx31 (show t ≤ 1000 by omega) q1; subst e1; have e2 := fl_b_1.mpr q4; omega)).symm⟩
        · skip
          refine lv_iconst (v := nI 1) hx hb dX1_wouldHold_25 (by decide) ?_
          refine lv_goto (tgt := 30) hx hb dX1_wouldHold_26 (by decide) ?_
          exact cZ_ret S hr hlk X (by omega) dX1_wouldHold_30 ⟨⟨sc1, ot1, ow1, oc1, jd1, ta1, vl2, vb2, me2, sn2, sv2, sm2, ss2, rfl, hI2⟩, congrArg nI (fl_b_t ⟨x, rfl, by omega, hq1, fl_b_1.mp (by omega)⟩).symm⟩
section ALW
variable {p : Program} {l : Launch} {e : Env} {R : Room} {s : State} {m : MethodId} {args : Array Value} {below : List Frame} {meth : Method} {c : Code} {Q : State → Prop} {D : va_G} {A : Nat → Prop} {a : Nat → Nat} {kc : Nat → ClassId}
set_option maxHeartbeats 4000000 in
theorem lpP_allowed {w : Nat} {tk : Nat → Nat} {n : Nat} {fc : Nat → Nat} {ct : Nat} (S : CallFix p m c cX1_allowed 3 s args lw_all RX1) (hA : ∀ q : Nat, s.heap.size ≤ q → A q)
    (K : ∀ (w0 : va_W) (H : Heap) (locs : List Loc) (ls : Array Slot), pm_R a kc w tk n fc ct w0 → wX D (tyP kc) A s H locs w0 → lv_has ls 3 [(1, .int (nI (fl_sum (fun x => wh_ tk fc w n ct (nI x)) 16)))] → W p l e (rm_ 5 118) s m args below meth c H locs 0 0 Q (F0 m 32 ls [])) :
    ∀ (d x c_ : Nat) (w0 : va_W) (H : Heap) (locs : List Loc) (ls : Array Slot), 16 - x < d → x ≤ 16 → c_ = (fl_sum (fun x => wh_ tk fc w n ct (nI x)) x) → pm_R a kc w tk n fc ct w0 → wX D (tyP kc) A s H locs w0 → lv_has ls 3 [(2, .int (nI x)), (1, .int (nI c_)), (0, .ref (a 0))] → W p l e (rm_ 5 118) s m args below meth c H locs 0 0 Q (F0 m 4 ls []) := by
  have hx := S.1
  have hb := S.2.1
  intro d
  induction d with
  | zero =>
    intro x c_ w0 H locs ls hd
    omega
  | succ d ih =>
    intro x c_ w0 H locs ls hd hxx hc h X hl
    obtain ⟨sc, ot, ow, oc, jd, ta, vl, vb, me, sn, sv, sm, ss, rfl, hI⟩ := h
    refine lv_iload_n hx hb dX1_allowed_4 rfl (lv_at hl 0 rfl) ?_
    refine lv_bipush (v := nI 16) hx hb dX1_allowed_5 (by decide) ?_
    refine mn_icmp_ge (tgt := 32) hx hb (by omega) (by omega) dX1_allowed_7 (by decide) (fun c7 => ?_) (fun c7 => ?_)
    · skip
      have e0 : x = 16 := by omega
      subst e0
      subst hc
      exact K _ H locs ls ⟨sc, ot, ow, oc, jd, ta, vl, vb, me, sn, sv, sm, ss, rfl, hI⟩ X (lv_sub hl [1] rfl)
    · skip
      refine lv_iload_n hx hb dX1_allowed_10 rfl (lv_at hl 1 rfl) ?_
      refine lv_aload_n hx hb dX1_allowed_11 rfl (lv_at hl 2 rfl) ?_
      refine lv_iload_n hx hb dX1_allowed_12 rfl (lv_at hl 0 rfl) ?_
      refine cI_call (n := 1) (As := [.int (nI x)]) (rest := [.int (nI c_)]) S X hA (mP_wouldHold l D a kc (nI x) ⟨sc, ot, ow, oc, jd, ta, vl, vb, me, sn, sv, sm, ss, rfl, hI⟩) (lw_V q180 q169 q170 q13 q171) rfl rfl (by decide +kernel) ⟨Nat.le_of_ble_eq_true rfl, Nat.le_of_ble_eq_true rfl⟩ rfl rfl hl.1 rfl rfl (Nat.le_of_ble_eq_true rfl) dX1_allowed_13 ⟨Nat.zero_le _, Nat.zero_le _⟩ (fun r w1 H locs hq X => ?_)
      obtain ⟨hR, rfl⟩ := hq
      have hbl : wh_ tk fc w n ct (nI x) < 2 := fl_b_lt _
      refine mn_if_eq (tgt := 23) hx hb (by omega) dX1_allowed_16 (by decide) (fun c16 => ?_) (fun c16 => ?_)
      · skip
        refine lv_iconst (v := nI 0) hx hb dX1_allowed_23 (by decide) ?_
        refine mn_iadd hx hb dX1_allowed_24 ?_
        refine lv_istore_n (lv' := [(1, .int (nI (c_ + 0))), (2, .int (nI x)), (0, .ref (a 0))]) hx hb dX1_allowed_25 rfl hl (by decide) rfl (fun ls hl => ?_)
        refine lv_iinc (v := nI (x + 1)) (lv' := [(2, .int (nI (x + 1))), (1, .int (nI (c_ + 0))), (0, .ref (a 0))]) hx hb dX1_allowed_26 hl (k := 1) rfl (nI_1 x) (by decide) rfl (fun ls hl => ?_)
        refine lv_goto (tgt := 4) hx hb dX1_allowed_29 (by decide) ?_
        exact ih (x + 1) _ _ _ _ _ (by omega) (by omega) (by rw [fl_sum_s]; omega) hR X (lv_sub hl [0, 1, 2] rfl)
      · skip
        refine lv_iconst (v := nI 1) hx hb dX1_allowed_19 (by decide) ?_
        refine lv_goto (tgt := 24) hx hb dX1_allowed_20 (by decide) ?_
        refine mn_iadd hx hb dX1_allowed_24 ?_
        refine lv_istore_n (lv' := [(1, .int (nI (c_ + 1))), (2, .int (nI x)), (0, .ref (a 0))]) hx hb dX1_allowed_25 rfl hl (by decide) rfl (fun ls hl => ?_)
        refine lv_iinc (v := nI (x + 1)) (lv' := [(2, .int (nI (x + 1))), (1, .int (nI (c_ + 1))), (0, .ref (a 0))]) hx hb dX1_allowed_26 hl (k := 1) rfl (nI_1 x) (by decide) rfl (fun ls hl => ?_)
        refine lv_goto (tgt := 4) hx hb dX1_allowed_29 (by decide) ?_
        exact ih (x + 1) _ _ _ _ _ (by omega) (by omega) (by rw [fl_sum_s]; omega) hR X (lv_sub hl [0, 1, 2] rfl)
end ALW
set_option maxHeartbeats 4000000 in
theorem mP_allowed (l : Launch) (D : va_G) (a : Nat → Nat) (kc : Nat → ClassId) {w : Nat} {tk : Nat → Nat} {n : Nat} {fc : Nat → Nat} {ct : Nat} {w0 : va_W} (h : pm_R a kc w tk n fc ct w0) : cI l D (tyP kc) yX1_allowed cX1_allowed 3 (some .int) (rm_ 5 118) [.ref (a 0)] w0 (fun r w1 => pm_R a kc w tk n fc ct w1 ∧ r = al_ tk fc w n ct) := by
  refine cI_of (by decide) (Nat.le_of_ble_eq_true rfl) ?_
  intro p e s m below meth c ls S hr hlk X hA hl
  have hx := S.1
  have hb := S.2.1
  have hl : lv_has ls 3 [(0, .ref (a 0))] := hl
  refine lv_iconst (v := nI 0) hx hb dX1_allowed_0 (by decide) ?_
  refine lv_istore_n (lv' := [(1, .int (nI 0)), (0, .ref (a 0))]) hx hb dX1_allowed_1 rfl hl (by decide) rfl (fun ls hl => ?_)
  refine lv_iconst (v := nI 0) hx hb dX1_allowed_2 (by decide) ?_
  refine lv_istore_n (lv' := [(2, .int (nI 0)), (1, .int (nI 0)), (0, .ref (a 0))]) hx hb dX1_allowed_3 rfl hl (by decide) rfl (fun ls hl => ?_)
  refine lpP_allowed S hA (fun w1 H locs ls hR X hl => ?_) 17 0 0 _ _ _ ls (by omega) (by omega) rfl h X hl
  refine lv_iload_n hx hb dX1_allowed_32 rfl (lv_at hl 0 rfl) ?_
  exact cI_ret S hr hlk X dX1_allowed_33 ⟨hR, rfl⟩
end
section
set_option maxRecDepth 100000
section MCP
variable {p : Program} {l : Launch} {e : Env} {R : Room} {s : State} {m : MethodId} {args : Array Value} {below : List Frame} {meth : Method} {c : Code} {Q : State → Prop} {D : va_G} {A : Nat → Prop} {a : Nat → Nat} {kc : Nat → ClassId}
set_option maxHeartbeats 4000000 in
theorem lpM_complete {w n : Nat} {tk : Nat → Nat} {ct : Nat} {fc hd st : Nat → Nat} (hn : n ≤ 14) (htk : ∀ k, tk k ≤ 12) (hok : fl_Ok tk n) (S : CallFix p m c cX2_complete 4 s args lw_all RX2)
    (K : ∀ (H : Heap) (locs : List Loc) (ls : Array Slot), wX D (tyM kc) A s H locs (mdW a kc w n tk ct fc hd st) → lv_has ls 4 [(1, .int (nI (fl_op tk n)))] → W p l e R s m args below meth c H locs 0 0 Q (F0 m 61 ls [])) :
    ∀ (d k : Nat) (H : Heap) (locs : List Loc) (ls : Array Slot), n - k < d → k ≤ n → wX D (tyM kc) A s H locs (mdW a kc w n tk ct fc hd st) → lv_has ls 4 [(2, .int (nI k)), (1, .int (nI (fl_op tk k))), (0, .ref (a 0))] → W p l e R s m args below meth c H locs 0 0 Q (F0 m 4 ls []) := by
  have hx := S.1
  have hb := S.2.1
  intro d
  induction d with
  | zero =>
    intro k H locs ls hd
    omega
  | succ d ih =>
    intro k H locs ls hd hk X hl
    refine lv_iload_n hx hb dX2_complete_4 rfl (lv_at hl 0 rfl) ?_
    refine lv_aload_n hx hb dX2_complete_5 rfl (lv_at hl 2 rfl) ?_
    refine gM_n S X dX2_complete_6 ?_
    refine mn_icmp_ge (tgt := 61) hx hb (by omega) (by omega) dX2_complete_9 (by decide) (fun c9 => ?_) (fun c9 => ?_)
    · skip
      have e0 : k = n := by omega
      subst e0
      exact K H locs ls X (lv_sub hl [1] rfl)
    · skip
      have ho := hok k (by omega)
      have htkk := htk k
      refine lv_aload_n hx hb dX2_complete_12 rfl (lv_at hl 2 rfl) ?_
      refine gM_tk S X dX2_complete_13 ?_
      refine lv_iload_n hx hb dX2_complete_16 rfl (lv_at hl 0 rfl) ?_
      refine lM_tk S X (by omega) dX2_complete_17 ?_
      refine lv_istore_n (lv' := [(3, .int (nI (tk k))), (2, .int (nI k)), (1, .int (nI (fl_op tk k))), (0, .ref (a 0))]) hx hb dX2_complete_18 rfl hl (by decide) rfl (fun ls hl => ?_)
      refine lv_iload_n hx hb dX2_complete_19 rfl (lv_at hl 0 rfl) ?_
      refine lv_iconst (v := nI 3) hx hb dX2_complete_20 (by decide) ?_
      refine mn_icmp_gt (tgt := 30) hx hb (by omega) (by omega) dX2_complete_21 (by decide) (fun c21 => ?_) (fun c21 => ?_)
      · skip
        refine lv_iload_n hx hb dX2_complete_30 rfl (lv_at hl 0 rfl) ?_
        refine lv_iconst (v := nI 5) hx hb dX2_complete_31 (by decide) ?_
        refine mn_icmp_eq (tgt := 47) hx hb (by omega) (by omega) dX2_complete_32 (by decide) (fun c32 => ?_) (fun c32 => ?_)
        · skip
          refine lv_iload_n hx hb dX2_complete_47 rfl (lv_at hl 2 rfl) ?_
          refine lv_iconst (v := nI 1) hx hb dX2_complete_48 (by decide) ?_
          refine mn_iadd hx hb dX2_complete_49 ?_
          refine lv_goto (tgt := 54) hx hb dX2_complete_50 (by decide) ?_
          refine mn_eq (y := fl_op tk (k + 1)) (by have h0 := fl_op_s tk k; have h1 : fl_ar (tk k) = 2 := fl_ar_2.mpr (by omega); omega) ?_
          refine lv_istore_n (lv' := [(1, .int (nI (fl_op tk (k + 1)))), (3, .int (nI (tk k))), (2, .int (nI k)), (0, .ref (a 0))]) hx hb dX2_complete_54 rfl hl (by decide) rfl (fun ls hl => ?_)
          refine lv_iinc (v := nI (k + 1)) (lv' := [(2, .int (nI (k + 1))), (1, .int (nI (fl_op tk (k + 1)))), (3, .int (nI (tk k))), (0, .ref (a 0))]) hx hb dX2_complete_55 hl (k := 2) rfl (nI_1 k) (by decide) rfl (fun ls hl => ?_)
          refine lv_goto (tgt := 4) hx hb dX2_complete_58 (by decide) ?_
          exact ih (k + 1) _ _ _ (by omega) (by omega) X (lv_sub hl [0, 1, 3] rfl)
        · skip
          refine lv_iload_n hx hb dX2_complete_35 rfl (lv_at hl 0 rfl) ?_
          refine lv_bipush (v := nI 6) hx hb dX2_complete_36 (by decide) ?_
          refine mn_icmp_eq (tgt := 47) hx hb (by omega) (by omega) dX2_complete_38 (by decide) (fun c38 => ?_) (fun c38 => ?_)
          · skip
            refine lv_iload_n hx hb dX2_complete_47 rfl (lv_at hl 2 rfl) ?_
            refine lv_iconst (v := nI 1) hx hb dX2_complete_48 (by decide) ?_
            refine mn_iadd hx hb dX2_complete_49 ?_
            refine lv_goto (tgt := 54) hx hb dX2_complete_50 (by decide) ?_
            refine mn_eq (y := fl_op tk (k + 1)) (by have h0 := fl_op_s tk k; have h1 : fl_ar (tk k) = 2 := fl_ar_2.mpr (by omega); omega) ?_
            refine lv_istore_n (lv' := [(1, .int (nI (fl_op tk (k + 1)))), (3, .int (nI (tk k))), (2, .int (nI k)), (0, .ref (a 0))]) hx hb dX2_complete_54 rfl hl (by decide) rfl (fun ls hl => ?_)
            refine lv_iinc (v := nI (k + 1)) (lv' := [(2, .int (nI (k + 1))), (1, .int (nI (fl_op tk (k + 1)))), (3, .int (nI (tk k))), (0, .ref (a 0))]) hx hb dX2_complete_55 hl (k := 2) rfl (nI_1 k) (by decide) rfl (fun ls hl => ?_)
            refine lv_goto (tgt := 4) hx hb dX2_complete_58 (by decide) ?_
            exact ih (k + 1) _ _ _ (by omega) (by omega) X (lv_sub hl [0, 1, 3] rfl)
          · skip
            refine lv_iload_n hx hb dX2_complete_41 rfl (lv_at hl 0 rfl) ?_
            refine lv_bipush (v := nI 10) hx hb dX2_complete_42 (by decide) ?_
            refine mn_icmp_ne (tgt := 53) hx hb (by omega) (by omega) dX2_complete_44 (by decide) (fun c44 => ?_) (fun c44 => ?_)
            · skip
              refine lv_iload_n hx hb dX2_complete_53 rfl (lv_at hl 2 rfl) ?_
              refine mn_eq (y := fl_op tk (k + 1)) (by have h0 := fl_op_s tk k; have h1 : fl_ar (tk k) = 1 := (by unfold fl_ar; rw [if_neg (by omega), if_neg (by omega)]); omega) ?_
              refine lv_istore_n (lv' := [(1, .int (nI (fl_op tk (k + 1)))), (3, .int (nI (tk k))), (2, .int (nI k)), (0, .ref (a 0))]) hx hb dX2_complete_54 rfl hl (by decide) rfl (fun ls hl => ?_)
              refine lv_iinc (v := nI (k + 1)) (lv' := [(2, .int (nI (k + 1))), (1, .int (nI (fl_op tk (k + 1)))), (3, .int (nI (tk k))), (0, .ref (a 0))]) hx hb dX2_complete_55 hl (k := 2) rfl (nI_1 k) (by decide) rfl (fun ls hl => ?_)
              refine lv_goto (tgt := 4) hx hb dX2_complete_58 (by decide) ?_
              exact ih (k + 1) _ _ _ (by omega) (by omega) X (lv_sub hl [0, 1, 3] rfl)
            · skip
              refine lv_iload_n hx hb dX2_complete_47 rfl (lv_at hl 2 rfl) ?_
              refine lv_iconst (v := nI 1) hx hb dX2_complete_48 (by decide) ?_
              refine mn_iadd hx hb dX2_complete_49 ?_
              refine lv_goto (tgt := 54) hx hb dX2_complete_50 (by decide) ?_
              refine mn_eq (y := fl_op tk (k + 1)) (by have h0 := fl_op_s tk k; have h1 : fl_ar (tk k) = 2 := fl_ar_2.mpr (by omega); omega) ?_
              refine lv_istore_n (lv' := [(1, .int (nI (fl_op tk (k + 1)))), (3, .int (nI (tk k))), (2, .int (nI k)), (0, .ref (a 0))]) hx hb dX2_complete_54 rfl hl (by decide) rfl (fun ls hl => ?_)
              refine lv_iinc (v := nI (k + 1)) (lv' := [(2, .int (nI (k + 1))), (1, .int (nI (fl_op tk (k + 1)))), (3, .int (nI (tk k))), (0, .ref (a 0))]) hx hb dX2_complete_55 hl (k := 2) rfl (nI_1 k) (by decide) rfl (fun ls hl => ?_)
              refine lv_goto (tgt := 4) hx hb dX2_complete_58 (by decide) ?_
              exact ih (k + 1) _ _ _ (by omega) (by omega) X (lv_sub hl [0, 1, 3] rfl)
      · skip
        refine lv_iload_n hx hb dX2_complete_24 rfl (lv_at hl 2 rfl) ?_
        refine lv_iconst (v := nI 1) hx hb dX2_complete_25 (by decide) ?_
        refine mn_isub hx hb (by omega) dX2_complete_26 ?_
        refine lv_goto (tgt := 54) hx hb dX2_complete_27 (by decide) ?_
        refine mn_eq (y := fl_op tk (k + 1)) (by have h0 := fl_op_s tk k; have h1 : fl_ar (tk k) = 0 := fl_ar_0.mpr (by omega); omega) ?_
        refine lv_istore_n (lv' := [(1, .int (nI (fl_op tk (k + 1)))), (3, .int (nI (tk k))), (2, .int (nI k)), (0, .ref (a 0))]) hx hb dX2_complete_54 rfl hl (by decide) rfl (fun ls hl => ?_)
        refine lv_iinc (v := nI (k + 1)) (lv' := [(2, .int (nI (k + 1))), (1, .int (nI (fl_op tk (k + 1)))), (3, .int (nI (tk k))), (0, .ref (a 0))]) hx hb dX2_complete_55 hl (k := 2) rfl (nI_1 k) (by decide) rfl (fun ls hl => ?_)
        refine lv_goto (tgt := 4) hx hb dX2_complete_58 (by decide) ?_
        exact ih (k + 1) _ _ _ (by omega) (by omega) X (lv_sub hl [0, 1, 3] rfl)
end MCP
set_option maxHeartbeats 4000000 in
theorem mM_complete (l : Launch) (D : va_G) (a : Nat → Nat) (kc : Nat → ClassId) {w n : Nat} {tk : Nat → Nat} {ct : Nat} {fc hd st : Nat → Nat} (hn : n ≤ 14) (htk : ∀ k, tk k ≤ 12) (hok : fl_Ok tk n) : cI l D (tyM kc) yX2_complete cX2_complete 4 (some .boolean) (rm_ 0 0) [.ref (a 0)] (mdW a kc w n tk ct fc hd st) (fun r w1 => w1 = mdW a kc w n tk ct fc hd st ∧ ((fl_op tk n = 0 ∧ r = nI 1) ∨ (¬ fl_op tk n = 0 ∧ r = nI 0))) := by
  refine cI_of (by decide) (Nat.le_of_ble_eq_true rfl) ?_
  intro p e s m below meth c ls S hr hlk X hA hl
  have hx := S.1
  have hb := S.2.1
  have hl : lv_has ls 4 [(0, .ref (a 0))] := hl
  refine lv_iconst (v := nI 1) hx hb dX2_complete_0 (by decide) ?_
  refine lv_istore_n (lv' := [(1, .int (nI 1)), (0, .ref (a 0))]) hx hb dX2_complete_1 rfl hl (by decide) rfl (fun ls hl => ?_)
  refine lv_iconst (v := nI 0) hx hb dX2_complete_2 (by decide) ?_
  refine lv_istore_n (lv' := [(2, .int (nI 0)), (1, .int (nI 1)), (0, .ref (a 0))]) hx hb dX2_complete_3 rfl hl (by decide) rfl (fun ls hl => ?_)
  refine lpM_complete hn htk hok S (fun H locs ls X hl => ?_) (n + 1) 0 _ _ ls (by omega) (by omega) X hl
  have hle := fl_op_le tk n
  refine lv_iload_n hx hb dX2_complete_61 rfl (lv_at hl 0 rfl) ?_
  refine mn_if_ne (tgt := 69) hx hb (by omega) dX2_complete_62 (by decide) (fun c62 => ?_) (fun c62 => ?_)
  · skip
    refine lv_iconst (v := nI 0) hx hb dX2_complete_69 (by decide) ?_
    exact cZ_ret S hr hlk X (by omega) dX2_complete_70 ⟨rfl, Or.inr ⟨c62, rfl⟩⟩
  · skip
    refine lv_iconst (v := nI 1) hx hb dX2_complete_65 (by decide) ?_
    refine lv_goto (tgt := 70) hx hb dX2_complete_66 (by decide) ?_
    exact cZ_ret S hr hlk X (by omega) dX2_complete_70 ⟨rfl, Or.inl ⟨c62, rfl⟩⟩
set_option maxHeartbeats 4000000 in
theorem mM_feed (l : Launch) (D : va_G) (a : Nat → Nat) (kc : Nat → ClassId) (v : Int32) {w n : Nat} {tk : Nat → Nat} {ct : Nat} {fc hd st : Nat → Nat} (hn : n ≤ 14) (htk : ∀ k, tk k ≤ 12) (hok : fl_Ok tk n) : cI l D (tyM kc) yX2_feed cX2_feed 2 (some .int) (rm_ 1 23) [.ref (a 0), .int v] (mdW a kc w n tk ct fc hd st) (fun r w1 => (∃ t, fd_ v tk n t ∧ r = nI (n + 1) ∧ w1 = mdW a kc w (n + 1) (va_up tk n t) ct fc hd st) ∨ ((∀ t, ¬ fd_ v tk n t) ∧ r = -1 ∧ w1 = mdW a kc w n tk ct fc hd st)) := by
  refine cI_of (by decide) (Nat.le_of_ble_eq_true rfl) ?_
  intro p e s m below meth c ls S hr hlk X hA hl
  have hx := S.1
  have hb := S.2.1
  have hl : lv_has ls 2 [(0, .ref (a 0)), (1, .int v)] := hl
  refine lv_iload_n hx hb dX2_feed_0 rfl (lv_at hl 1 rfl) ?_
  refine mi_if_lt (tgt := 26) hx hb dX2_feed_1 (by decide) (fun c1 => ?_) (fun x hx31 cx => ?_)
  · skip
    refine lv_iconst (v := (-1)) hx hb dX2_feed_26 (by decide) ?_
    exact cI_ret S hr hlk X dX2_feed_27 (Or.inr ⟨fun t => fd_neg c1, rfl, rfl⟩)
  · subst cx
    refine lv_iload_n hx hb dX2_feed_4 rfl (lv_at hl 1 rfl) ?_
    refine lv_bipush (v := nI 12) hx hb dX2_feed_5 (by decide) ?_
    refine mn_icmp_gt (tgt := 26) hx hb (by omega) (by omega) dX2_feed_7 (by decide) (fun c7 => ?_) (fun c7 => ?_)
    · skip
      refine lv_iconst (v := (-1)) hx hb dX2_feed_26 (by decide) ?_
      exact cI_ret S hr hlk X dX2_feed_27 (Or.inr ⟨fun t q => by first | exact fd_big hx31 (by omega) q | (have := q.2.2.1; omega), rfl, rfl⟩)
    · skip
      refine lv_aload_n hx hb dX2_feed_10 rfl (lv_at hl 0 rfl) ?_
      refine cI_call (n := 0) (As := []) (rest := []) S X hA (mM_complete l D a kc hn htk hok) (lw_V q217 q218 q219 q14 q220) rfl rfl (by decide +kernel) ⟨Nat.le_of_ble_eq_true rfl, Nat.le_of_ble_eq_true rfl⟩ rfl rfl hl.1 rfl rfl (Nat.le_of_ble_eq_true rfl) dX2_feed_11 ⟨Nat.zero_le _, Nat.zero_le _⟩ (fun r w1 H locs hq X => ?_)
      obtain ⟨rfl, hq⟩ := hq
      rcases hq with ⟨hq1, rfl⟩ | ⟨hq1, rfl⟩
      · refine mn_if_ne (tgt := 26) hx hb (by decide) dX2_feed_14 (by decide) (fun c14 => ?_) (fun c14 => absurd c14 (by decide))
        refine lv_iconst (v := (-1)) hx hb dX2_feed_26 (by decide) ?_
        exact cI_ret S hr hlk X dX2_feed_27 (Or.inr ⟨fun t q => q.2.2.2 hq1, rfl, rfl⟩)
      · refine mn_if_ne (tgt := 26) hx hb (by decide) dX2_feed_14 (by decide) (fun c14 => absurd rfl c14) (fun c14 => ?_)
        refine lv_aload_n hx hb dX2_feed_17 rfl (lv_at hl 0 rfl) ?_
        refine gM_n S X dX2_feed_18 ?_
        refine lv_bipush (v := nI 14) hx hb dX2_feed_21 (by decide) ?_
        refine mn_icmp_lt (tgt := 28) hx hb (by omega) (by omega) dX2_feed_23 (by decide) (fun c23 => ?_) (fun c23 => ?_)
        · skip
          refine lv_aload_n hx hb dX2_feed_28 rfl (lv_at hl 0 rfl) ?_
          refine gM_tk S X dX2_feed_29 ?_
          refine lv_aload_n hx hb dX2_feed_32 rfl (lv_at hl 0 rfl) ?_
          refine gM_n S X dX2_feed_33 ?_
          refine lv_iload_n hx hb dX2_feed_36 rfl (lv_at hl 1 rfl) ?_
          refine sM_tk S X (by omega) dX2_feed_37 (fun H locs X => ?_)
          refine lv_aload_n hx hb dX2_feed_38 rfl (lv_at hl 0 rfl) ?_
          refine lv_dup hx hb dX2_feed_39 rfl ?_
          refine gM_n S X dX2_feed_40 ?_
          refine lv_iconst (v := nI 1) hx hb dX2_feed_43 (by decide) ?_
          refine mn_iadd hx hb dX2_feed_44 ?_
          refine pM_n S X dX2_feed_45 (fun H locs X => ?_)
          refine lv_aload_n hx hb dX2_feed_48 rfl (lv_at hl 0 rfl) ?_
          refine gM_n S X dX2_feed_49 ?_
          exact cI_ret S hr hlk X dX2_feed_52 (Or.inl ⟨x, ⟨rfl, by omega, by omega, hq1⟩, rfl, rfl⟩)
        · skip
          refine lv_iconst (v := (-1)) hx hb dX2_feed_26 (by decide) ?_
          exact cI_ret S hr hlk X dX2_feed_27 (Or.inr ⟨fun t q => by first | exact fd_big hx31 (by omega) q | (have := q.2.2.1; omega), rfl, rfl⟩)
set_option maxHeartbeats 4000000 in
theorem mM_back (l : Launch) (D : va_G) (a : Nat → Nat) (kc : Nat → ClassId) {w n : Nat} {tk : Nat → Nat} {ct : Nat} {fc hd st : Nat → Nat} (hn : n ≤ 14) : cI l D (tyM kc) yX2_back cX2_back 1 (some .int) (rm_ 0 0) [.ref (a 0)] (mdW a kc w n tk ct fc hd st) (fun r w1 => (n = 0 ∧ r = -1 ∧ w1 = mdW a kc w n tk ct fc hd st) ∨ (0 < n ∧ r = nI (tk (n - 1)) ∧ w1 = mdW a kc w (n - 1) tk ct fc hd st)) := by
  refine cI_of (by decide) (Nat.le_of_ble_eq_true rfl) ?_
  intro p e s m below meth c ls S hr hlk X hA hl
  have hx := S.1
  have hb := S.2.1
  have hl : lv_has ls 1 [(0, .ref (a 0))] := hl
  refine lv_aload_n hx hb dX2_back_0 rfl (lv_at hl 0 rfl) ?_
  refine gM_n S X dX2_back_1 ?_
  refine mn_if_ne (tgt := 9) hx hb (by omega) dX2_back_4 (by decide) (fun c4 => ?_) (fun c4 => ?_)
  · skip
    refine lv_aload_n hx hb dX2_back_9 rfl (lv_at hl 0 rfl) ?_
    refine lv_dup hx hb dX2_back_10 rfl ?_
    refine gM_n S X dX2_back_11 ?_
    refine lv_iconst (v := nI 1) hx hb dX2_back_14 (by decide) ?_
    refine mn_isub hx hb (by omega) dX2_back_15 ?_
    refine pM_n S X dX2_back_16 (fun H locs X => ?_)
    refine lv_aload_n hx hb dX2_back_19 rfl (lv_at hl 0 rfl) ?_
    refine gM_tk S X dX2_back_20 ?_
    refine lv_aload_n hx hb dX2_back_23 rfl (lv_at hl 0 rfl) ?_
    refine gM_n S X dX2_back_24 ?_
    refine lM_tk S X (by omega) dX2_back_27 ?_
    exact cI_ret S hr hlk X dX2_back_28 (Or.inr ⟨by omega, rfl, rfl⟩)
  · skip
    refine lv_iconst (v := (-1)) hx hb dX2_back_7 (by decide) ?_
    exact cI_ret S hr hlk X dX2_back_8 (Or.inl ⟨by omega, rfl, rfl⟩)
set_option maxHeartbeats 4000000 in
theorem mM_window (l : Launch) (D : va_G) (a : Nat → Nat) (kc : Nat → ClassId) {w n : Nat} {tk : Nat → Nat} {ct : Nat} {fc hd st : Nat → Nat} : cI l D (tyM kc) yX2_window cX2_window 1 (some .int) (rm_ 0 0) [.ref (a 0)] (mdW a kc w n tk ct fc hd st) (fun r w1 => r = nI w ∧ w1 = mdW a kc w n tk ct fc hd st) := by
  refine cI_of (by decide) (Nat.le_of_ble_eq_true rfl) ?_
  intro p e s m below meth c ls S hr hlk X hA hl
  have hx := S.1
  have hb := S.2.1
  have hl : lv_has ls 1 [(0, .ref (a 0))] := hl
  refine lv_aload_n hx hb dX2_window_0 rfl (lv_at hl 0 rfl) ?_
  refine gM_w S X dX2_window_1 ?_
  exact cI_ret S hr hlk X dX2_window_4 ⟨rfl, rfl⟩
set_option maxHeartbeats 4000000 in
theorem mM_events (l : Launch) (D : va_G) (a : Nat → Nat) (kc : Nat → ClassId) {w n : Nat} {tk : Nat → Nat} {ct : Nat} {fc hd st : Nat → Nat} : cI l D (tyM kc) yX2_events cX2_events 1 (some .int) (rm_ 0 0) [.ref (a 0)] (mdW a kc w n tk ct fc hd st) (fun r w1 => r = nI ct ∧ w1 = mdW a kc w n tk ct fc hd st) := by
  refine cI_of (by decide) (Nat.le_of_ble_eq_true rfl) ?_
  intro p e s m below meth c ls S hr hlk X hA hl
  have hx := S.1
  have hb := S.2.1
  have hl : lv_has ls 1 [(0, .ref (a 0))] := hl
  refine lv_aload_n hx hb dX2_events_0 rfl (lv_at hl 0 rfl) ?_
  refine gM_ct S X dX2_events_1 ?_
  exact cI_ret S hr hlk X dX2_events_4 ⟨rfl, rfl⟩
set_option maxHeartbeats 4000000 in
theorem mM_event (l : Launch) (D : va_G) (a : Nat → Nat) (kc : Nat → ClassId) (v : Int32) {w n : Nat} {tk : Nat → Nat} {ct : Nat} {fc hd st : Nat → Nat} (hct : ct ≤ 200) : cI l D (tyM kc) yX2_event cX2_event 2 (some .int) (rm_ 0 0) [.ref (a 0), .int v] (mdW a kc w n tk ct fc hd st) (fun r w1 => (∃ t, v = nI t ∧ t ≤ 15 ∧ ct < 200 ∧ r = nI ct ∧ w1 = mdW a kc w n tk (ct + 1) (va_up fc ct t) hd st) ∨ ((∃ t, v = nI t ∧ t ≤ 15) ∧ 200 ≤ ct ∧ r = -2 ∧ w1 = mdW a kc w n tk ct fc hd st) ∨ ((∀ t, ¬ (v = nI t ∧ t ≤ 15)) ∧ r = -1 ∧ w1 = mdW a kc w n tk ct fc hd st)) := by
  refine cI_of (by decide) (Nat.le_of_ble_eq_true rfl) ?_
  intro p e s m below meth c ls S hr hlk X hA hl
  have hx := S.1
  have hb := S.2.1
  have hl : lv_has ls 2 [(0, .ref (a 0)), (1, .int v)] := hl
  refine lv_iload_n hx hb dX2_event_0 rfl (lv_at hl 1 rfl) ?_
  refine mi_if_lt (tgt := 10) hx hb dX2_event_1 (by decide) (fun c1 => ?_) (fun x hx31 cx => ?_)
  · skip
    refine lv_iconst (v := (-1)) hx hb dX2_event_10 (by decide) ?_
    exact cI_ret S hr hlk X dX2_event_11 (Or.inr (Or.inr ⟨fun t e => nI_neg c1 (show t ≤ 1000 by have := e.2; omega) e.1, rfl, rfl⟩))
  · subst cx
    refine lv_iload_n hx hb dX2_event_4 rfl (lv_at hl 1 rfl) ?_
    refine lv_bipush (v := nI 15) hx hb dX2_event_5 (by decide) ?_
    refine mn_icmp_le (tgt := 12) hx hb (by omega) (by omega) dX2_event_7 (by decide) (fun c7 => ?_) (fun c7 => ?_)
    · skip
      refine lv_aload_n hx hb dX2_event_12 rfl (lv_at hl 0 rfl) ?_
      refine gM_ct S X dX2_event_13 ?_
      refine lv_sipush (v := nI 200) hx hb dX2_event_16 (by decide) ?_
      refine mn_icmp_lt (tgt := 25) hx hb (by omega) (by omega) dX2_event_19 (by decide) (fun c19 => ?_) (fun c19 => ?_)
      · skip
        refine lv_aload_n hx hb dX2_event_25 rfl (lv_at hl 0 rfl) ?_
        refine gM_fc S X dX2_event_26 ?_
        refine lv_aload_n hx hb dX2_event_29 rfl (lv_at hl 0 rfl) ?_
        refine gM_ct S X dX2_event_30 ?_
        refine lv_iload_n hx hb dX2_event_33 rfl (lv_at hl 1 rfl) ?_
        refine sM_fc S X (by omega) dX2_event_34 (fun H locs X => ?_)
        refine lv_aload_n hx hb dX2_event_35 rfl (lv_at hl 0 rfl) ?_
        refine lv_dup hx hb dX2_event_36 rfl ?_
        refine gM_ct S X dX2_event_37 ?_
        refine lv_iconst (v := nI 1) hx hb dX2_event_40 (by decide) ?_
        refine mn_iadd hx hb dX2_event_41 ?_
        refine pM_ct S X dX2_event_42 (fun H locs X => ?_)
        refine lv_aload_n hx hb dX2_event_45 rfl (lv_at hl 0 rfl) ?_
        refine gM_ct S X dX2_event_46 ?_
        refine lv_iconst (v := nI 1) hx hb dX2_event_49 (by decide) ?_
        refine mn_isub hx hb (by omega) dX2_event_50 ?_
        exact cI_ret S hr hlk X dX2_event_51 (Or.inl ⟨x, rfl, by omega, by omega, congrArg nI (by omega), rfl⟩)
      · skip
        refine lv_bipush (v := (-2)) hx hb dX2_event_22 (by decide) ?_
        exact cI_ret S hr hlk X dX2_event_24 (Or.inr (Or.inl ⟨⟨x, rfl, by omega⟩, by omega, rfl, rfl⟩))
    · skip
      refine lv_iconst (v := (-1)) hx hb dX2_event_10 (by decide) ?_
      exact cI_ret S hr hlk X dX2_event_11 (Or.inr (Or.inr ⟨fun t e => by have h1 := e.2; have := nI_inj hx31 (by omega) e.1; omega, rfl, rfl⟩))
set_option maxHeartbeats 4000000 in
theorem mM_undo (l : Launch) (D : va_G) (a : Nat → Nat) (kc : Nat → ClassId) {w n : Nat} {tk : Nat → Nat} {ct : Nat} {fc hd st : Nat → Nat} (hct : ct ≤ 200) : cI l D (tyM kc) yX2_undo cX2_undo 1 (some .int) (rm_ 0 0) [.ref (a 0)] (mdW a kc w n tk ct fc hd st) (fun r w1 => (ct = 0 ∧ r = -1 ∧ w1 = mdW a kc w n tk ct fc hd st) ∨ (0 < ct ∧ r = nI (ct - 1) ∧ w1 = mdW a kc w n tk (ct - 1) fc hd st)) := by
  refine cI_of (by decide) (Nat.le_of_ble_eq_true rfl) ?_
  intro p e s m below meth c ls S hr hlk X hA hl
  have hx := S.1
  have hb := S.2.1
  have hl : lv_has ls 1 [(0, .ref (a 0))] := hl
  refine lv_aload_n hx hb dX2_undo_0 rfl (lv_at hl 0 rfl) ?_
  refine gM_ct S X dX2_undo_1 ?_
  refine mn_if_ne (tgt := 9) hx hb (by omega) dX2_undo_4 (by decide) (fun c4 => ?_) (fun c4 => ?_)
  · skip
    refine lv_aload_n hx hb dX2_undo_9 rfl (lv_at hl 0 rfl) ?_
    refine lv_dup hx hb dX2_undo_10 rfl ?_
    refine gM_ct S X dX2_undo_11 ?_
    refine lv_iconst (v := nI 1) hx hb dX2_undo_14 (by decide) ?_
    refine mn_isub hx hb (by omega) dX2_undo_15 ?_
    refine pM_ct S X dX2_undo_16 (fun H locs X => ?_)
    refine lv_aload_n hx hb dX2_undo_19 rfl (lv_at hl 0 rfl) ?_
    refine gM_ct S X dX2_undo_20 ?_
    exact cI_ret S hr hlk X dX2_undo_23 (Or.inr ⟨by omega, rfl, rfl⟩)
  · skip
    refine lv_iconst (v := (-1)) hx hb dX2_undo_7 (by decide) ?_
    exact cI_ret S hr hlk X dX2_undo_8 (Or.inl ⟨by omega, rfl, rfl⟩)
set_option maxHeartbeats 4000000 in
theorem mM_restart (l : Launch) (D : va_G) (a : Nat → Nat) (kc : Nat → ClassId) {w n : Nat} {tk : Nat → Nat} {ct : Nat} {fc hd st : Nat → Nat} : cV l D (tyM kc) yX2_restart cX2_restart 1 (rm_ 0 0) [.ref (a 0)] (mdW a kc w n tk ct fc hd st) (fun w1 => w1 = mdW a kc w n tk 0 fc hd st) := by
  refine cV_of (by decide) (Nat.le_of_ble_eq_true rfl) ?_
  intro p e s m below meth c ls S hr hlk X hA hl
  have hx := S.1
  have hb := S.2.1
  have hl : lv_has ls 1 [(0, .ref (a 0))] := hl
  refine lv_aload_n hx hb dX2_restart_0 rfl (lv_at hl 0 rfl) ?_
  refine lv_iconst (v := nI 0) hx hb dX2_restart_1 (by decide) ?_
  refine pM_ct S X dX2_restart_2 (fun H locs X => ?_)
  exact cV_ret S hr hlk X dX2_restart_5 rfl
end
section
set_option maxRecDepth 100000
def du_ (al : Nat) (G : Nat → Nat) (lo u : Nat) : Prop := (al = 1 ∧ ∀ x, lo ≤ x → x < u → G x = 1) ∨ (al = 0 ∧ ∃ x, lo ≤ x ∧ x < u ∧ G x = 1)
theorem du_1 {G : Nat → Nat} {lo u : Nat} : du_ 1 G lo u ↔ ∀ x, lo ≤ x → x < u → G x = 1 := by
  unfold du_
  constructor
  · intro h
    rcases h with h | h
    · exact h.2
    · exact absurd h.1 (by decide)
  · intro h
    exact Or.inl ⟨rfl, h⟩
theorem du_0 {G : Nat → Nat} {lo u : Nat} : du_ 0 G lo u ↔ ∃ x, lo ≤ x ∧ x < u ∧ G x = 1 := by
  unfold du_
  constructor
  · intro h
    rcases h with h | h
    · exact absurd h.1 (by decide)
    · exact h.2
  · intro h
    exact Or.inr ⟨rfl, h⟩
theorem du_start {al : Nat} {G : Nat → Nat} {lo : Nat} (h : al < 2) : al = 1 ↔ du_ al G lo lo := by
  rcases Nat.lt_or_ge al 1 with q | q
  · have e : al = 0 := by omega
    subst e
    rw [du_0]
    exact ⟨fun z => absurd z (by decide), fun ⟨x, x1, x2, _⟩ => absurd x2 (by omega)⟩
  · have e : al = 1 := by omega
    subst e
    rw [du_1]
    exact ⟨fun _ x x1 x2 => absurd x2 (by omega), fun _ => rfl⟩
theorem du_s1 {G : Nat → Nat} {lo u f g : Nat} (hlo : lo ≤ u) (h : f = 1 ↔ du_ 1 G lo u) (hg : g = 1 ↔ (f = 1 ∧ G u = 1)) : g = 1 ↔ du_ 1 G lo (u + 1) := by
  rw [hg, h, du_1, du_1]
  constructor
  · intro ⟨z1, z2⟩ x x1 x2
    rcases Nat.lt_or_ge x u with q | q
    · exact z1 x x1 q
    · have e : x = u := by omega
      rw [e]
      exact z2
  · intro z
    exact ⟨fun x x1 x2 => z x x1 (by omega), z u hlo (by omega)⟩
theorem du_s0 {G : Nat → Nat} {lo u f g : Nat} (hlo : lo ≤ u) (h : f = 1 ↔ du_ 0 G lo u) (hg : g = 1 ↔ (f = 1 ∨ G u = 1)) : g = 1 ↔ du_ 0 G lo (u + 1) := by
  rw [hg, h, du_0, du_0]
  constructor
  · intro z
    rcases z with ⟨x, x1, x2, x3⟩ | z
    · exact ⟨x, x1, by omega, x3⟩
    · exact ⟨u, hlo, by omega, z⟩
  · intro ⟨x, x1, x2, x3⟩
    rcases Nat.lt_or_ge x u with q | q
    · exact Or.inl ⟨x, x1, q, x3⟩
    · have e : x = u := by omega
      rw [e] at x3
      exact Or.inr x3
section DUR
variable {p : Program} {l : Launch} {e : Env} {R : Room} {s : State} {m : MethodId} {args : Array Value} {below : List Frame} {meth : Method} {c : Code} {Q : State → Prop} {D : va_G} {A : Nat → Prop} {a : Nat → Nat} {kc : Nat → ClassId}
set_option maxHeartbeats 4000000 in
theorem lpM_during1 {w n : Nat} {tk : Nat → Nat} {ct : Nat} {fc hd st : Nat → Nat} {g t lo : Nat} (hg : g < 14) (ht : t ≤ 200) (hh : ∀ j, j < 2814 → hd j < 2) (S : CallFix p m c cX2_during 7 s args lw_all RX2)
    (K : ∀ (f : Nat) (H : Heap) (locs : List Loc) (ls : Array Slot), f < 2 → (f = 1 ↔ du_ 1 (fun x => hd (201 * g + x)) lo (t + 1)) → wX D (tyM kc) A s H locs (mdW a kc w n tk ct fc hd st) → lv_has ls 7 [(5, .int (nI f))] → W p l e R s m args below meth c H locs 0 0 Q (F0 m 89 ls [])) :
    ∀ (d u f : Nat) (H : Heap) (locs : List Loc) (ls : Array Slot), t + 1 - u < d → u ≤ t + 1 → lo ≤ u → f < 2 → (f = 1 ↔ du_ 1 (fun x => hd (201 * g + x)) lo u) → wX D (tyM kc) A s H locs (mdW a kc w n tk ct fc hd st) → lv_has ls 7 [(6, .int (nI u)), (5, .int (nI f)), (0, .ref (a 0)), (1, .int (nI g)), (3, .int (nI t)), (4, .int (nI 1))] → W p l e R s m args below meth c H locs 0 0 Q (F0 m 15 ls []) := by
  have hx := S.1
  have hb := S.2.1
  intro d
  induction d with
  | zero =>
    intro u f H locs ls hd_
    omega
  | succ d ih =>
    intro u f H locs ls hd_ hu hlo hf2 hf X hl
    refine lv_iload hx hb dX2_during_15 (lv_at hl 0 rfl) ?_
    refine lv_iload_n hx hb dX2_during_17 rfl (lv_at hl 4 rfl) ?_
    refine mn_icmp_gt (tgt := 89) hx hb (by omega) (by omega) dX2_during_18 (by decide) (fun c18 => ?_) (fun c18 => ?_)
    · skip
      have e0 : u = t + 1 := by omega
      subst e0
      exact K f H locs ls hf2 hf X (lv_sub hl [1] rfl)
    · skip
      refine lv_iload hx hb dX2_during_21 (lv_at hl 5 rfl) ?_
      refine mn_if_eq (tgt := 55) hx hb (by omega) dX2_during_23 (by decide) (fun c23 => absurd c23 (by omega)) (fun c23 => ?_)
      refine lv_iload hx hb dX2_during_26 (lv_at hl 1 rfl) ?_
      refine mn_if_eq (tgt := 51) hx hb (by omega) dX2_during_28 (by decide) (fun c28 => ?_) (fun c28 => ?_)
      · skip
        refine lv_iconst (v := nI 0) hx hb dX2_during_51 (by decide) ?_
        refine lv_goto (tgt := 81) hx hb dX2_during_52 (by decide) ?_
        refine lv_istore (lv' := [(5, .int (nI 0)), (6, .int (nI u)), (0, .ref (a 0)), (1, .int (nI g)), (3, .int (nI t)), (4, .int (nI 1))]) hx hb dX2_during_81 hl (by decide) rfl (fun ls hl => ?_)
        refine lv_iinc (v := nI (u + 1)) (lv' := [(6, .int (nI (u + 1))), (5, .int (nI 0)), (0, .ref (a 0)), (1, .int (nI g)), (3, .int (nI t)), (4, .int (nI 1))]) hx hb dX2_during_83 hl (k := 1) rfl (nI_1 u) (by decide) rfl (fun ls hl => ?_)
        refine lv_goto (tgt := 15) hx hb dX2_during_86 (by decide) ?_
        exact ih (u + 1) _ _ _ _ (by omega) (by omega) (by omega) (by omega) (du_s1 (by omega) hf (by constructor <;> intro z <;> omega)) X (lv_sub hl [0, 1, 2, 3, 4, 5] rfl)
      · skip
        refine lv_aload_n hx hb dX2_during_31 rfl (lv_at hl 2 rfl) ?_
        refine gM_hd S X dX2_during_32 ?_
        refine lv_sipush (v := nI 201) hx hb dX2_during_35 (by decide) ?_
        refine lv_iload_n hx hb dX2_during_38 rfl (lv_at hl 3 rfl) ?_
        refine mn_imul hx hb dX2_during_39 ?_
        refine lv_iload hx hb dX2_during_40 (lv_at hl 0 rfl) ?_
        refine mn_iadd hx hb dX2_during_42 ?_
        refine lM_hd S X (by omega) dX2_during_43 ?_
        have hG := hh (201 * g + u) (by omega)
        refine mn_if_eq (tgt := 51) hx hb (by omega) dX2_during_44 (by decide) (fun c44 => ?_) (fun c44 => ?_)
        · skip
          refine lv_iconst (v := nI 0) hx hb dX2_during_51 (by decide) ?_
          refine lv_goto (tgt := 81) hx hb dX2_during_52 (by decide) ?_
          refine lv_istore (lv' := [(5, .int (nI 0)), (6, .int (nI u)), (0, .ref (a 0)), (1, .int (nI g)), (3, .int (nI t)), (4, .int (nI 1))]) hx hb dX2_during_81 hl (by decide) rfl (fun ls hl => ?_)
          refine lv_iinc (v := nI (u + 1)) (lv' := [(6, .int (nI (u + 1))), (5, .int (nI 0)), (0, .ref (a 0)), (1, .int (nI g)), (3, .int (nI t)), (4, .int (nI 1))]) hx hb dX2_during_83 hl (k := 1) rfl (nI_1 u) (by decide) rfl (fun ls hl => ?_)
          refine lv_goto (tgt := 15) hx hb dX2_during_86 (by decide) ?_
          exact ih (u + 1) _ _ _ _ (by omega) (by omega) (by omega) (by omega) (du_s1 (by omega) hf (by constructor <;> intro z <;> omega)) X (lv_sub hl [0, 1, 2, 3, 4, 5] rfl)
        · skip
          refine lv_iconst (v := nI 1) hx hb dX2_during_47 (by decide) ?_
          refine lv_goto (tgt := 81) hx hb dX2_during_48 (by decide) ?_
          refine lv_istore (lv' := [(5, .int (nI 1)), (6, .int (nI u)), (0, .ref (a 0)), (1, .int (nI g)), (3, .int (nI t)), (4, .int (nI 1))]) hx hb dX2_during_81 hl (by decide) rfl (fun ls hl => ?_)
          refine lv_iinc (v := nI (u + 1)) (lv' := [(6, .int (nI (u + 1))), (5, .int (nI 1)), (0, .ref (a 0)), (1, .int (nI g)), (3, .int (nI t)), (4, .int (nI 1))]) hx hb dX2_during_83 hl (k := 1) rfl (nI_1 u) (by decide) rfl (fun ls hl => ?_)
          refine lv_goto (tgt := 15) hx hb dX2_during_86 (by decide) ?_
          exact ih (u + 1) _ _ _ _ (by omega) (by omega) (by omega) (by omega) (du_s1 (by omega) hf (by constructor <;> intro z <;> omega)) X (lv_sub hl [0, 1, 2, 3, 4, 5] rfl)
set_option maxHeartbeats 4000000 in
theorem lpM_during0 {w n : Nat} {tk : Nat → Nat} {ct : Nat} {fc hd st : Nat → Nat} {g t lo : Nat} (hg : g < 14) (ht : t ≤ 200) (hh : ∀ j, j < 2814 → hd j < 2) (S : CallFix p m c cX2_during 7 s args lw_all RX2)
    (K : ∀ (f : Nat) (H : Heap) (locs : List Loc) (ls : Array Slot), f < 2 → (f = 1 ↔ du_ 0 (fun x => hd (201 * g + x)) lo (t + 1)) → wX D (tyM kc) A s H locs (mdW a kc w n tk ct fc hd st) → lv_has ls 7 [(5, .int (nI f))] → W p l e R s m args below meth c H locs 0 0 Q (F0 m 89 ls [])) :
    ∀ (d u f : Nat) (H : Heap) (locs : List Loc) (ls : Array Slot), t + 1 - u < d → u ≤ t + 1 → lo ≤ u → f < 2 → (f = 1 ↔ du_ 0 (fun x => hd (201 * g + x)) lo u) → wX D (tyM kc) A s H locs (mdW a kc w n tk ct fc hd st) → lv_has ls 7 [(6, .int (nI u)), (5, .int (nI f)), (0, .ref (a 0)), (1, .int (nI g)), (3, .int (nI t)), (4, .int (nI 0))] → W p l e R s m args below meth c H locs 0 0 Q (F0 m 15 ls []) := by
  have hx := S.1
  have hb := S.2.1
  intro d
  induction d with
  | zero =>
    intro u f H locs ls hd_
    omega
  | succ d ih =>
    intro u f H locs ls hd_ hu hlo hf2 hf X hl
    refine lv_iload hx hb dX2_during_15 (lv_at hl 0 rfl) ?_
    refine lv_iload_n hx hb dX2_during_17 rfl (lv_at hl 4 rfl) ?_
    refine mn_icmp_gt (tgt := 89) hx hb (by omega) (by omega) dX2_during_18 (by decide) (fun c18 => ?_) (fun c18 => ?_)
    · skip
      have e0 : u = t + 1 := by omega
      subst e0
      exact K f H locs ls hf2 hf X (lv_sub hl [1] rfl)
    · skip
      refine lv_iload hx hb dX2_during_21 (lv_at hl 5 rfl) ?_
      refine mn_if_eq (tgt := 55) hx hb (by omega) dX2_during_23 (by decide) (fun c23 => ?_) (fun c23 => absurd c23 (by omega))
      refine lv_iload hx hb dX2_during_55 (lv_at hl 1 rfl) ?_
      refine mn_if_ne (tgt := 76) hx hb (by omega) dX2_during_57 (by decide) (fun c57 => ?_) (fun c57 => ?_)
      · skip
        refine lv_iconst (v := nI 1) hx hb dX2_during_76 (by decide) ?_
        refine lv_goto (tgt := 81) hx hb dX2_during_77 (by decide) ?_
        refine lv_istore (lv' := [(5, .int (nI 1)), (6, .int (nI u)), (0, .ref (a 0)), (1, .int (nI g)), (3, .int (nI t)), (4, .int (nI 0))]) hx hb dX2_during_81 hl (by decide) rfl (fun ls hl => ?_)
        refine lv_iinc (v := nI (u + 1)) (lv' := [(6, .int (nI (u + 1))), (5, .int (nI 1)), (0, .ref (a 0)), (1, .int (nI g)), (3, .int (nI t)), (4, .int (nI 0))]) hx hb dX2_during_83 hl (k := 1) rfl (nI_1 u) (by decide) rfl (fun ls hl => ?_)
        refine lv_goto (tgt := 15) hx hb dX2_during_86 (by decide) ?_
        exact ih (u + 1) _ _ _ _ (by omega) (by omega) (by omega) (by omega) (du_s0 (by omega) hf (by constructor <;> intro z <;> omega)) X (lv_sub hl [0, 1, 2, 3, 4, 5] rfl)
      · skip
        refine lv_aload_n hx hb dX2_during_60 rfl (lv_at hl 2 rfl) ?_
        refine gM_hd S X dX2_during_61 ?_
        refine lv_sipush (v := nI 201) hx hb dX2_during_64 (by decide) ?_
        refine lv_iload_n hx hb dX2_during_67 rfl (lv_at hl 3 rfl) ?_
        refine mn_imul hx hb dX2_during_68 ?_
        refine lv_iload hx hb dX2_during_69 (lv_at hl 0 rfl) ?_
        refine mn_iadd hx hb dX2_during_71 ?_
        refine lM_hd S X (by omega) dX2_during_72 ?_
        have hG := hh (201 * g + u) (by omega)
        refine mn_if_eq (tgt := 80) hx hb (by omega) dX2_during_73 (by decide) (fun c73 => ?_) (fun c73 => ?_)
        · skip
          refine lv_iconst (v := nI 0) hx hb dX2_during_80 (by decide) ?_
          refine lv_istore (lv' := [(5, .int (nI 0)), (6, .int (nI u)), (0, .ref (a 0)), (1, .int (nI g)), (3, .int (nI t)), (4, .int (nI 0))]) hx hb dX2_during_81 hl (by decide) rfl (fun ls hl => ?_)
          refine lv_iinc (v := nI (u + 1)) (lv' := [(6, .int (nI (u + 1))), (5, .int (nI 0)), (0, .ref (a 0)), (1, .int (nI g)), (3, .int (nI t)), (4, .int (nI 0))]) hx hb dX2_during_83 hl (k := 1) rfl (nI_1 u) (by decide) rfl (fun ls hl => ?_)
          refine lv_goto (tgt := 15) hx hb dX2_during_86 (by decide) ?_
          exact ih (u + 1) _ _ _ _ (by omega) (by omega) (by omega) (by omega) (du_s0 (by omega) hf (by constructor <;> intro z <;> omega)) X (lv_sub hl [0, 1, 2, 3, 4, 5] rfl)
        · skip
          refine lv_iconst (v := nI 1) hx hb dX2_during_76 (by decide) ?_
          refine lv_goto (tgt := 81) hx hb dX2_during_77 (by decide) ?_
          refine lv_istore (lv' := [(5, .int (nI 1)), (6, .int (nI u)), (0, .ref (a 0)), (1, .int (nI g)), (3, .int (nI t)), (4, .int (nI 0))]) hx hb dX2_during_81 hl (by decide) rfl (fun ls hl => ?_)
          refine lv_iinc (v := nI (u + 1)) (lv' := [(6, .int (nI (u + 1))), (5, .int (nI 1)), (0, .ref (a 0)), (1, .int (nI g)), (3, .int (nI t)), (4, .int (nI 0))]) hx hb dX2_during_83 hl (k := 1) rfl (nI_1 u) (by decide) rfl (fun ls hl => ?_)
          refine lv_goto (tgt := 15) hx hb dX2_during_86 (by decide) ?_
          exact ih (u + 1) _ _ _ _ (by omega) (by omega) (by omega) (by omega) (du_s0 (by omega) hf (by constructor <;> intro z <;> omega)) X (lv_sub hl [0, 1, 2, 3, 4, 5] rfl)
end DUR
set_option maxHeartbeats 4000000 in
theorem mM_during1 (l : Launch) (D : va_G) (a : Nat → Nat) (kc : Nat → ClassId) (v : Int32) {g t lo : Nat} {w n : Nat} {tk : Nat → Nat} {ct : Nat} {fc hd st : Nat → Nat} (hg : g < 14) (ht : t ≤ 200) (hlt : lo ≤ t + 1) (hv : (v < 0 ∧ lo = 0) ∨ (v = nI lo ∧ lo ≤ 1000)) (hh : ∀ j, j < 2814 → hd j < 2) : cI l D (tyM kc) yX2_during cX2_during 7 (some .boolean) (rm_ 0 0) [.ref (a 0), .int (nI g), .int v, .int (nI t), .int (nI 1)] (mdW a kc w n tk ct fc hd st) (fun r w1 => r = nI (fl_b (du_ 1 (fun x => hd (201 * g + x)) lo (t + 1))) ∧ w1 = mdW a kc w n tk ct fc hd st) := by
  refine cI_of (by decide) (Nat.le_of_ble_eq_true rfl) ?_
  intro p e s m below meth c ls S hr hlk X hA hl
  have hx := S.1
  have hb := S.2.1
  have hl : lv_has ls 7 [(0, .ref (a 0)), (1, .int (nI g)), (2, .int v), (3, .int (nI t)), (4, .int (nI 1))] := hl
  refine lv_iload hx hb dX2_during_0 (lv_at hl 4 rfl) ?_
  refine lv_istore (lv' := [(5, .int (nI 1)), (0, .ref (a 0)), (1, .int (nI g)), (2, .int v), (3, .int (nI t)), (4, .int (nI 1))]) hx hb dX2_during_2 hl (by decide) rfl (fun ls hl => ?_)
  refine lv_iload_n hx hb dX2_during_4 rfl (lv_at hl 3 rfl) ?_
  rcases hv with ⟨hv1, rfl⟩ | ⟨rfl, hlo⟩
  · refine lv_if_ge (tgt := 12) hx hb dX2_during_5 (by decide) (fun c5 => absurd hv1 (Int32.not_lt.mpr c5)) (fun c5 => ?_)
    refine lv_iconst (v := nI 0) hx hb dX2_during_8 (by decide) ?_
    refine lv_goto (tgt := 13) hx hb dX2_during_9 (by decide) ?_
    refine lv_istore (lv' := [(6, .int (nI 0)), (5, .int (nI 1)), (0, .ref (a 0)), (1, .int (nI g)), (2, .int v), (3, .int (nI t)), (4, .int (nI 1))]) hx hb dX2_during_13 hl (by decide) rfl (fun ls hl => ?_)
    refine lpM_during1 (lo := 0) hg ht hh S (fun f H locs ls hf2 hf X hl => ?_) (t + 2) 0 1 _ _ ls (by omega) (by omega) (by omega) (by omega) (du_start (by omega)) X (lv_sub hl [0, 1, 2, 3, 5, 6] rfl)
    refine lv_iload hx hb dX2_during_89 (lv_at hl 0 rfl) ?_
    exact cZ_ret S hr hlk X (by omega) dX2_during_91 ⟨congrArg nI (fl_b_of hf2 hf), rfl⟩
  · refine mn_if_ge (tgt := 12) hx hb (by omega) dX2_during_5 (by decide) ?_
    refine lv_iload_n hx hb dX2_during_12 rfl (lv_at hl 3 rfl) ?_
    refine lv_istore (lv' := [(6, .int (nI lo)), (5, .int (nI 1)), (0, .ref (a 0)), (1, .int (nI g)), (2, .int (nI lo)), (3, .int (nI t)), (4, .int (nI 1))]) hx hb dX2_during_13 hl (by decide) rfl (fun ls hl => ?_)
    refine lpM_during1 (lo := lo) hg ht hh S (fun f H locs ls hf2 hf X hl => ?_) (t + 2) lo 1 _ _ ls (by omega) (by omega) (by omega) (by omega) (du_start (by omega)) X (lv_sub hl [0, 1, 2, 3, 5, 6] rfl)
    refine lv_iload hx hb dX2_during_89 (lv_at hl 0 rfl) ?_
    exact cZ_ret S hr hlk X (by omega) dX2_during_91 ⟨congrArg nI (fl_b_of hf2 hf), rfl⟩
set_option maxHeartbeats 4000000 in
theorem mM_during0 (l : Launch) (D : va_G) (a : Nat → Nat) (kc : Nat → ClassId) (v : Int32) {g t lo : Nat} {w n : Nat} {tk : Nat → Nat} {ct : Nat} {fc hd st : Nat → Nat} (hg : g < 14) (ht : t ≤ 200) (hlt : lo ≤ t + 1) (hv : (v < 0 ∧ lo = 0) ∨ (v = nI lo ∧ lo ≤ 1000)) (hh : ∀ j, j < 2814 → hd j < 2) : cI l D (tyM kc) yX2_during cX2_during 7 (some .boolean) (rm_ 0 0) [.ref (a 0), .int (nI g), .int v, .int (nI t), .int (nI 0)] (mdW a kc w n tk ct fc hd st) (fun r w1 => r = nI (fl_b (du_ 0 (fun x => hd (201 * g + x)) lo (t + 1))) ∧ w1 = mdW a kc w n tk ct fc hd st) := by
  refine cI_of (by decide) (Nat.le_of_ble_eq_true rfl) ?_
  intro p e s m below meth c ls S hr hlk X hA hl
  have hx := S.1
  have hb := S.2.1
  have hl : lv_has ls 7 [(0, .ref (a 0)), (1, .int (nI g)), (2, .int v), (3, .int (nI t)), (4, .int (nI 0))] := hl
  refine lv_iload hx hb dX2_during_0 (lv_at hl 4 rfl) ?_
  refine lv_istore (lv' := [(5, .int (nI 0)), (0, .ref (a 0)), (1, .int (nI g)), (2, .int v), (3, .int (nI t)), (4, .int (nI 0))]) hx hb dX2_during_2 hl (by decide) rfl (fun ls hl => ?_)
  refine lv_iload_n hx hb dX2_during_4 rfl (lv_at hl 3 rfl) ?_
  rcases hv with ⟨hv1, rfl⟩ | ⟨rfl, hlo⟩
  · refine lv_if_ge (tgt := 12) hx hb dX2_during_5 (by decide) (fun c5 => absurd hv1 (Int32.not_lt.mpr c5)) (fun c5 => ?_)
    refine lv_iconst (v := nI 0) hx hb dX2_during_8 (by decide) ?_
    refine lv_goto (tgt := 13) hx hb dX2_during_9 (by decide) ?_
    refine lv_istore (lv' := [(6, .int (nI 0)), (5, .int (nI 0)), (0, .ref (a 0)), (1, .int (nI g)), (2, .int v), (3, .int (nI t)), (4, .int (nI 0))]) hx hb dX2_during_13 hl (by decide) rfl (fun ls hl => ?_)
    refine lpM_during0 (lo := 0) hg ht hh S (fun f H locs ls hf2 hf X hl => ?_) (t + 2) 0 0 _ _ ls (by omega) (by omega) (by omega) (by omega) (du_start (by omega)) X (lv_sub hl [0, 1, 2, 3, 5, 6] rfl)
    refine lv_iload hx hb dX2_during_89 (lv_at hl 0 rfl) ?_
    exact cZ_ret S hr hlk X (by omega) dX2_during_91 ⟨congrArg nI (fl_b_of hf2 hf), rfl⟩
  · refine mn_if_ge (tgt := 12) hx hb (by omega) dX2_during_5 (by decide) ?_
    refine lv_iload_n hx hb dX2_during_12 rfl (lv_at hl 3 rfl) ?_
    refine lv_istore (lv' := [(6, .int (nI lo)), (5, .int (nI 0)), (0, .ref (a 0)), (1, .int (nI g)), (2, .int (nI lo)), (3, .int (nI t)), (4, .int (nI 0))]) hx hb dX2_during_13 hl (by decide) rfl (fun ls hl => ?_)
    refine lpM_during0 (lo := lo) hg ht hh S (fun f H locs ls hf2 hf X hl => ?_) (t + 2) lo 0 _ _ ls (by omega) (by omega) (by omega) (by omega) (du_start (by omega)) X (lv_sub hl [0, 1, 2, 3, 5, 6] rfl)
    refine lv_iload hx hb dX2_during_89 (lv_at hl 0 rfl) ?_
    exact cZ_ret S hr hlk X (by omega) dX2_during_91 ⟨congrArg nI (fl_b_of hf2 hf), rfl⟩
def sn_ (G Hf : Nat → Nat) (t s : Nat) : Prop := ∃ x, x < s ∧ Hf x = 1 ∧ ∀ u, x < u → u ≤ t → G u = 1
theorem sn_s {G Hf : Nat → Nat} {t s f g : Nat} (h : f = 1 ↔ sn_ G Hf t s) (hg : g = 1 ↔ (f = 1 ∨ (Hf s = 1 ∧ du_ 1 G (s + 1) (t + 1)))) : g = 1 ↔ sn_ G Hf t (s + 1) := by
  rw [hg, h, du_1]
  constructor
  · intro z
    rcases z with ⟨x, x1, x2, x3⟩ | ⟨z1, z2⟩
    · exact ⟨x, by omega, x2, x3⟩
    · exact ⟨s, by omega, z1, fun u u1 u2 => z2 u (by omega) (by omega)⟩
  · intro ⟨x, x1, x2, x3⟩
    rcases Nat.lt_or_ge x s with q | q
    · exact Or.inl ⟨x, q, x2, x3⟩
    · have e : x = s := by omega
      subst e
      exact Or.inr ⟨x2, fun u u1 u2 => x3 u (by omega) (by omega)⟩
section SNC
variable {p : Program} {l : Launch} {e : Env} {R : Room} {s : State} {m : MethodId} {args : Array Value} {below : List Frame} {meth : Method} {c : Code} {Q : State → Prop} {D : va_G} {A : Nat → Prop} {a : Nat → Nat} {kc : Nat → ClassId}
set_option maxHeartbeats 4000000 in
theorem lpM_since {w n : Nat} {tk : Nat → Nat} {ct : Nat} {fc hd st : Nat → Nat} {g h t : Nat} (hg : g < 14) (hh1 : h < 14) (ht : t ≤ 200) (hh : ∀ j, j < 2814 → hd j < 2) (S : CallFix p m c cX2_since 6 s args lw_all RX2) (hA : ∀ q : Nat, s.heap.size ≤ q → A q)
    (K : ∀ (f : Nat) (H : Heap) (locs : List Loc) (ls : Array Slot), f < 2 → (f = 1 ↔ sn_ (fun x => hd (201 * g + x)) (fun x => hd (201 * h + x)) t (t + 1)) → wX D (tyM kc) A s H locs (mdW a kc w n tk ct fc hd st) → lv_has ls 6 [(4, .int (nI f))] → W p l e (rm_ 1 26) s m args below meth c H locs 0 0 Q (F0 m 60 ls [])) :
    ∀ (d s_ f : Nat) (H : Heap) (locs : List Loc) (ls : Array Slot), t + 1 - s_ < d → s_ ≤ t + 1 → f < 2 → (f = 1 ↔ sn_ (fun x => hd (201 * g + x)) (fun x => hd (201 * h + x)) t s_) → wX D (tyM kc) A s H locs (mdW a kc w n tk ct fc hd st) → lv_has ls 6 [(5, .int (nI s_)), (4, .int (nI f)), (0, .ref (a 0)), (1, .int (nI g)), (2, .int (nI h)), (3, .int (nI t))] → W p l e (rm_ 1 26) s m args below meth c H locs 0 0 Q (F0 m 6 ls []) := by
  have hx := S.1
  have hb := S.2.1
  intro d
  induction d with
  | zero =>
    intro s_ f H locs ls hd_
    omega
  | succ d ih =>
    intro s_ f H locs ls hd_ hs hf2 hf X hl
    refine lv_iload hx hb dX2_since_6 (lv_at hl 0 rfl) ?_
    refine lv_iload_n hx hb dX2_since_8 rfl (lv_at hl 5 rfl) ?_
    refine mn_icmp_gt (tgt := 60) hx hb (by omega) (by omega) dX2_since_9 (by decide) (fun c9 => ?_) (fun c9 => ?_)
    · skip
      have e0 : s_ = t + 1 := by omega
      subst e0
      exact K f H locs ls hf2 hf X (lv_sub hl [1] rfl)
    · skip
      refine lv_iload hx hb dX2_since_12 (lv_at hl 1 rfl) ?_
      refine mn_if_ne (tgt := 47) hx hb (by omega) dX2_since_14 (by decide) (fun c14 => ?_) (fun c14 => ?_)
      · skip
        refine lv_iconst (v := nI 1) hx hb dX2_since_47 (by decide) ?_
        refine lv_goto (tgt := 52) hx hb dX2_since_48 (by decide) ?_
        refine lv_istore (lv' := [(4, .int (nI 1)), (5, .int (nI s_)), (0, .ref (a 0)), (1, .int (nI g)), (2, .int (nI h)), (3, .int (nI t))]) hx hb dX2_since_52 hl (by decide) rfl (fun ls hl => ?_)
        refine lv_iinc (v := nI (s_ + 1)) (lv' := [(5, .int (nI (s_ + 1))), (4, .int (nI 1)), (0, .ref (a 0)), (1, .int (nI g)), (2, .int (nI h)), (3, .int (nI t))]) hx hb dX2_since_54 hl (k := 1) rfl (nI_1 s_) (by decide) rfl (fun ls hl => ?_)
        refine lv_goto (tgt := 6) hx hb dX2_since_57 (by decide) ?_
        exact ih (s_ + 1) _ _ _ _ (by omega) (by omega) (by omega) (sn_s hf ⟨fun _ => Or.inl (by omega), fun _ => rfl⟩) X (lv_sub hl [0, 1, 2, 3, 4, 5] rfl)
      · skip
        refine lv_aload_n hx hb dX2_since_17 rfl (lv_at hl 2 rfl) ?_
        refine gM_hd S X dX2_since_18 ?_
        refine lv_sipush (v := nI 201) hx hb dX2_since_21 (by decide) ?_
        refine lv_iload_n hx hb dX2_since_24 rfl (lv_at hl 4 rfl) ?_
        refine mn_imul hx hb dX2_since_25 ?_
        refine lv_iload hx hb dX2_since_26 (lv_at hl 0 rfl) ?_
        refine mn_iadd hx hb dX2_since_28 ?_
        refine lM_hd S X (by omega) dX2_since_29 ?_
        have hG := hh (201 * h + s_) (by omega)
        refine mn_if_eq (tgt := 51) hx hb (by omega) dX2_since_30 (by decide) (fun c30 => ?_) (fun c30 => ?_)
        · skip
          refine lv_iconst (v := nI 0) hx hb dX2_since_51 (by decide) ?_
          refine lv_istore (lv' := [(4, .int (nI 0)), (5, .int (nI s_)), (0, .ref (a 0)), (1, .int (nI g)), (2, .int (nI h)), (3, .int (nI t))]) hx hb dX2_since_52 hl (by decide) rfl (fun ls hl => ?_)
          refine lv_iinc (v := nI (s_ + 1)) (lv' := [(5, .int (nI (s_ + 1))), (4, .int (nI 0)), (0, .ref (a 0)), (1, .int (nI g)), (2, .int (nI h)), (3, .int (nI t))]) hx hb dX2_since_54 hl (k := 1) rfl (nI_1 s_) (by decide) rfl (fun ls hl => ?_)
          refine lv_goto (tgt := 6) hx hb dX2_since_57 (by decide) ?_
          exact ih (s_ + 1) _ _ _ _ (by omega) (by omega) (by omega) (sn_s hf ⟨fun q => absurd q (by decide), fun q => q.elim (fun q => by omega) (fun q => by have := q.1; omega)⟩) X (lv_sub hl [0, 1, 2, 3, 4, 5] rfl)
        · skip
          refine lv_aload_n hx hb dX2_since_33 rfl (lv_at hl 2 rfl) ?_
          refine lv_iload_n hx hb dX2_since_34 rfl (lv_at hl 3 rfl) ?_
          refine lv_iload hx hb dX2_since_35 (lv_at hl 0 rfl) ?_
          refine lv_iconst (v := nI 1) hx hb dX2_since_37 (by decide) ?_
          refine mn_iadd hx hb dX2_since_38 ?_
          refine lv_iload_n hx hb dX2_since_39 rfl (lv_at hl 5 rfl) ?_
          refine lv_iconst (v := nI 1) hx hb dX2_since_40 (by decide) ?_
          refine cI_call (n := 4) (As := [.int (nI g), .int (nI (s_ + 1)), .int (nI t), .int (nI 1)]) (rest := []) S X hA (mM_during1 l D a kc (nI (s_ + 1)) (lo := s_ + 1) hg ht (by omega) (Or.inr ⟨rfl, by omega⟩) hh) (lw_V q266 q268 qs11 q14 q269) rfl rfl (by decide +kernel) ⟨Nat.le_of_ble_eq_true rfl, Nat.le_of_ble_eq_true rfl⟩ rfl rfl hl.1 rfl rfl (Nat.le_of_ble_eq_true rfl) dX2_since_41 ⟨Nat.zero_le _, Nat.zero_le _⟩ (fun r w1 H locs hq X => ?_)
          obtain ⟨rfl, rfl⟩ := hq
          have hbl := fl_b_lt (du_ 1 (fun x => hd (201 * g + x)) (s_ + 1) (t + 1))
          have hb1 : fl_b (du_ 1 (fun x => hd (201 * g + x)) (s_ + 1) (t + 1)) = 1 ↔ _ := fl_b_1
          refine mn_if_eq (tgt := 51) hx hb (by omega) dX2_since_44 (by decide) (fun c44 => ?_) (fun c44 => ?_)
          · skip
            refine lv_iconst (v := nI 0) hx hb dX2_since_51 (by decide) ?_
            refine lv_istore (lv' := [(4, .int (nI 0)), (5, .int (nI s_)), (0, .ref (a 0)), (1, .int (nI g)), (2, .int (nI h)), (3, .int (nI t))]) hx hb dX2_since_52 hl (by decide) rfl (fun ls hl => ?_)
            refine lv_iinc (v := nI (s_ + 1)) (lv' := [(5, .int (nI (s_ + 1))), (4, .int (nI 0)), (0, .ref (a 0)), (1, .int (nI g)), (2, .int (nI h)), (3, .int (nI t))]) hx hb dX2_since_54 hl (k := 1) rfl (nI_1 s_) (by decide) rfl (fun ls hl => ?_)
            refine lv_goto (tgt := 6) hx hb dX2_since_57 (by decide) ?_
            exact ih (s_ + 1) _ _ _ _ (by omega) (by omega) (by omega) (sn_s hf ⟨fun q => absurd q (by decide), fun q => q.elim (fun q => by omega) (fun q => by have := hb1.mpr q.2; omega)⟩) X (lv_sub hl [0, 1, 2, 3, 4, 5] rfl)
          · skip
            refine lv_iconst (v := nI 1) hx hb dX2_since_47 (by decide) ?_
            refine lv_goto (tgt := 52) hx hb dX2_since_48 (by decide) ?_
            refine lv_istore (lv' := [(4, .int (nI 1)), (5, .int (nI s_)), (0, .ref (a 0)), (1, .int (nI g)), (2, .int (nI h)), (3, .int (nI t))]) hx hb dX2_since_52 hl (by decide) rfl (fun ls hl => ?_)
            refine lv_iinc (v := nI (s_ + 1)) (lv' := [(5, .int (nI (s_ + 1))), (4, .int (nI 1)), (0, .ref (a 0)), (1, .int (nI g)), (2, .int (nI h)), (3, .int (nI t))]) hx hb dX2_since_54 hl (k := 1) rfl (nI_1 s_) (by decide) rfl (fun ls hl => ?_)
            refine lv_goto (tgt := 6) hx hb dX2_since_57 (by decide) ?_
            exact ih (s_ + 1) _ _ _ _ (by omega) (by omega) (by omega) (sn_s hf ⟨fun _ => Or.inr ⟨by omega, hb1.mp (by omega)⟩, fun _ => rfl⟩) X (lv_sub hl [0, 1, 2, 3, 4, 5] rfl)
end SNC
set_option maxHeartbeats 4000000 in
theorem mM_since (l : Launch) (D : va_G) (a : Nat → Nat) (kc : Nat → ClassId) {g h t : Nat} {w n : Nat} {tk : Nat → Nat} {ct : Nat} {fc hd st : Nat → Nat} (hg : g < 14) (hh1 : h < 14) (ht : t ≤ 200) (hh : ∀ j, j < 2814 → hd j < 2) : cI l D (tyM kc) yX2_since cX2_since 6 (some .boolean) (rm_ 1 26) [.ref (a 0), .int (nI g), .int (nI h), .int (nI t)] (mdW a kc w n tk ct fc hd st) (fun r w1 => r = nI (fl_b (sn_ (fun x => hd (201 * g + x)) (fun x => hd (201 * h + x)) t (t + 1))) ∧ w1 = mdW a kc w n tk ct fc hd st) := by
  refine cI_of (by decide) (Nat.le_of_ble_eq_true rfl) ?_
  intro p e s m below meth c ls S hr hlk X hA hl
  have hx := S.1
  have hb := S.2.1
  have hl : lv_has ls 6 [(0, .ref (a 0)), (1, .int (nI g)), (2, .int (nI h)), (3, .int (nI t))] := hl
  refine lv_iconst (v := nI 0) hx hb dX2_since_0 (by decide) ?_
  refine lv_istore (lv' := [(4, .int (nI 0)), (0, .ref (a 0)), (1, .int (nI g)), (2, .int (nI h)), (3, .int (nI t))]) hx hb dX2_since_1 hl (by decide) rfl (fun ls hl => ?_)
  refine lv_iconst (v := nI 0) hx hb dX2_since_3 (by decide) ?_
  refine lv_istore (lv' := [(5, .int (nI 0)), (4, .int (nI 0)), (0, .ref (a 0)), (1, .int (nI g)), (2, .int (nI h)), (3, .int (nI t))]) hx hb dX2_since_4 hl (by decide) rfl (fun ls hl => ?_)
  refine lpM_since hg hh1 ht hh S hA (fun f H locs ls hf2 hf X hl => ?_) (t + 2) 0 0 _ _ ls (by omega) (by omega) (by omega) ⟨fun q => absurd q (by decide), fun ⟨x, x1, _⟩ => absurd x1 (by omega)⟩ X hl
  refine lv_iload hx hb dX2_since_60 (lv_at hl 0 rfl) ?_
  exact cZ_ret S hr hlk X (by omega) dX2_since_62 ⟨congrArg nI (fl_b_of hf2 hf), rfl⟩
theorem mo_sub {t w : Nat} (ht : t ≤ 200) (hw : w ≤ 12) : (nI t - nI w < 0 ∧ t - w = 0) ∨ (nI t - nI w = nI (t - w) ∧ t - w ≤ 1000) := by
  rcases Nat.lt_or_ge t w with q | q
  · exact Or.inl ⟨pk_sneg (by omega) q, by omega⟩
  · exact Or.inr ⟨pk_sub q, by omega⟩
/-- row k of the truths -/
def Rw_ (hd : Nat → Nat) (k : Nat) : Nat → Prop := fun u => hd (201 * k + u) = 1
set_option maxHeartbeats 4000000 in
theorem mM_truth (l : Launch) (D : va_G) (a : Nat → Nat) (kc : Nat → ClassId) {op g h t : Nat} {w n : Nat} {tk : Nat → Nat} {ct : Nat} {fc hd st : Nat → Nat} (hop : op ≤ 12) (hw : w ≤ 12) (hg : g < 14) (hh1 : h < 14) (ht : t ≤ 200) (hfc : fc t ≤ 15) (hh : ∀ j, j < 2814 → hd j < 2) : cI l D (tyM kc) yX2_truth cX2_truth 7 (some .boolean) (rm_ 2 51) [.ref (a 0), .int (nI op), .int (nI g), .int (nI h), .int (nI t)] (mdW a kc w n tk ct fc hd st) (fun r w1 => r = nI (fl_b (fl_Sem op w fc (Rw_ hd g) (Rw_ hd h) t)) ∧ w1 = mdW a kc w n tk ct fc hd st) := by
  refine fl_cases (P := fun op => cI l D (tyM kc) yX2_truth cX2_truth 7 (some .boolean) (rm_ 2 51) [.ref (a 0), .int (nI op), .int (nI g), .int (nI h), .int (nI t)] (mdW a kc w n tk ct fc hd st) (fun r w1 => r = nI (fl_b (fl_Sem op w fc (Rw_ hd g) (Rw_ hd h) t)) ∧ w1 = mdW a kc w n tk ct fc hd st)) op hop ?_ ?_ ?_ ?_ ?_ ?_ ?_ ?_ ?_ ?_
  · intro ho
    refine cI_of (by decide) (Nat.le_of_ble_eq_true rfl) ?_
    intro p e s m below meth c ls S hr hlk X hA hl
    have hx := S.1
    have hb := S.2.1
    have hl : lv_has ls 7 [(0, .ref (a 0)), (1, .int (nI op)), (2, .int (nI g)), (3, .int (nI h)), (4, .int (nI t))] := hl
    refine lv_iload_n hx hb dX2_truth_0 rfl (lv_at hl 1 rfl) ?_
    refine lv_iconst (v := nI 3) hx hb dX2_truth_1 (by decide) ?_
    refine mn_icmp_gt (tgt := 26) hx hb (by omega) (by omega) dX2_truth_2 (by decide) (fun c2 => absurd c2 (by omega)) (fun c2 => ?_)
    refine lv_aload_n hx hb dX2_truth_5 rfl (lv_at hl 0 rfl) ?_
    refine gM_fc S X dX2_truth_6 ?_
    refine lv_iload hx hb dX2_truth_9 (lv_at hl 4 rfl) ?_
    refine lM_fc S X (by omega) dX2_truth_11 ?_
    refine lv_iload_n hx hb dX2_truth_12 rfl (lv_at hl 1 rfl) ?_
    refine lv_ishr hx hb dX2_truth_13 ?_
    refine lv_iconst (v := nI 1) hx hb dX2_truth_14 (by decide) ?_
    refine lv_iand hx hb dX2_truth_15 ?_
    obtain ⟨bq, hbq⟩ : ∃ bq, bq = fc t / 2 ^ op % 2 := ⟨_, rfl⟩
    have hbl : bq < 2 := by rw [hbq]; exact Nat.mod_lt _ (by decide)
    refine mi_eq (y := nI bq) (by rw [hbq]; exact mo_bit _ (by omega) _ (by omega)) ?_
    refine lv_iconst (v := nI 1) hx hb dX2_truth_16 (by decide) ?_
    refine mn_icmp_ne (tgt := 24) hx hb (by omega) (by omega) dX2_truth_17 (by decide) (fun c17 => ?_) (fun c17 => ?_)
    · skip
      refine lv_iconst (v := nI 0) hx hb dX2_truth_24 (by decide) ?_
      exact cZ_ret S hr hlk X (by omega) dX2_truth_25 ⟨congrArg nI (fl_b_of (by omega) ((show 0 = 1 ↔ fc t / 2 ^ op % 2 = 1 by rw [← hbq]; omega).trans (fl_Sem_lt ho).symm)), rfl⟩
    · skip
      refine lv_iconst (v := nI 1) hx hb dX2_truth_20 (by decide) ?_
      refine lv_goto (tgt := 25) hx hb dX2_truth_21 (by decide) ?_
      exact cZ_ret S hr hlk X (by omega) dX2_truth_25 ⟨congrArg nI (fl_b_of (by omega) ((show 1 = 1 ↔ fc t / 2 ^ op % 2 = 1 by rw [← hbq]; omega).trans (fl_Sem_lt ho).symm)), rfl⟩
  · skip
    refine cI_of (by decide) (Nat.le_of_ble_eq_true rfl) ?_
    intro p e s m below meth c ls S hr hlk X hA hl
    have hx := S.1
    have hb := S.2.1
    have hl : lv_has ls 7 [(0, .ref (a 0)), (1, .int (nI 4)), (2, .int (nI g)), (3, .int (nI h)), (4, .int (nI t))] := hl
    refine lv_iload_n hx hb dX2_truth_0 rfl (lv_at hl 1 rfl) ?_
    refine lv_iconst (v := nI 3) hx hb dX2_truth_1 (by decide) ?_
    refine mn_icmp_gt (tgt := 26) hx hb (by omega) (by omega) dX2_truth_2 (by decide) (fun c2 => ?_) (fun c2 => absurd c2 (by omega))
    refine lv_aload_n hx hb dX2_truth_26 rfl (lv_at hl 0 rfl) ?_
    refine gM_hd S X dX2_truth_27 ?_
    refine lv_sipush (v := nI 201) hx hb dX2_truth_30 (by decide) ?_
    refine lv_iload_n hx hb dX2_truth_33 rfl (lv_at hl 2 rfl) ?_
    refine mn_imul hx hb dX2_truth_34 ?_
    refine lv_iload hx hb dX2_truth_35 (lv_at hl 4 rfl) ?_
    refine mn_iadd hx hb dX2_truth_37 ?_
    refine lM_hd S X (by omega) dX2_truth_38 ?_
    have hG1 := hh (201 * g + t) (by omega)
    refine lv_istore (lv' := [(5, .int (nI (hd ((201 * g) + t)))), (0, .ref (a 0)), (1, .int (nI 4)), (2, .int (nI g)), (3, .int (nI h)), (4, .int (nI t))]) hx hb dX2_truth_39 hl (by decide) rfl (fun ls hl => ?_)
    refine lv_aload_n hx hb dX2_truth_41 rfl (lv_at hl 1 rfl) ?_
    refine gM_hd S X dX2_truth_42 ?_
    refine lv_sipush (v := nI 201) hx hb dX2_truth_45 (by decide) ?_
    refine lv_iload_n hx hb dX2_truth_48 rfl (lv_at hl 4 rfl) ?_
    refine mn_imul hx hb dX2_truth_49 ?_
    refine lv_iload hx hb dX2_truth_50 (lv_at hl 5 rfl) ?_
    refine mn_iadd hx hb dX2_truth_52 ?_
    refine lM_hd S X (by omega) dX2_truth_53 ?_
    have hG2 := hh (201 * h + t) (by omega)
    refine lv_istore (lv' := [(6, .int (nI (hd ((201 * h) + t)))), (5, .int (nI (hd ((201 * g) + t)))), (0, .ref (a 0)), (1, .int (nI 4)), (2, .int (nI g)), (3, .int (nI h)), (4, .int (nI t))]) hx hb dX2_truth_54 hl (by decide) rfl (fun ls hl => ?_)
    refine lv_iload_n hx hb dX2_truth_56 rfl (lv_at hl 3 rfl) ?_
    refine lv_bipush (v := nI 6) hx hb dX2_truth_57 (by decide) ?_
    refine mn_icmp_gt (tgt := 119) hx hb (by omega) (by omega) dX2_truth_59 (by decide) (fun c59 => absurd c59 (by omega)) (fun c59 => ?_)
    refine lv_iload_n hx hb dX2_truth_62 rfl (lv_at hl 3 rfl) ?_
    refine lv_iconst (v := nI 4) hx hb dX2_truth_63 (by decide) ?_
    refine mn_icmp_ne (tgt := 80) hx hb (by omega) (by omega) dX2_truth_64 (by decide) (fun c64 => absurd c64 (by omega)) (fun c64 => ?_)
    refine lv_iload hx hb dX2_truth_67 (lv_at hl 1 rfl) ?_
    refine mn_if_ne (tgt := 76) hx hb (by omega) dX2_truth_69 (by decide) (fun c69 => ?_) (fun c69 => ?_)
    · skip
      refine lv_iconst (v := nI 0) hx hb dX2_truth_76 (by decide) ?_
      refine lv_goto (tgt := 118) hx hb dX2_truth_77 (by decide) ?_
      exact cZ_ret S hr hlk X (by omega) dX2_truth_118 ⟨congrArg nI (fl_b_f (fun q => q (show hd (201 * g + t) = 1 by omega))).symm, rfl⟩
    · skip
      refine lv_iconst (v := nI 1) hx hb dX2_truth_72 (by decide) ?_
      refine lv_goto (tgt := 118) hx hb dX2_truth_73 (by decide) ?_
      exact cZ_ret S hr hlk X (by omega) dX2_truth_118 ⟨congrArg nI (fl_b_t (fun q => absurd (show hd (201 * g + t) = 1 from q) (by omega))).symm, rfl⟩
  · skip
    refine cI_of (by decide) (Nat.le_of_ble_eq_true rfl) ?_
    intro p e s m below meth c ls S hr hlk X hA hl
    have hx := S.1
    have hb := S.2.1
    have hl : lv_has ls 7 [(0, .ref (a 0)), (1, .int (nI 5)), (2, .int (nI g)), (3, .int (nI h)), (4, .int (nI t))] := hl
    refine lv_iload_n hx hb dX2_truth_0 rfl (lv_at hl 1 rfl) ?_
    refine lv_iconst (v := nI 3) hx hb dX2_truth_1 (by decide) ?_
    refine mn_icmp_gt (tgt := 26) hx hb (by omega) (by omega) dX2_truth_2 (by decide) (fun c2 => ?_) (fun c2 => absurd c2 (by omega))
    refine lv_aload_n hx hb dX2_truth_26 rfl (lv_at hl 0 rfl) ?_
    refine gM_hd S X dX2_truth_27 ?_
    refine lv_sipush (v := nI 201) hx hb dX2_truth_30 (by decide) ?_
    refine lv_iload_n hx hb dX2_truth_33 rfl (lv_at hl 2 rfl) ?_
    refine mn_imul hx hb dX2_truth_34 ?_
    refine lv_iload hx hb dX2_truth_35 (lv_at hl 4 rfl) ?_
    refine mn_iadd hx hb dX2_truth_37 ?_
    refine lM_hd S X (by omega) dX2_truth_38 ?_
    have hG1 := hh (201 * g + t) (by omega)
    refine lv_istore (lv' := [(5, .int (nI (hd ((201 * g) + t)))), (0, .ref (a 0)), (1, .int (nI 5)), (2, .int (nI g)), (3, .int (nI h)), (4, .int (nI t))]) hx hb dX2_truth_39 hl (by decide) rfl (fun ls hl => ?_)
    refine lv_aload_n hx hb dX2_truth_41 rfl (lv_at hl 1 rfl) ?_
    refine gM_hd S X dX2_truth_42 ?_
    refine lv_sipush (v := nI 201) hx hb dX2_truth_45 (by decide) ?_
    refine lv_iload_n hx hb dX2_truth_48 rfl (lv_at hl 4 rfl) ?_
    refine mn_imul hx hb dX2_truth_49 ?_
    refine lv_iload hx hb dX2_truth_50 (lv_at hl 5 rfl) ?_
    refine mn_iadd hx hb dX2_truth_52 ?_
    refine lM_hd S X (by omega) dX2_truth_53 ?_
    have hG2 := hh (201 * h + t) (by omega)
    refine lv_istore (lv' := [(6, .int (nI (hd ((201 * h) + t)))), (5, .int (nI (hd ((201 * g) + t)))), (0, .ref (a 0)), (1, .int (nI 5)), (2, .int (nI g)), (3, .int (nI h)), (4, .int (nI t))]) hx hb dX2_truth_54 hl (by decide) rfl (fun ls hl => ?_)
    refine lv_iload_n hx hb dX2_truth_56 rfl (lv_at hl 3 rfl) ?_
    refine lv_bipush (v := nI 6) hx hb dX2_truth_57 (by decide) ?_
    refine mn_icmp_gt (tgt := 119) hx hb (by omega) (by omega) dX2_truth_59 (by decide) (fun c59 => absurd c59 (by omega)) (fun c59 => ?_)
    refine lv_iload_n hx hb dX2_truth_62 rfl (lv_at hl 3 rfl) ?_
    refine lv_iconst (v := nI 4) hx hb dX2_truth_63 (by decide) ?_
    refine mn_icmp_ne (tgt := 80) hx hb (by omega) (by omega) dX2_truth_64 (by decide) (fun c64 => ?_) (fun c64 => absurd c64 (by omega))
    refine lv_iload_n hx hb dX2_truth_80 rfl (lv_at hl 3 rfl) ?_
    refine lv_iconst (v := nI 5) hx hb dX2_truth_81 (by decide) ?_
    refine mn_icmp_ne (tgt := 103) hx hb (by omega) (by omega) dX2_truth_82 (by decide) (fun c82 => absurd c82 (by omega)) (fun c82 => ?_)
    refine lv_iload hx hb dX2_truth_85 (lv_at hl 1 rfl) ?_
    refine mn_if_eq (tgt := 99) hx hb (by omega) dX2_truth_87 (by decide) (fun c87 => ?_) (fun c87 => ?_)
    · skip
      refine lv_iconst (v := nI 0) hx hb dX2_truth_99 (by decide) ?_
      refine lv_goto (tgt := 118) hx hb dX2_truth_100 (by decide) ?_
      exact cZ_ret S hr hlk X (by omega) dX2_truth_118 ⟨congrArg nI (fl_b_f (fun q => by have q1 : hd (201 * g + t) = 1 := q.1; have q2 : hd (201 * h + t) = 1 := q.2; omega)).symm, rfl⟩
    · skip
      refine lv_iload hx hb dX2_truth_90 (lv_at hl 0 rfl) ?_
      refine mn_if_eq (tgt := 99) hx hb (by omega) dX2_truth_92 (by decide) (fun c92 => ?_) (fun c92 => ?_)
      · skip
        refine lv_iconst (v := nI 0) hx hb dX2_truth_99 (by decide) ?_
        refine lv_goto (tgt := 118) hx hb dX2_truth_100 (by decide) ?_
        exact cZ_ret S hr hlk X (by omega) dX2_truth_118 ⟨congrArg nI (fl_b_f (fun q => by have q1 : hd (201 * g + t) = 1 := q.1; have q2 : hd (201 * h + t) = 1 := q.2; omega)).symm, rfl⟩
      · skip
        refine lv_iconst (v := nI 1) hx hb dX2_truth_95 (by decide) ?_
        refine lv_goto (tgt := 118) hx hb dX2_truth_96 (by decide) ?_
        exact cZ_ret S hr hlk X (by omega) dX2_truth_118 ⟨congrArg nI (fl_b_t ⟨show hd (201 * g + t) = 1 by omega, show hd (201 * h + t) = 1 by omega⟩).symm, rfl⟩
  · skip
    refine cI_of (by decide) (Nat.le_of_ble_eq_true rfl) ?_
    intro p e s m below meth c ls S hr hlk X hA hl
    have hx := S.1
    have hb := S.2.1
    have hl : lv_has ls 7 [(0, .ref (a 0)), (1, .int (nI 6)), (2, .int (nI g)), (3, .int (nI h)), (4, .int (nI t))] := hl
    refine lv_iload_n hx hb dX2_truth_0 rfl (lv_at hl 1 rfl) ?_
    refine lv_iconst (v := nI 3) hx hb dX2_truth_1 (by decide) ?_
    refine mn_icmp_gt (tgt := 26) hx hb (by omega) (by omega) dX2_truth_2 (by decide) (fun c2 => ?_) (fun c2 => absurd c2 (by omega))
    refine lv_aload_n hx hb dX2_truth_26 rfl (lv_at hl 0 rfl) ?_
    refine gM_hd S X dX2_truth_27 ?_
    refine lv_sipush (v := nI 201) hx hb dX2_truth_30 (by decide) ?_
    refine lv_iload_n hx hb dX2_truth_33 rfl (lv_at hl 2 rfl) ?_
    refine mn_imul hx hb dX2_truth_34 ?_
    refine lv_iload hx hb dX2_truth_35 (lv_at hl 4 rfl) ?_
    refine mn_iadd hx hb dX2_truth_37 ?_
    refine lM_hd S X (by omega) dX2_truth_38 ?_
    have hG1 := hh (201 * g + t) (by omega)
    refine lv_istore (lv' := [(5, .int (nI (hd ((201 * g) + t)))), (0, .ref (a 0)), (1, .int (nI 6)), (2, .int (nI g)), (3, .int (nI h)), (4, .int (nI t))]) hx hb dX2_truth_39 hl (by decide) rfl (fun ls hl => ?_)
    refine lv_aload_n hx hb dX2_truth_41 rfl (lv_at hl 1 rfl) ?_
    refine gM_hd S X dX2_truth_42 ?_
    refine lv_sipush (v := nI 201) hx hb dX2_truth_45 (by decide) ?_
    refine lv_iload_n hx hb dX2_truth_48 rfl (lv_at hl 4 rfl) ?_
    refine mn_imul hx hb dX2_truth_49 ?_
    refine lv_iload hx hb dX2_truth_50 (lv_at hl 5 rfl) ?_
    refine mn_iadd hx hb dX2_truth_52 ?_
    refine lM_hd S X (by omega) dX2_truth_53 ?_
    have hG2 := hh (201 * h + t) (by omega)
    refine lv_istore (lv' := [(6, .int (nI (hd ((201 * h) + t)))), (5, .int (nI (hd ((201 * g) + t)))), (0, .ref (a 0)), (1, .int (nI 6)), (2, .int (nI g)), (3, .int (nI h)), (4, .int (nI t))]) hx hb dX2_truth_54 hl (by decide) rfl (fun ls hl => ?_)
    refine lv_iload_n hx hb dX2_truth_56 rfl (lv_at hl 3 rfl) ?_
    refine lv_bipush (v := nI 6) hx hb dX2_truth_57 (by decide) ?_
    refine mn_icmp_gt (tgt := 119) hx hb (by omega) (by omega) dX2_truth_59 (by decide) (fun c59 => absurd c59 (by omega)) (fun c59 => ?_)
    refine lv_iload_n hx hb dX2_truth_62 rfl (lv_at hl 3 rfl) ?_
    refine lv_iconst (v := nI 4) hx hb dX2_truth_63 (by decide) ?_
    refine mn_icmp_ne (tgt := 80) hx hb (by omega) (by omega) dX2_truth_64 (by decide) (fun c64 => ?_) (fun c64 => absurd c64 (by omega))
    refine lv_iload_n hx hb dX2_truth_80 rfl (lv_at hl 3 rfl) ?_
    refine lv_iconst (v := nI 5) hx hb dX2_truth_81 (by decide) ?_
    refine mn_icmp_ne (tgt := 103) hx hb (by omega) (by omega) dX2_truth_82 (by decide) (fun c82 => ?_) (fun c82 => absurd c82 (by omega))
    refine lv_iload hx hb dX2_truth_103 (lv_at hl 1 rfl) ?_
    refine mn_if_ne (tgt := 113) hx hb (by omega) dX2_truth_105 (by decide) (fun c105 => ?_) (fun c105 => ?_)
    · skip
      refine lv_iconst (v := nI 1) hx hb dX2_truth_113 (by decide) ?_
      refine lv_goto (tgt := 118) hx hb dX2_truth_114 (by decide) ?_
      exact cZ_ret S hr hlk X (by omega) dX2_truth_118 ⟨congrArg nI (fl_b_t (Or.inl (show hd (201 * g + t) = 1 by omega))).symm, rfl⟩
    · skip
      refine lv_iload hx hb dX2_truth_108 (lv_at hl 0 rfl) ?_
      refine mn_if_eq (tgt := 117) hx hb (by omega) dX2_truth_110 (by decide) (fun c110 => ?_) (fun c110 => ?_)
      · skip
        refine lv_iconst (v := nI 0) hx hb dX2_truth_117 (by decide) ?_
        exact cZ_ret S hr hlk X (by omega) dX2_truth_118 ⟨congrArg nI (fl_b_f (fun q => Or.elim q (fun q => by have q1 : hd (201 * g + t) = 1 := q; omega) (fun q => by have q1 : hd (201 * h + t) = 1 := q; omega))).symm, rfl⟩
      · skip
        refine lv_iconst (v := nI 1) hx hb dX2_truth_113 (by decide) ?_
        refine lv_goto (tgt := 118) hx hb dX2_truth_114 (by decide) ?_
        exact cZ_ret S hr hlk X (by omega) dX2_truth_118 ⟨congrArg nI (fl_b_t (Or.inr (show hd (201 * h + t) = 1 by omega))).symm, rfl⟩
  · skip
    refine cI_of (by decide) (Nat.le_of_ble_eq_true rfl) ?_
    intro p e s m below meth c ls S hr hlk X hA hl
    have hx := S.1
    have hb := S.2.1
    have hl : lv_has ls 7 [(0, .ref (a 0)), (1, .int (nI 7)), (2, .int (nI g)), (3, .int (nI h)), (4, .int (nI t))] := hl
    refine lv_iload_n hx hb dX2_truth_0 rfl (lv_at hl 1 rfl) ?_
    refine lv_iconst (v := nI 3) hx hb dX2_truth_1 (by decide) ?_
    refine mn_icmp_gt (tgt := 26) hx hb (by omega) (by omega) dX2_truth_2 (by decide) (fun c2 => ?_) (fun c2 => absurd c2 (by omega))
    refine lv_aload_n hx hb dX2_truth_26 rfl (lv_at hl 0 rfl) ?_
    refine gM_hd S X dX2_truth_27 ?_
    refine lv_sipush (v := nI 201) hx hb dX2_truth_30 (by decide) ?_
    refine lv_iload_n hx hb dX2_truth_33 rfl (lv_at hl 2 rfl) ?_
    refine mn_imul hx hb dX2_truth_34 ?_
    refine lv_iload hx hb dX2_truth_35 (lv_at hl 4 rfl) ?_
    refine mn_iadd hx hb dX2_truth_37 ?_
    refine lM_hd S X (by omega) dX2_truth_38 ?_
    have hG1 := hh (201 * g + t) (by omega)
    refine lv_istore (lv' := [(5, .int (nI (hd ((201 * g) + t)))), (0, .ref (a 0)), (1, .int (nI 7)), (2, .int (nI g)), (3, .int (nI h)), (4, .int (nI t))]) hx hb dX2_truth_39 hl (by decide) rfl (fun ls hl => ?_)
    refine lv_aload_n hx hb dX2_truth_41 rfl (lv_at hl 1 rfl) ?_
    refine gM_hd S X dX2_truth_42 ?_
    refine lv_sipush (v := nI 201) hx hb dX2_truth_45 (by decide) ?_
    refine lv_iload_n hx hb dX2_truth_48 rfl (lv_at hl 4 rfl) ?_
    refine mn_imul hx hb dX2_truth_49 ?_
    refine lv_iload hx hb dX2_truth_50 (lv_at hl 5 rfl) ?_
    refine mn_iadd hx hb dX2_truth_52 ?_
    refine lM_hd S X (by omega) dX2_truth_53 ?_
    have hG2 := hh (201 * h + t) (by omega)
    refine lv_istore (lv' := [(6, .int (nI (hd ((201 * h) + t)))), (5, .int (nI (hd ((201 * g) + t)))), (0, .ref (a 0)), (1, .int (nI 7)), (2, .int (nI g)), (3, .int (nI h)), (4, .int (nI t))]) hx hb dX2_truth_54 hl (by decide) rfl (fun ls hl => ?_)
    refine lv_iload_n hx hb dX2_truth_56 rfl (lv_at hl 3 rfl) ?_
    refine lv_bipush (v := nI 6) hx hb dX2_truth_57 (by decide) ?_
    refine mn_icmp_gt (tgt := 119) hx hb (by omega) (by omega) dX2_truth_59 (by decide) (fun c59 => ?_) (fun c59 => absurd c59 (by omega))
    refine lv_iload_n hx hb dX2_truth_119 rfl (lv_at hl 3 rfl) ?_
    refine lv_bipush (v := nI 7) hx hb dX2_truth_120 (by decide) ?_
    refine mn_icmp_ne (tgt := 154) hx hb (by omega) (by omega) dX2_truth_122 (by decide) (fun c122 => absurd c122 (by omega)) (fun c122 => ?_)
    refine lv_iload hx hb dX2_truth_125 (lv_at hl 6 rfl) ?_
    refine mn_if_le (tgt := 152) hx hb (by omega) dX2_truth_127 (by decide) (fun c127 => ?_) (fun c127 => ?_)
    · skip
      refine lv_iconst (v := nI 0) hx hb dX2_truth_152 (by decide) ?_
      exact cZ_ret S hr hlk X (by omega) dX2_truth_153 ⟨congrArg nI (fl_b_f (fun q => by have q1 := q.1; have q2 : hd (201 * g + (t - 1)) = 1 := q.2; rw [show 201 * g + (t - 1) = 201 * g + t - 1 by omega] at q2; omega)).symm, rfl⟩
    · skip
      refine lv_aload_n hx hb dX2_truth_130 rfl (lv_at hl 2 rfl) ?_
      refine gM_hd S X dX2_truth_131 ?_
      refine lv_sipush (v := nI 201) hx hb dX2_truth_134 (by decide) ?_
      refine lv_iload_n hx hb dX2_truth_137 rfl (lv_at hl 4 rfl) ?_
      refine mn_imul hx hb dX2_truth_138 ?_
      refine lv_iload hx hb dX2_truth_139 (lv_at hl 6 rfl) ?_
      refine mn_iadd hx hb dX2_truth_141 ?_
      refine lv_iconst (v := nI 1) hx hb dX2_truth_142 (by decide) ?_
      refine mn_isub hx hb (by omega) dX2_truth_143 ?_
      refine lM_hd S X (by omega) dX2_truth_144 ?_
      have hG3 := hh (201 * g + t - 1) (by omega)
      refine mn_if_eq (tgt := 152) hx hb (by omega) dX2_truth_145 (by decide) (fun c145 => ?_) (fun c145 => ?_)
      · skip
        refine lv_iconst (v := nI 0) hx hb dX2_truth_152 (by decide) ?_
        exact cZ_ret S hr hlk X (by omega) dX2_truth_153 ⟨congrArg nI (fl_b_f (fun q => by have q1 := q.1; have q2 : hd (201 * g + (t - 1)) = 1 := q.2; rw [show 201 * g + (t - 1) = 201 * g + t - 1 by omega] at q2; omega)).symm, rfl⟩
      · skip
        refine lv_iconst (v := nI 1) hx hb dX2_truth_148 (by decide) ?_
        refine lv_goto (tgt := 153) hx hb dX2_truth_149 (by decide) ?_
        exact cZ_ret S hr hlk X (by omega) dX2_truth_153 ⟨congrArg nI (fl_b_t ⟨by omega, show hd (201 * g + (t - 1)) = 1 by rw [show 201 * g + (t - 1) = 201 * g + t - 1 by omega]; omega⟩).symm, rfl⟩
  · skip
    refine cI_of (by decide) (Nat.le_of_ble_eq_true rfl) ?_
    intro p e s m below meth c ls S hr hlk X hA hl
    have hx := S.1
    have hb := S.2.1
    have hl : lv_has ls 7 [(0, .ref (a 0)), (1, .int (nI 8)), (2, .int (nI g)), (3, .int (nI h)), (4, .int (nI t))] := hl
    refine lv_iload_n hx hb dX2_truth_0 rfl (lv_at hl 1 rfl) ?_
    refine lv_iconst (v := nI 3) hx hb dX2_truth_1 (by decide) ?_
    refine mn_icmp_gt (tgt := 26) hx hb (by omega) (by omega) dX2_truth_2 (by decide) (fun c2 => ?_) (fun c2 => absurd c2 (by omega))
    refine lv_aload_n hx hb dX2_truth_26 rfl (lv_at hl 0 rfl) ?_
    refine gM_hd S X dX2_truth_27 ?_
    refine lv_sipush (v := nI 201) hx hb dX2_truth_30 (by decide) ?_
    refine lv_iload_n hx hb dX2_truth_33 rfl (lv_at hl 2 rfl) ?_
    refine mn_imul hx hb dX2_truth_34 ?_
    refine lv_iload hx hb dX2_truth_35 (lv_at hl 4 rfl) ?_
    refine mn_iadd hx hb dX2_truth_37 ?_
    refine lM_hd S X (by omega) dX2_truth_38 ?_
    have hG1 := hh (201 * g + t) (by omega)
    refine lv_istore (lv' := [(5, .int (nI (hd ((201 * g) + t)))), (0, .ref (a 0)), (1, .int (nI 8)), (2, .int (nI g)), (3, .int (nI h)), (4, .int (nI t))]) hx hb dX2_truth_39 hl (by decide) rfl (fun ls hl => ?_)
    refine lv_aload_n hx hb dX2_truth_41 rfl (lv_at hl 1 rfl) ?_
    refine gM_hd S X dX2_truth_42 ?_
    refine lv_sipush (v := nI 201) hx hb dX2_truth_45 (by decide) ?_
    refine lv_iload_n hx hb dX2_truth_48 rfl (lv_at hl 4 rfl) ?_
    refine mn_imul hx hb dX2_truth_49 ?_
    refine lv_iload hx hb dX2_truth_50 (lv_at hl 5 rfl) ?_
    refine mn_iadd hx hb dX2_truth_52 ?_
    refine lM_hd S X (by omega) dX2_truth_53 ?_
    have hG2 := hh (201 * h + t) (by omega)
    refine lv_istore (lv' := [(6, .int (nI (hd ((201 * h) + t)))), (5, .int (nI (hd ((201 * g) + t)))), (0, .ref (a 0)), (1, .int (nI 8)), (2, .int (nI g)), (3, .int (nI h)), (4, .int (nI t))]) hx hb dX2_truth_54 hl (by decide) rfl (fun ls hl => ?_)
    refine lv_iload_n hx hb dX2_truth_56 rfl (lv_at hl 3 rfl) ?_
    refine lv_bipush (v := nI 6) hx hb dX2_truth_57 (by decide) ?_
    refine mn_icmp_gt (tgt := 119) hx hb (by omega) (by omega) dX2_truth_59 (by decide) (fun c59 => ?_) (fun c59 => absurd c59 (by omega))
    refine lv_iload_n hx hb dX2_truth_119 rfl (lv_at hl 3 rfl) ?_
    refine lv_bipush (v := nI 7) hx hb dX2_truth_120 (by decide) ?_
    refine mn_icmp_ne (tgt := 154) hx hb (by omega) (by omega) dX2_truth_122 (by decide) (fun c122 => ?_) (fun c122 => absurd c122 (by omega))
    refine lv_iload_n hx hb dX2_truth_154 rfl (lv_at hl 3 rfl) ?_
    refine lv_bipush (v := nI 10) hx hb dX2_truth_155 (by decide) ?_
    refine mn_icmp_ne (tgt := 169) hx hb (by omega) (by omega) dX2_truth_157 (by decide) (fun c157 => ?_) (fun c157 => absurd c157 (by omega))
    refine lv_aload_n hx hb dX2_truth_169 rfl (lv_at hl 2 rfl) ?_
    refine lv_iload_n hx hb dX2_truth_170 rfl (lv_at hl 4 rfl) ?_
    refine lv_iload_n hx hb dX2_truth_171 rfl (lv_at hl 3 rfl) ?_
    refine lv_bipush (v := nI 9) hx hb dX2_truth_172 (by decide) ?_
    refine mn_icmp_gt (tgt := 181) hx hb (by omega) (by omega) dX2_truth_174 (by decide) (fun c174 => absurd c174 (by omega)) (fun c174 => ?_)
    refine lv_iconst (v := nI 0) hx hb dX2_truth_177 (by decide) ?_
    refine lv_goto (tgt := 188) hx hb dX2_truth_178 (by decide) ?_
    refine lv_iload hx hb dX2_truth_188 (lv_at hl 6 rfl) ?_
    refine lv_iload_n hx hb dX2_truth_190 rfl (lv_at hl 3 rfl) ?_
    refine lv_bipush (v := nI 9) hx hb dX2_truth_191 (by decide) ?_
    refine mn_icmp_eq (tgt := 202) hx hb (by omega) (by omega) dX2_truth_193 (by decide) (fun c193 => absurd c193 (by omega)) (fun c193 => ?_)
    refine lv_iload_n hx hb dX2_truth_196 rfl (lv_at hl 3 rfl) ?_
    refine lv_bipush (v := nI 12) hx hb dX2_truth_197 (by decide) ?_
    refine mn_icmp_ne (tgt := 206) hx hb (by omega) (by omega) dX2_truth_199 (by decide) (fun c199 => ?_) (fun c199 => absurd c199 (by omega))
    refine lv_iconst (v := nI 0) hx hb dX2_truth_206 (by decide) ?_
    refine cI_call (n := 4) (As := [.int (nI g), .int (nI 0), .int (nI t), .int (nI 0)]) (rest := []) S X hA (mM_during0 l D a kc (nI 0) (lo := 0) hg ht (by omega) (Or.inr ⟨rfl, by omega⟩) hh) (lw_V q266 q268 qs11 q14 q269) rfl rfl (by decide +kernel) ⟨Nat.le_of_ble_eq_true rfl, Nat.le_of_ble_eq_true rfl⟩ rfl rfl hl.1 rfl rfl (Nat.le_of_ble_eq_true rfl) dX2_truth_207 ⟨Nat.zero_le _, Nat.zero_le _⟩ (fun r w1 H locs hq X => ?_)
    obtain ⟨rfl, rfl⟩ := hq
    exact cZ_ret S hr hlk X (fl_b_lt _) dX2_truth_210 ⟨congrArg nI (fl_b_congr (du_0.trans ⟨fun ⟨x, x1, x2, x3⟩ => ⟨x, by omega, x3⟩, fun ⟨x, x1, x3⟩ => ⟨x, by omega, by omega, x3⟩⟩)), rfl⟩
  · skip
    refine cI_of (by decide) (Nat.le_of_ble_eq_true rfl) ?_
    intro p e s m below meth c ls S hr hlk X hA hl
    have hx := S.1
    have hb := S.2.1
    have hl : lv_has ls 7 [(0, .ref (a 0)), (1, .int (nI 9)), (2, .int (nI g)), (3, .int (nI h)), (4, .int (nI t))] := hl
    refine lv_iload_n hx hb dX2_truth_0 rfl (lv_at hl 1 rfl) ?_
    refine lv_iconst (v := nI 3) hx hb dX2_truth_1 (by decide) ?_
    refine mn_icmp_gt (tgt := 26) hx hb (by omega) (by omega) dX2_truth_2 (by decide) (fun c2 => ?_) (fun c2 => absurd c2 (by omega))
    refine lv_aload_n hx hb dX2_truth_26 rfl (lv_at hl 0 rfl) ?_
    refine gM_hd S X dX2_truth_27 ?_
    refine lv_sipush (v := nI 201) hx hb dX2_truth_30 (by decide) ?_
    refine lv_iload_n hx hb dX2_truth_33 rfl (lv_at hl 2 rfl) ?_
    refine mn_imul hx hb dX2_truth_34 ?_
    refine lv_iload hx hb dX2_truth_35 (lv_at hl 4 rfl) ?_
    refine mn_iadd hx hb dX2_truth_37 ?_
    refine lM_hd S X (by omega) dX2_truth_38 ?_
    have hG1 := hh (201 * g + t) (by omega)
    refine lv_istore (lv' := [(5, .int (nI (hd ((201 * g) + t)))), (0, .ref (a 0)), (1, .int (nI 9)), (2, .int (nI g)), (3, .int (nI h)), (4, .int (nI t))]) hx hb dX2_truth_39 hl (by decide) rfl (fun ls hl => ?_)
    refine lv_aload_n hx hb dX2_truth_41 rfl (lv_at hl 1 rfl) ?_
    refine gM_hd S X dX2_truth_42 ?_
    refine lv_sipush (v := nI 201) hx hb dX2_truth_45 (by decide) ?_
    refine lv_iload_n hx hb dX2_truth_48 rfl (lv_at hl 4 rfl) ?_
    refine mn_imul hx hb dX2_truth_49 ?_
    refine lv_iload hx hb dX2_truth_50 (lv_at hl 5 rfl) ?_
    refine mn_iadd hx hb dX2_truth_52 ?_
    refine lM_hd S X (by omega) dX2_truth_53 ?_
    have hG2 := hh (201 * h + t) (by omega)
    refine lv_istore (lv' := [(6, .int (nI (hd ((201 * h) + t)))), (5, .int (nI (hd ((201 * g) + t)))), (0, .ref (a 0)), (1, .int (nI 9)), (2, .int (nI g)), (3, .int (nI h)), (4, .int (nI t))]) hx hb dX2_truth_54 hl (by decide) rfl (fun ls hl => ?_)
    refine lv_iload_n hx hb dX2_truth_56 rfl (lv_at hl 3 rfl) ?_
    refine lv_bipush (v := nI 6) hx hb dX2_truth_57 (by decide) ?_
    refine mn_icmp_gt (tgt := 119) hx hb (by omega) (by omega) dX2_truth_59 (by decide) (fun c59 => ?_) (fun c59 => absurd c59 (by omega))
    refine lv_iload_n hx hb dX2_truth_119 rfl (lv_at hl 3 rfl) ?_
    refine lv_bipush (v := nI 7) hx hb dX2_truth_120 (by decide) ?_
    refine mn_icmp_ne (tgt := 154) hx hb (by omega) (by omega) dX2_truth_122 (by decide) (fun c122 => ?_) (fun c122 => absurd c122 (by omega))
    refine lv_iload_n hx hb dX2_truth_154 rfl (lv_at hl 3 rfl) ?_
    refine lv_bipush (v := nI 10) hx hb dX2_truth_155 (by decide) ?_
    refine mn_icmp_ne (tgt := 169) hx hb (by omega) (by omega) dX2_truth_157 (by decide) (fun c157 => ?_) (fun c157 => absurd c157 (by omega))
    refine lv_aload_n hx hb dX2_truth_169 rfl (lv_at hl 2 rfl) ?_
    refine lv_iload_n hx hb dX2_truth_170 rfl (lv_at hl 4 rfl) ?_
    refine lv_iload_n hx hb dX2_truth_171 rfl (lv_at hl 3 rfl) ?_
    refine lv_bipush (v := nI 9) hx hb dX2_truth_172 (by decide) ?_
    refine mn_icmp_gt (tgt := 181) hx hb (by omega) (by omega) dX2_truth_174 (by decide) (fun c174 => absurd c174 (by omega)) (fun c174 => ?_)
    refine lv_iconst (v := nI 0) hx hb dX2_truth_177 (by decide) ?_
    refine lv_goto (tgt := 188) hx hb dX2_truth_178 (by decide) ?_
    refine lv_iload hx hb dX2_truth_188 (lv_at hl 6 rfl) ?_
    refine lv_iload_n hx hb dX2_truth_190 rfl (lv_at hl 3 rfl) ?_
    refine lv_bipush (v := nI 9) hx hb dX2_truth_191 (by decide) ?_
    refine mn_icmp_eq (tgt := 202) hx hb (by omega) (by omega) dX2_truth_193 (by decide) (fun c193 => ?_) (fun c193 => absurd c193 (by omega))
    refine lv_iconst (v := nI 1) hx hb dX2_truth_202 (by decide) ?_
    refine lv_goto (tgt := 207) hx hb dX2_truth_203 (by decide) ?_
    refine cI_call (n := 4) (As := [.int (nI g), .int (nI 0), .int (nI t), .int (nI 1)]) (rest := []) S X hA (mM_during1 l D a kc (nI 0) (lo := 0) hg ht (by omega) (Or.inr ⟨rfl, by omega⟩) hh) (lw_V q266 q268 qs11 q14 q269) rfl rfl (by decide +kernel) ⟨Nat.le_of_ble_eq_true rfl, Nat.le_of_ble_eq_true rfl⟩ rfl rfl hl.1 rfl rfl (Nat.le_of_ble_eq_true rfl) dX2_truth_207 ⟨Nat.zero_le _, Nat.zero_le _⟩ (fun r w1 H locs hq X => ?_)
    obtain ⟨rfl, rfl⟩ := hq
    exact cZ_ret S hr hlk X (fl_b_lt _) dX2_truth_210 ⟨congrArg nI (fl_b_congr (du_1.trans ⟨fun z x x1 => z x (by omega) (by omega), fun z x x1 x2 => z x (by omega)⟩)), rfl⟩
  · skip
    refine cI_of (by decide) (Nat.le_of_ble_eq_true rfl) ?_
    intro p e s m below meth c ls S hr hlk X hA hl
    have hx := S.1
    have hb := S.2.1
    have hl : lv_has ls 7 [(0, .ref (a 0)), (1, .int (nI 10)), (2, .int (nI g)), (3, .int (nI h)), (4, .int (nI t))] := hl
    refine lv_iload_n hx hb dX2_truth_0 rfl (lv_at hl 1 rfl) ?_
    refine lv_iconst (v := nI 3) hx hb dX2_truth_1 (by decide) ?_
    refine mn_icmp_gt (tgt := 26) hx hb (by omega) (by omega) dX2_truth_2 (by decide) (fun c2 => ?_) (fun c2 => absurd c2 (by omega))
    refine lv_aload_n hx hb dX2_truth_26 rfl (lv_at hl 0 rfl) ?_
    refine gM_hd S X dX2_truth_27 ?_
    refine lv_sipush (v := nI 201) hx hb dX2_truth_30 (by decide) ?_
    refine lv_iload_n hx hb dX2_truth_33 rfl (lv_at hl 2 rfl) ?_
    refine mn_imul hx hb dX2_truth_34 ?_
    refine lv_iload hx hb dX2_truth_35 (lv_at hl 4 rfl) ?_
    refine mn_iadd hx hb dX2_truth_37 ?_
    refine lM_hd S X (by omega) dX2_truth_38 ?_
    have hG1 := hh (201 * g + t) (by omega)
    refine lv_istore (lv' := [(5, .int (nI (hd ((201 * g) + t)))), (0, .ref (a 0)), (1, .int (nI 10)), (2, .int (nI g)), (3, .int (nI h)), (4, .int (nI t))]) hx hb dX2_truth_39 hl (by decide) rfl (fun ls hl => ?_)
    refine lv_aload_n hx hb dX2_truth_41 rfl (lv_at hl 1 rfl) ?_
    refine gM_hd S X dX2_truth_42 ?_
    refine lv_sipush (v := nI 201) hx hb dX2_truth_45 (by decide) ?_
    refine lv_iload_n hx hb dX2_truth_48 rfl (lv_at hl 4 rfl) ?_
    refine mn_imul hx hb dX2_truth_49 ?_
    refine lv_iload hx hb dX2_truth_50 (lv_at hl 5 rfl) ?_
    refine mn_iadd hx hb dX2_truth_52 ?_
    refine lM_hd S X (by omega) dX2_truth_53 ?_
    have hG2 := hh (201 * h + t) (by omega)
    refine lv_istore (lv' := [(6, .int (nI (hd ((201 * h) + t)))), (5, .int (nI (hd ((201 * g) + t)))), (0, .ref (a 0)), (1, .int (nI 10)), (2, .int (nI g)), (3, .int (nI h)), (4, .int (nI t))]) hx hb dX2_truth_54 hl (by decide) rfl (fun ls hl => ?_)
    refine lv_iload_n hx hb dX2_truth_56 rfl (lv_at hl 3 rfl) ?_
    refine lv_bipush (v := nI 6) hx hb dX2_truth_57 (by decide) ?_
    refine mn_icmp_gt (tgt := 119) hx hb (by omega) (by omega) dX2_truth_59 (by decide) (fun c59 => ?_) (fun c59 => absurd c59 (by omega))
    refine lv_iload_n hx hb dX2_truth_119 rfl (lv_at hl 3 rfl) ?_
    refine lv_bipush (v := nI 7) hx hb dX2_truth_120 (by decide) ?_
    refine mn_icmp_ne (tgt := 154) hx hb (by omega) (by omega) dX2_truth_122 (by decide) (fun c122 => ?_) (fun c122 => absurd c122 (by omega))
    refine lv_iload_n hx hb dX2_truth_154 rfl (lv_at hl 3 rfl) ?_
    refine lv_bipush (v := nI 10) hx hb dX2_truth_155 (by decide) ?_
    refine mn_icmp_ne (tgt := 169) hx hb (by omega) (by omega) dX2_truth_157 (by decide) (fun c157 => absurd c157 (by omega)) (fun c157 => ?_)
    refine lv_aload_n hx hb dX2_truth_160 rfl (lv_at hl 2 rfl) ?_
    refine lv_iload_n hx hb dX2_truth_161 rfl (lv_at hl 4 rfl) ?_
    refine lv_iload_n hx hb dX2_truth_162 rfl (lv_at hl 5 rfl) ?_
    refine lv_iload hx hb dX2_truth_163 (lv_at hl 6 rfl) ?_
    refine cI_call (n := 3) (As := [.int (nI g), .int (nI h), .int (nI t)]) (rest := []) S X hA (mM_since l D a kc hg hh1 ht hh) (lw_V q262 q264 qs10 q14 q265) rfl rfl (by decide +kernel) ⟨Nat.le_of_ble_eq_true rfl, Nat.le_of_ble_eq_true rfl⟩ rfl rfl hl.1 rfl rfl (Nat.le_of_ble_eq_true rfl) dX2_truth_165 ⟨Nat.zero_le _, Nat.zero_le _⟩ (fun r w1 H locs hq X => ?_)
    obtain ⟨rfl, rfl⟩ := hq
    exact cZ_ret S hr hlk X (fl_b_lt _) dX2_truth_168 ⟨congrArg nI (fl_b_congr ⟨fun ⟨x, x1, x2, x3⟩ => ⟨x, by omega, x2, x3⟩, fun ⟨x, x1, x2, x3⟩ => ⟨x, by omega, x2, x3⟩⟩), rfl⟩
  · skip
    refine cI_of (by decide) (Nat.le_of_ble_eq_true rfl) ?_
    intro p e s m below meth c ls S hr hlk X hA hl
    have hx := S.1
    have hb := S.2.1
    have hl : lv_has ls 7 [(0, .ref (a 0)), (1, .int (nI 11)), (2, .int (nI g)), (3, .int (nI h)), (4, .int (nI t))] := hl
    refine lv_iload_n hx hb dX2_truth_0 rfl (lv_at hl 1 rfl) ?_
    refine lv_iconst (v := nI 3) hx hb dX2_truth_1 (by decide) ?_
    refine mn_icmp_gt (tgt := 26) hx hb (by omega) (by omega) dX2_truth_2 (by decide) (fun c2 => ?_) (fun c2 => absurd c2 (by omega))
    refine lv_aload_n hx hb dX2_truth_26 rfl (lv_at hl 0 rfl) ?_
    refine gM_hd S X dX2_truth_27 ?_
    refine lv_sipush (v := nI 201) hx hb dX2_truth_30 (by decide) ?_
    refine lv_iload_n hx hb dX2_truth_33 rfl (lv_at hl 2 rfl) ?_
    refine mn_imul hx hb dX2_truth_34 ?_
    refine lv_iload hx hb dX2_truth_35 (lv_at hl 4 rfl) ?_
    refine mn_iadd hx hb dX2_truth_37 ?_
    refine lM_hd S X (by omega) dX2_truth_38 ?_
    have hG1 := hh (201 * g + t) (by omega)
    refine lv_istore (lv' := [(5, .int (nI (hd ((201 * g) + t)))), (0, .ref (a 0)), (1, .int (nI 11)), (2, .int (nI g)), (3, .int (nI h)), (4, .int (nI t))]) hx hb dX2_truth_39 hl (by decide) rfl (fun ls hl => ?_)
    refine lv_aload_n hx hb dX2_truth_41 rfl (lv_at hl 1 rfl) ?_
    refine gM_hd S X dX2_truth_42 ?_
    refine lv_sipush (v := nI 201) hx hb dX2_truth_45 (by decide) ?_
    refine lv_iload_n hx hb dX2_truth_48 rfl (lv_at hl 4 rfl) ?_
    refine mn_imul hx hb dX2_truth_49 ?_
    refine lv_iload hx hb dX2_truth_50 (lv_at hl 5 rfl) ?_
    refine mn_iadd hx hb dX2_truth_52 ?_
    refine lM_hd S X (by omega) dX2_truth_53 ?_
    have hG2 := hh (201 * h + t) (by omega)
    refine lv_istore (lv' := [(6, .int (nI (hd ((201 * h) + t)))), (5, .int (nI (hd ((201 * g) + t)))), (0, .ref (a 0)), (1, .int (nI 11)), (2, .int (nI g)), (3, .int (nI h)), (4, .int (nI t))]) hx hb dX2_truth_54 hl (by decide) rfl (fun ls hl => ?_)
    refine lv_iload_n hx hb dX2_truth_56 rfl (lv_at hl 3 rfl) ?_
    refine lv_bipush (v := nI 6) hx hb dX2_truth_57 (by decide) ?_
    refine mn_icmp_gt (tgt := 119) hx hb (by omega) (by omega) dX2_truth_59 (by decide) (fun c59 => ?_) (fun c59 => absurd c59 (by omega))
    refine lv_iload_n hx hb dX2_truth_119 rfl (lv_at hl 3 rfl) ?_
    refine lv_bipush (v := nI 7) hx hb dX2_truth_120 (by decide) ?_
    refine mn_icmp_ne (tgt := 154) hx hb (by omega) (by omega) dX2_truth_122 (by decide) (fun c122 => ?_) (fun c122 => absurd c122 (by omega))
    refine lv_iload_n hx hb dX2_truth_154 rfl (lv_at hl 3 rfl) ?_
    refine lv_bipush (v := nI 10) hx hb dX2_truth_155 (by decide) ?_
    refine mn_icmp_ne (tgt := 169) hx hb (by omega) (by omega) dX2_truth_157 (by decide) (fun c157 => ?_) (fun c157 => absurd c157 (by omega))
    refine lv_aload_n hx hb dX2_truth_169 rfl (lv_at hl 2 rfl) ?_
    refine lv_iload_n hx hb dX2_truth_170 rfl (lv_at hl 4 rfl) ?_
    refine lv_iload_n hx hb dX2_truth_171 rfl (lv_at hl 3 rfl) ?_
    refine lv_bipush (v := nI 9) hx hb dX2_truth_172 (by decide) ?_
    refine mn_icmp_gt (tgt := 181) hx hb (by omega) (by omega) dX2_truth_174 (by decide) (fun c174 => ?_) (fun c174 => absurd c174 (by omega))
    refine lv_iload hx hb dX2_truth_181 (lv_at hl 6 rfl) ?_
    refine lv_aload_n hx hb dX2_truth_183 rfl (lv_at hl 2 rfl) ?_
    refine gM_w S X dX2_truth_184 ?_
    refine lv_isub hx hb dX2_truth_187 ?_
    refine lv_iload hx hb dX2_truth_188 (lv_at hl 6 rfl) ?_
    refine lv_iload_n hx hb dX2_truth_190 rfl (lv_at hl 3 rfl) ?_
    refine lv_bipush (v := nI 9) hx hb dX2_truth_191 (by decide) ?_
    refine mn_icmp_eq (tgt := 202) hx hb (by omega) (by omega) dX2_truth_193 (by decide) (fun c193 => absurd c193 (by omega)) (fun c193 => ?_)
    refine lv_iload_n hx hb dX2_truth_196 rfl (lv_at hl 3 rfl) ?_
    refine lv_bipush (v := nI 12) hx hb dX2_truth_197 (by decide) ?_
    refine mn_icmp_ne (tgt := 206) hx hb (by omega) (by omega) dX2_truth_199 (by decide) (fun c199 => ?_) (fun c199 => absurd c199 (by omega))
    refine lv_iconst (v := nI 0) hx hb dX2_truth_206 (by decide) ?_
    refine cI_call (n := 4) (As := [.int (nI g), .int ((nI t) - (nI w)), .int (nI t), .int (nI 0)]) (rest := []) S X hA (mM_during0 l D a kc (nI t - nI w) (lo := t - w) hg ht (by omega) (mo_sub ht hw) hh) (lw_V q266 q268 qs11 q14 q269) rfl rfl (by decide +kernel) ⟨Nat.le_of_ble_eq_true rfl, Nat.le_of_ble_eq_true rfl⟩ rfl rfl hl.1 rfl rfl (Nat.le_of_ble_eq_true rfl) dX2_truth_207 ⟨Nat.zero_le _, Nat.zero_le _⟩ (fun r w1 H locs hq X => ?_)
    obtain ⟨rfl, rfl⟩ := hq
    exact cZ_ret S hr hlk X (fl_b_lt _) dX2_truth_210 ⟨congrArg nI (fl_b_congr (du_0.trans ⟨fun ⟨x, x1, x2, x3⟩ => ⟨x, by omega, by omega, x3⟩, fun ⟨x, x1, x2, x3⟩ => ⟨x, by omega, by omega, x3⟩⟩)), rfl⟩
  · skip
    refine cI_of (by decide) (Nat.le_of_ble_eq_true rfl) ?_
    intro p e s m below meth c ls S hr hlk X hA hl
    have hx := S.1
    have hb := S.2.1
    have hl : lv_has ls 7 [(0, .ref (a 0)), (1, .int (nI 12)), (2, .int (nI g)), (3, .int (nI h)), (4, .int (nI t))] := hl
    refine lv_iload_n hx hb dX2_truth_0 rfl (lv_at hl 1 rfl) ?_
    refine lv_iconst (v := nI 3) hx hb dX2_truth_1 (by decide) ?_
    refine mn_icmp_gt (tgt := 26) hx hb (by omega) (by omega) dX2_truth_2 (by decide) (fun c2 => ?_) (fun c2 => absurd c2 (by omega))
    refine lv_aload_n hx hb dX2_truth_26 rfl (lv_at hl 0 rfl) ?_
    refine gM_hd S X dX2_truth_27 ?_
    refine lv_sipush (v := nI 201) hx hb dX2_truth_30 (by decide) ?_
    refine lv_iload_n hx hb dX2_truth_33 rfl (lv_at hl 2 rfl) ?_
    refine mn_imul hx hb dX2_truth_34 ?_
    refine lv_iload hx hb dX2_truth_35 (lv_at hl 4 rfl) ?_
    refine mn_iadd hx hb dX2_truth_37 ?_
    refine lM_hd S X (by omega) dX2_truth_38 ?_
    have hG1 := hh (201 * g + t) (by omega)
    refine lv_istore (lv' := [(5, .int (nI (hd ((201 * g) + t)))), (0, .ref (a 0)), (1, .int (nI 12)), (2, .int (nI g)), (3, .int (nI h)), (4, .int (nI t))]) hx hb dX2_truth_39 hl (by decide) rfl (fun ls hl => ?_)
    refine lv_aload_n hx hb dX2_truth_41 rfl (lv_at hl 1 rfl) ?_
    refine gM_hd S X dX2_truth_42 ?_
    refine lv_sipush (v := nI 201) hx hb dX2_truth_45 (by decide) ?_
    refine lv_iload_n hx hb dX2_truth_48 rfl (lv_at hl 4 rfl) ?_
    refine mn_imul hx hb dX2_truth_49 ?_
    refine lv_iload hx hb dX2_truth_50 (lv_at hl 5 rfl) ?_
    refine mn_iadd hx hb dX2_truth_52 ?_
    refine lM_hd S X (by omega) dX2_truth_53 ?_
    have hG2 := hh (201 * h + t) (by omega)
    refine lv_istore (lv' := [(6, .int (nI (hd ((201 * h) + t)))), (5, .int (nI (hd ((201 * g) + t)))), (0, .ref (a 0)), (1, .int (nI 12)), (2, .int (nI g)), (3, .int (nI h)), (4, .int (nI t))]) hx hb dX2_truth_54 hl (by decide) rfl (fun ls hl => ?_)
    refine lv_iload_n hx hb dX2_truth_56 rfl (lv_at hl 3 rfl) ?_
    refine lv_bipush (v := nI 6) hx hb dX2_truth_57 (by decide) ?_
    refine mn_icmp_gt (tgt := 119) hx hb (by omega) (by omega) dX2_truth_59 (by decide) (fun c59 => ?_) (fun c59 => absurd c59 (by omega))
    refine lv_iload_n hx hb dX2_truth_119 rfl (lv_at hl 3 rfl) ?_
    refine lv_bipush (v := nI 7) hx hb dX2_truth_120 (by decide) ?_
    refine mn_icmp_ne (tgt := 154) hx hb (by omega) (by omega) dX2_truth_122 (by decide) (fun c122 => ?_) (fun c122 => absurd c122 (by omega))
    refine lv_iload_n hx hb dX2_truth_154 rfl (lv_at hl 3 rfl) ?_
    refine lv_bipush (v := nI 10) hx hb dX2_truth_155 (by decide) ?_
    refine mn_icmp_ne (tgt := 169) hx hb (by omega) (by omega) dX2_truth_157 (by decide) (fun c157 => ?_) (fun c157 => absurd c157 (by omega))
    refine lv_aload_n hx hb dX2_truth_169 rfl (lv_at hl 2 rfl) ?_
    refine lv_iload_n hx hb dX2_truth_170 rfl (lv_at hl 4 rfl) ?_
    refine lv_iload_n hx hb dX2_truth_171 rfl (lv_at hl 3 rfl) ?_
    refine lv_bipush (v := nI 9) hx hb dX2_truth_172 (by decide) ?_
    refine mn_icmp_gt (tgt := 181) hx hb (by omega) (by omega) dX2_truth_174 (by decide) (fun c174 => ?_) (fun c174 => absurd c174 (by omega))
    refine lv_iload hx hb dX2_truth_181 (lv_at hl 6 rfl) ?_
    refine lv_aload_n hx hb dX2_truth_183 rfl (lv_at hl 2 rfl) ?_
    refine gM_w S X dX2_truth_184 ?_
    refine lv_isub hx hb dX2_truth_187 ?_
    refine lv_iload hx hb dX2_truth_188 (lv_at hl 6 rfl) ?_
    refine lv_iload_n hx hb dX2_truth_190 rfl (lv_at hl 3 rfl) ?_
    refine lv_bipush (v := nI 9) hx hb dX2_truth_191 (by decide) ?_
    refine mn_icmp_eq (tgt := 202) hx hb (by omega) (by omega) dX2_truth_193 (by decide) (fun c193 => absurd c193 (by omega)) (fun c193 => ?_)
    refine lv_iload_n hx hb dX2_truth_196 rfl (lv_at hl 3 rfl) ?_
    refine lv_bipush (v := nI 12) hx hb dX2_truth_197 (by decide) ?_
    refine mn_icmp_ne (tgt := 206) hx hb (by omega) (by omega) dX2_truth_199 (by decide) (fun c199 => absurd c199 (by omega)) (fun c199 => ?_)
    refine lv_iconst (v := nI 1) hx hb dX2_truth_202 (by decide) ?_
    refine lv_goto (tgt := 207) hx hb dX2_truth_203 (by decide) ?_
    refine cI_call (n := 4) (As := [.int (nI g), .int ((nI t) - (nI w)), .int (nI t), .int (nI 1)]) (rest := []) S X hA (mM_during1 l D a kc (nI t - nI w) (lo := t - w) hg ht (by omega) (mo_sub ht hw) hh) (lw_V q266 q268 qs11 q14 q269) rfl rfl (by decide +kernel) ⟨Nat.le_of_ble_eq_true rfl, Nat.le_of_ble_eq_true rfl⟩ rfl rfl hl.1 rfl rfl (Nat.le_of_ble_eq_true rfl) dX2_truth_207 ⟨Nat.zero_le _, Nat.zero_le _⟩ (fun r w1 H locs hq X => ?_)
    obtain ⟨rfl, rfl⟩ := hq
    exact cZ_ret S hr hlk X (fl_b_lt _) dX2_truth_210 ⟨congrArg nI (fl_b_congr (du_1.trans ⟨fun z x x1 x2 => z x (by omega) (by omega), fun z x x1 x2 => z x (by omega) (by omega)⟩)), rfl⟩
end
section
set_option maxRecDepth 100000
/-- the stack of parts that begin at i or behind it -/
def wq_S (tk : Nat → Nat) (n i : Nat) (st : Nat → Nat) : Prop := ∀ x, x < fl_op tk i → i ≤ st x ∧ st x < n ∧ fl_op tk (st x) = x + 1 ∧ ∀ j, i ≤ j → j < st x → x + 1 < fl_op tk j
theorem wq_S_0 {tk st : Nat → Nat} {n : Nat} (hc : fl_op tk n = 0) : wq_S tk n n st := fun x hx => absurd hx (by omega)
theorem wq_push {tk st : Nat → Nat} {n k : Nat} (hk : k < n) (h1 : 1 ≤ fl_op tk k) (h : wq_S tk n (k + 1) st) : wq_S tk n k (va_up st (fl_op tk k - 1) k) := by
  intro x hx
  have e0 := fl_op_s tk k
  by_cases e : x = fl_op tk k - 1
  · rw [e, va_up_self]
    exact ⟨Nat.le_refl _, hk, by omega, fun j j1 j2 => absurd j2 (by omega)⟩
  · rw [va_up_ne st _ e]
    obtain ⟨a1, a2, a3, a4⟩ := h x (by omega)
    refine ⟨by omega, a2, a3, fun j j1 j2 => ?_⟩
    rcases Nat.lt_or_ge j (k + 1) with q | q
    · have ej : j = k := by omega
      rw [ej]
      omega
    · exact a4 j q j2
theorem wq_g {tk st : Nat → Nat} {n k : Nat} (h : wq_S tk n (k + 1) st) (h1 : 1 ≤ fl_op tk (k + 1)) : st (fl_op tk (k + 1) - 1) = k + 1 := by
  obtain ⟨a1, a2, a3, a4⟩ := h (fl_op tk (k + 1) - 1) (by omega)
  rcases Nat.lt_or_ge (k + 1) (st (fl_op tk (k + 1) - 1)) with q | q
  · have := a4 (k + 1) (Nat.le_refl _) q
    omega
  · omega
theorem wq_h {tk st : Nat → Nat} {n k : Nat} (h : wq_S tk n (k + 1) st) (h1 : 2 ≤ fl_op tk (k + 1)) : fl_Sec tk k (st (fl_op tk (k + 1) - 2)) := by
  obtain ⟨a1, a2, a3, a4⟩ := h (fl_op tk (k + 1) - 2) (by omega)
  have q : k + 1 < st (fl_op tk (k + 1) - 2) := by
    rcases Nat.lt_or_ge (k + 1) (st (fl_op tk (k + 1) - 2)) with q | q
    · exact q
    · have e : st (fl_op tk (k + 1) - 2) = k + 1 := by omega
      rw [e] at a3
      omega
  refine ⟨q, by omega, fun j j1 j2 => ?_⟩
  have := a4 j (by omega) j2
  omega
/-- where second parts begin is known for every complete formula -/
theorem fl_Full_ex {tk : Nat → Nat} {n : Nat} (htk : ∀ k, tk k ≤ 12) (hok : fl_Ok tk n) (hc : fl_op tk n = 0) : ∃ sc, fl_Full tk n sc := by
  have key : ∀ d, d ≤ n → ∃ st, wq_S tk n (n - d) st := by
    intro d
    induction d with
    | zero => intro _; exact ⟨fun _ => 0, wq_S_0 hc⟩
    | succ d ih =>
      intro hd
      obtain ⟨st, hst⟩ := ih (by omega)
      rw [show n - d = n - (d + 1) + 1 by omega] at hst
      exact ⟨_, wq_push (by omega) (hok _ (by omega)) hst⟩
  have key2 : ∀ p, ∃ h, p < n → fl_ar (tk p) = 2 → fl_Sec tk p h := by
    intro p
    rcases Nat.lt_or_ge p n with q | q
    · obtain ⟨st, hst⟩ := key (n - (p + 1)) (by omega)
      rw [show n - (n - (p + 1)) = p + 1 by omega] at hst
      refine ⟨st (fl_op tk (p + 1) - 2), fun _ ha => wq_h hst ?_⟩
      have := hok p q
      rw [fl_op_s]
      omega
    · exact ⟨0, fun z => absurd z (by omega)⟩
  exact ⟨fun p => Classical.choose (key2 p), htk, hok, hc, fun p => Classical.choose_spec (key2 p)⟩
def wq_I (tk : Nat → Nat) (w : Nat) (fc : Nat → Nat) (k g h : Nat) (hd0 : Nat → Nat) (t : Nat) (hd : Nat → Nat) : Prop := (∀ j, ¬ (201 * k ≤ j ∧ j < 201 * k + 201) → hd j = hd0 j) ∧ (∀ u, u < t → (Rw_ hd k u ↔ fl_Sem (tk k) w fc (Rw_ hd0 g) (Rw_ hd0 h) u)) ∧ (∀ j, j < 2814 → hd j < 2)
theorem Rw_out {hd hd0 : Nat → Nat} {k g u : Nat} (h : ∀ j, ¬ (201 * k ≤ j ∧ j < 201 * k + 201) → hd j = hd0 j) (hg : g ≠ k) (hu : u < 201) : Rw_ hd g u ↔ Rw_ hd0 g u := by
  unfold Rw_
  rw [h (201 * g + u) (by omega)]
theorem wq_I_s {tk : Nat → Nat} {w : Nat} {fc : Nat → Nat} {k g h : Nat} {hd0 hd : Nat → Nat} {t : Nat} (hop : tk k ≤ 12) (ht : t < 201) (hgk : 1 ≤ fl_ar (tk k) → g ≠ k) (hhk : fl_ar (tk k) = 2 → h ≠ k) (hI : wq_I tk w fc k g h hd0 t hd) : wq_I tk w fc k g h hd0 (t + 1) (va_up hd (201 * k + t) (fl_b (fl_Sem (tk k) w fc (Rw_ hd g) (Rw_ hd h) t))) := by
  obtain ⟨h1, h2, h3⟩ := hI
  refine ⟨fun j hj => ?_, fun u hu => ?_, fun j hj => ?_⟩
  · rw [va_up_ne hd _ (show j ≠ 201 * k + t by omega)]
    exact h1 j hj
  · by_cases e : u = t
    · subst e
      unfold Rw_
      rw [va_up_self, fl_b_1]
      exact fl_Sem_congr hop (fun _ _ => rfl) (fun a x hx => Rw_out h1 (hgk a) (by omega)) (fun a x hx => Rw_out h1 (hhk a) (by omega))
    · have e2 : Rw_ (va_up hd (201 * k + t) (fl_b (fl_Sem (tk k) w fc (Rw_ hd g) (Rw_ hd h) t))) k u ↔ Rw_ hd k u := by
        unfold Rw_
        rw [va_up_ne hd _ (show 201 * k + u ≠ 201 * k + t by omega)]
      exact e2.trans (h2 u (by omega))
  · by_cases e : j = 201 * k + t
    · rw [e, va_up_self]
      exact fl_b_lt _
    · rw [va_up_ne hd _ e]
      exact h3 j hj
def wq_O (tk : Nat → Nat) (w : Nat) (fc : Nat → Nat) (n N i : Nat) (hd : Nat → Nat) : Prop := (∀ k, i ≤ k → k < n → ∀ t, t < N → ∀ h, (fl_ar (tk k) = 2 → fl_Sec tk k h) → (Rw_ hd k t ↔ fl_Sem (tk k) w fc (Rw_ hd (k + 1)) (Rw_ hd h) t)) ∧ (∀ j, j < 2814 → hd j < 2)
theorem wq_O_s {tk : Nat → Nat} {w : Nat} {fc : Nat → Nat} {n N k g h : Nat} {hd0 hd : Nat → Nat} (htk : ∀ k, tk k ≤ 12) (hN : N ≤ 201) (hgk : 1 ≤ fl_ar (tk k) → g = k + 1) (hhk : fl_ar (tk k) = 2 → fl_Sec tk k h) (hO : wq_O tk w fc n N (k + 1) hd0) (hI : wq_I tk w fc k g h hd0 N hd) : wq_O tk w fc n N k hd := by
  obtain ⟨h1, h2, h3⟩ := hI
  refine ⟨fun k' k1 k2 t ht h' hs => ?_, h3⟩
  by_cases e : k' = k
  · subst e
    refine (h2 t ht).trans (fl_Sem_congr (htk k') (fun _ _ => rfl) (fun a u hu => ?_) (fun a u hu => ?_))
    · rw [hgk a]
      exact (Rw_out h1 (by omega) (by omega)).symm
    · rw [fl_Sec_uniq (hhk a) (hs a)]
      have := (hs a).1
      exact (Rw_out h1 (by omega) (by omega)).symm
  · refine (Rw_out h1 e (by omega)).trans ((hO.1 k' (by omega) k2 t ht h' hs).trans (fl_Sem_congr (htk k') (fun _ _ => rfl) (fun a u hu => (Rw_out h1 (by omega) (by omega)).symm) (fun a u hu => ?_)))
    have := (hs a).1
    exact (Rw_out h1 (by omega) (by omega)).symm
section WRK
variable {p : Program} {l : Launch} {e : Env} {R : Room} {s : State} {m : MethodId} {args : Array Value} {below : List Frame} {meth : Method} {c : Code} {Q : State → Prop} {D : va_G} {A : Nat → Prop} {a : Nat → Nat} {kc : Nat → ClassId}
set_option maxHeartbeats 4000000 in
theorem lpM_inner {w n : Nat} {tk : Nat → Nat} {ct : Nat} {fc st : Nat → Nat} {N k g h hi : Nat} {hd0 : Nat → Nat} (htk : ∀ k, tk k ≤ 12) (hw : w ≤ 12) (hN : N ≤ 201) (hfc : ∀ t, fc t ≤ 15) (hk : k < 14) (hg : g < 14) (hh1 : h < 14) (hgk : 1 ≤ fl_ar (tk k) → g ≠ k) (hhk : fl_ar (tk k) = 2 → h ≠ k) (S : CallFix p m c cX2_work 9 s args lw_all RX2) (hA : ∀ q : Nat, s.heap.size ≤ q → A q)
    (K : ∀ (hd : Nat → Nat) (H : Heap) (locs : List Loc) (ls : Array Slot), wq_I tk w fc k g h hd0 N hd → wX D (tyM kc) A s H locs (mdW a kc w n tk ct fc hd st) → lv_has ls 9 [(0, .ref (a 0)), (1, .int (nI N)), (2, .int (nI hi)), (3, .int (nI k)), (4, .int (nI (tk k))), (5, .int (nI (fl_ar (tk k)))), (6, .int (nI g)), (7, .int (nI h))] → W p l e (rm_ 3 77) s m args below meth c H locs 0 0 Q (F0 m 136 ls [])) :
    ∀ (d t : Nat) (hd : Nat → Nat) (H : Heap) (locs : List Loc) (ls : Array Slot), N - t < d → t ≤ N → wq_I tk w fc k g h hd0 t hd → wX D (tyM kc) A s H locs (mdW a kc w n tk ct fc hd st) → lv_has ls 9 [(8, .int (nI t)), (0, .ref (a 0)), (1, .int (nI N)), (2, .int (nI hi)), (3, .int (nI k)), (4, .int (nI (tk k))), (5, .int (nI (fl_ar (tk k)))), (6, .int (nI g)), (7, .int (nI h))] → W p l e (rm_ 3 77) s m args below meth c H locs 0 0 Q (F0 m 99 ls []) := by
  have hx := S.1
  have hb := S.2.1
  intro d
  induction d with
  | zero =>
    intro t hd H locs ls hd_
    omega
  | succ d ih =>
    intro t hd H locs ls hd_ ht hI X hl
    refine lv_iload hx hb dX2_work_99 (lv_at hl 0 rfl) ?_
    refine lv_iload_n hx hb dX2_work_101 rfl (lv_at hl 2 rfl) ?_
    refine mn_icmp_ge (tgt := 136) hx hb (by omega) (by omega) dX2_work_102 (by decide) (fun c102 => ?_) (fun c102 => ?_)
    · skip
      have e0 : t = N := by omega
      subst e0
      exact K hd H locs ls hI X (lv_sub hl [1, 2, 3, 4, 5, 6, 7, 8] rfl)
    · skip
      refine lv_aload_n hx hb dX2_work_105 rfl (lv_at hl 1 rfl) ?_
      refine gM_hd S X dX2_work_106 ?_
      refine lv_sipush (v := nI 201) hx hb dX2_work_109 (by decide) ?_
      refine lv_iload_n hx hb dX2_work_112 rfl (lv_at hl 4 rfl) ?_
      refine mn_imul hx hb dX2_work_113 ?_
      refine lv_iload hx hb dX2_work_114 (lv_at hl 0 rfl) ?_
      refine mn_iadd hx hb dX2_work_116 ?_
      refine lv_aload_n hx hb dX2_work_117 rfl (lv_at hl 1 rfl) ?_
      refine lv_iload hx hb dX2_work_118 (lv_at hl 5 rfl) ?_
      refine lv_iload hx hb dX2_work_120 (lv_at hl 7 rfl) ?_
      refine lv_iload hx hb dX2_work_122 (lv_at hl 8 rfl) ?_
      refine lv_iload hx hb dX2_work_124 (lv_at hl 0 rfl) ?_
      refine cI_call (n := 4) (As := [.int (nI (tk k)), .int (nI g), .int (nI h), .int (nI t)]) (rest := [.int (nI ((201 * k) + t)), .ref (a 5)]) S X hA (mM_truth l D a kc (htk k) hw hg hh1 (by omega) (hfc t) hI.2.2) (lw_V q258 q260 qs9 q14 q261) rfl rfl (by decide +kernel) ⟨Nat.le_of_ble_eq_true rfl, Nat.le_of_ble_eq_true rfl⟩ rfl rfl hl.1 rfl rfl (Nat.le_of_ble_eq_true rfl) dX2_work_126 ⟨Nat.zero_le _, Nat.zero_le _⟩ (fun r w1 H locs hq X => ?_)
      obtain ⟨rfl, rfl⟩ := hq
      refine sM_hd (fl_b_lt _) S X (by omega) dX2_work_129 (fun H locs X => ?_)
      refine lv_iinc (v := nI (t + 1)) (lv' := [(8, .int (nI (t + 1))), (0, .ref (a 0)), (1, .int (nI N)), (2, .int (nI hi)), (3, .int (nI k)), (4, .int (nI (tk k))), (5, .int (nI (fl_ar (tk k)))), (6, .int (nI g)), (7, .int (nI h))]) hx hb dX2_work_130 hl (k := 0) rfl (nI_1 t) (by decide) rfl (fun ls hl => ?_)
      refine lv_goto (tgt := 99) hx hb dX2_work_133 (by decide) ?_
      exact ih (t + 1) _ _ _ _ (by omega) (by omega) (wq_I_s (htk k) (by omega) hgk hhk hI) X hl
set_option maxHeartbeats 4000000 in
theorem tlM_96 {w n : Nat} {tk : Nat → Nat} {ct : Nat} {fc hd st : Nat → Nat} {N k g h : Nat} (hn : n ≤ 14) (htk : ∀ k, tk k ≤ 12) (hok : fl_Ok tk n) (hc : fl_op tk n = 0) (hw : w ≤ 12) (hN : N ≤ 201) (hfc : ∀ t, fc t ≤ 15) (hkn : k < n) (hO : wq_O tk w fc n N (k + 1) hd) (hSt : wq_S tk n (k + 1) st) (hg14 : g < 14) (hh14 : h < 14) (hgk : 1 ≤ fl_ar (tk k) → g = k + 1) (hhk : fl_ar (tk k) = 2 → fl_Sec tk k h) (S : CallFix p m c cX2_work 9 s args lw_all RX2) (hA : ∀ q : Nat, s.heap.size ≤ q → A q) {H : Heap} {locs : List Loc} {ls : Array Slot} (X : wX D (tyM kc) A s H locs (mdW a kc w n tk ct fc hd st)) (hl : lv_has ls 9 [(0, .ref (a 0)), (1, .int (nI N)), (2, .int (nI (fl_op tk (k + 1)))), (3, .int (nI k)), (4, .int (nI (tk k))), (5, .int (nI (fl_ar (tk k)))), (6, .int (nI g)), (7, .int (nI h))])
    (K2 : ∀ (hd st : Nat → Nat) (H : Heap) (locs : List Loc) (ls : Array Slot), wq_O tk w fc n N k hd → wq_S tk n k st → wX D (tyM kc) A s H locs (mdW a kc w n tk ct fc hd st) → lv_has ls 9 [(3, .int (nI k - 1)), (2, .int (nI (fl_op tk k))), (0, .ref (a 0)), (1, .int (nI N))] → W p l e (rm_ 3 77) s m args below meth c H locs 0 0 Q (F0 m 9 ls [])) : W p l e (rm_ 3 77) s m args below meth c H locs 0 0 Q (F0 m 96 ls []) := by
  have hx := S.1
  have hb := S.2.1
  have h1k := hok k hkn
  have e0 := fl_op_s tk k
  have hle := fl_op_le tk k
  have har := fl_ar_le (tk k)
  refine lv_iconst (v := nI 0) hx hb dX2_work_96 (by decide) ?_
  refine lv_istore (lv' := [(8, .int (nI 0)), (0, .ref (a 0)), (1, .int (nI N)), (2, .int (nI (fl_op tk (k + 1)))), (3, .int (nI k)), (4, .int (nI (tk k))), (5, .int (nI (fl_ar (tk k)))), (6, .int (nI g)), (7, .int (nI h))]) hx hb dX2_work_97 hl (by decide) rfl (fun ls hl => ?_)
  refine lpM_inner htk hw hN hfc (by omega) hg14 hh14 (fun q => by have := hgk q; omega) (fun q => by have := (hhk q).1; omega) S hA (fun hd H locs ls hI X hl => ?_) (N + 1) 0 hd _ _ ls (by omega) (by omega) ⟨fun _ _ => rfl, fun u hu => absurd hu (by omega), hO.2⟩ X hl
  refine lv_iload_n hx hb dX2_work_136 rfl (lv_at hl 2 rfl) ?_
  refine lv_iload hx hb dX2_work_137 (lv_at hl 5 rfl) ?_
  refine mn_icmp_lt (tgt := 149) hx hb (by omega) (by omega) dX2_work_139 (by decide) (fun c139 => absurd c139 (by omega)) (fun c139 => ?_)
  refine lv_iload_n hx hb dX2_work_142 rfl (lv_at hl 2 rfl) ?_
  refine lv_iload hx hb dX2_work_143 (lv_at hl 5 rfl) ?_
  refine mn_isub hx hb (by omega) dX2_work_145 ?_
  refine lv_goto (tgt := 150) hx hb dX2_work_146 (by decide) ?_
  refine mn_eq (y := fl_op tk k - 1) (by omega) ?_
  refine lv_istore_n (lv' := [(2, .int (nI (fl_op tk k - 1))), (0, .ref (a 0)), (1, .int (nI N)), (3, .int (nI k)), (4, .int (nI (tk k))), (5, .int (nI (fl_ar (tk k)))), (6, .int (nI g)), (7, .int (nI h))]) hx hb dX2_work_150 rfl hl (by decide) rfl (fun ls hl => ?_)
  refine lv_aload_n hx hb dX2_work_151 rfl (lv_at hl 1 rfl) ?_
  refine gM_st S X dX2_work_152 ?_
  refine lv_iload_n hx hb dX2_work_155 rfl (lv_at hl 0 rfl) ?_
  refine lv_iload_n hx hb dX2_work_156 rfl (lv_at hl 3 rfl) ?_
  refine sM_st S X (by omega) dX2_work_157 (fun H locs X => ?_)
  refine lv_iinc (v := nI (fl_op tk k - 1 + 1)) (lv' := [(2, .int (nI (fl_op tk k - 1 + 1))), (0, .ref (a 0)), (1, .int (nI N)), (3, .int (nI k)), (4, .int (nI (tk k))), (5, .int (nI (fl_ar (tk k)))), (6, .int (nI g)), (7, .int (nI h))]) hx hb dX2_work_158 hl (k := 0) rfl (nI_1 (fl_op tk k - 1)) (by decide) rfl (fun ls hl => ?_)
  refine lv_iinc (v := nI k - 1) (lv' := [(3, .int (nI k - 1)), (2, .int (nI (fl_op tk k - 1 + 1))), (0, .ref (a 0)), (1, .int (nI N)), (4, .int (nI (tk k))), (5, .int (nI (fl_ar (tk k)))), (6, .int (nI g)), (7, .int (nI h))]) hx hb dX2_work_161 hl (k := 3) rfl (mo_dec _) (by decide) rfl (fun ls hl => ?_)
  refine lv_goto (tgt := 9) hx hb dX2_work_164 (by decide) ?_
  have e1 : fl_op tk k - 1 + 1 = fl_op tk k := by omega
  rw [e1] at hl
  exact K2 _ _ _ _ ls (wq_O_s htk hN hgk hhk hO hI) (wq_push hkn h1k hSt) X (lv_sub hl [0, 1, 2, 3] rfl)
set_option maxHeartbeats 4000000 in
theorem tlM_58 {w n : Nat} {tk : Nat → Nat} {ct : Nat} {fc hd st : Nat → Nat} {N k : Nat} (hn : n ≤ 14) (htk : ∀ k, tk k ≤ 12) (hok : fl_Ok tk n) (hc : fl_op tk n = 0) (hw : w ≤ 12) (hN : N ≤ 201) (hfc : ∀ t, fc t ≤ 15) (hkn : k < n) (hO : wq_O tk w fc n N (k + 1) hd) (hSt : wq_S tk n (k + 1) st) (S : CallFix p m c cX2_work 9 s args lw_all RX2) (hA : ∀ q : Nat, s.heap.size ≤ q → A q) {H : Heap} {locs : List Loc} {ls : Array Slot} (X : wX D (tyM kc) A s H locs (mdW a kc w n tk ct fc hd st)) (hl : lv_has ls 9 [(0, .ref (a 0)), (1, .int (nI N)), (2, .int (nI (fl_op tk (k + 1)))), (3, .int (nI k)), (4, .int (nI (tk k))), (5, .int (nI (fl_ar (tk k))))])
    (K2 : ∀ (hd st : Nat → Nat) (H : Heap) (locs : List Loc) (ls : Array Slot), wq_O tk w fc n N k hd → wq_S tk n k st → wX D (tyM kc) A s H locs (mdW a kc w n tk ct fc hd st) → lv_has ls 9 [(3, .int (nI k - 1)), (2, .int (nI (fl_op tk k))), (0, .ref (a 0)), (1, .int (nI N))] → W p l e (rm_ 3 77) s m args below meth c H locs 0 0 Q (F0 m 9 ls [])) : W p l e (rm_ 3 77) s m args below meth c H locs 0 0 Q (F0 m 58 ls []) := by
  have hx := S.1
  have hb := S.2.1
  have h1k := hok k hkn
  have e0 := fl_op_s tk k
  have hle := fl_op_le tk k
  have har := fl_ar_le (tk k)
  refine lv_iload_n hx hb dX2_work_58 rfl (lv_at hl 2 rfl) ?_
  refine lv_iconst (v := nI 1) hx hb dX2_work_59 (by decide) ?_
  refine mn_icmp_lt (tgt := 74) hx hb (by omega) (by omega) dX2_work_60 (by decide) (fun c60 => ?_) (fun c60 => ?_)
  · skip
    refine lv_iconst (v := nI 0) hx hb dX2_work_74 (by decide) ?_
    refine lv_istore (lv' := [(6, .int (nI 0)), (0, .ref (a 0)), (1, .int (nI N)), (2, .int (nI (fl_op tk (k + 1)))), (3, .int (nI k)), (4, .int (nI (tk k))), (5, .int (nI (fl_ar (tk k))))]) hx hb dX2_work_75 hl (by decide) rfl (fun ls hl => ?_)
    refine lv_iload_n hx hb dX2_work_77 rfl (lv_at hl 3 rfl) ?_
    refine lv_iconst (v := nI 2) hx hb dX2_work_78 (by decide) ?_
    refine mn_icmp_lt (tgt := 93) hx hb (by omega) (by omega) dX2_work_79 (by decide) (fun c79 => ?_) (fun c79 => absurd c79 (by omega))
    refine lv_iconst (v := nI 0) hx hb dX2_work_93 (by decide) ?_
    refine lv_istore (lv' := [(7, .int (nI 0)), (6, .int (nI 0)), (0, .ref (a 0)), (1, .int (nI N)), (2, .int (nI (fl_op tk (k + 1)))), (3, .int (nI k)), (4, .int (nI (tk k))), (5, .int (nI (fl_ar (tk k))))]) hx hb dX2_work_94 hl (by decide) rfl (fun ls hl => ?_)
    exact tlM_96 hn htk hok hc hw hN hfc hkn hO hSt (by omega) (by omega) (fun q => by omega) (fun q => by omega) S hA X (lv_sub hl [2, 3, 4, 5, 6, 7, 1, 0] rfl) K2
  · skip
    have hs1 := hSt (fl_op tk (k + 1) - 1) (by omega)
    refine lv_aload_n hx hb dX2_work_63 rfl (lv_at hl 0 rfl) ?_
    refine gM_st S X dX2_work_64 ?_
    refine lv_iload_n hx hb dX2_work_67 rfl (lv_at hl 2 rfl) ?_
    refine lv_iconst (v := nI 1) hx hb dX2_work_68 (by decide) ?_
    refine mn_isub hx hb (by omega) dX2_work_69 ?_
    refine lM_st S X (by omega) dX2_work_70 ?_
    refine lv_goto (tgt := 75) hx hb dX2_work_71 (by decide) ?_
    refine lv_istore (lv' := [(6, .int (nI (st ((fl_op tk (k + 1)) - 1)))), (0, .ref (a 0)), (1, .int (nI N)), (2, .int (nI (fl_op tk (k + 1)))), (3, .int (nI k)), (4, .int (nI (tk k))), (5, .int (nI (fl_ar (tk k))))]) hx hb dX2_work_75 hl (by decide) rfl (fun ls hl => ?_)
    refine lv_iload_n hx hb dX2_work_77 rfl (lv_at hl 3 rfl) ?_
    refine lv_iconst (v := nI 2) hx hb dX2_work_78 (by decide) ?_
    refine mn_icmp_lt (tgt := 93) hx hb (by omega) (by omega) dX2_work_79 (by decide) (fun c79 => ?_) (fun c79 => ?_)
    · skip
      refine lv_iconst (v := nI 0) hx hb dX2_work_93 (by decide) ?_
      refine lv_istore (lv' := [(7, .int (nI 0)), (6, .int (nI (st ((fl_op tk (k + 1)) - 1)))), (0, .ref (a 0)), (1, .int (nI N)), (2, .int (nI (fl_op tk (k + 1)))), (3, .int (nI k)), (4, .int (nI (tk k))), (5, .int (nI (fl_ar (tk k))))]) hx hb dX2_work_94 hl (by decide) rfl (fun ls hl => ?_)
      exact tlM_96 hn htk hok hc hw hN hfc hkn hO hSt (by omega) (by omega) (fun q => wq_g hSt (by omega)) (fun q => by omega) S hA X (lv_sub hl [2, 3, 4, 5, 6, 7, 1, 0] rfl) K2
    · skip
      have hs2 := hSt (fl_op tk (k + 1) - 2) (by omega)
      refine lv_aload_n hx hb dX2_work_82 rfl (lv_at hl 1 rfl) ?_
      refine gM_st S X dX2_work_83 ?_
      refine lv_iload_n hx hb dX2_work_86 rfl (lv_at hl 3 rfl) ?_
      refine lv_iconst (v := nI 2) hx hb dX2_work_87 (by decide) ?_
      refine mn_isub hx hb (by omega) dX2_work_88 ?_
      refine lM_st S X (by omega) dX2_work_89 ?_
      refine lv_goto (tgt := 94) hx hb dX2_work_90 (by decide) ?_
      refine lv_istore (lv' := [(7, .int (nI (st ((fl_op tk (k + 1)) - 2)))), (6, .int (nI (st ((fl_op tk (k + 1)) - 1)))), (0, .ref (a 0)), (1, .int (nI N)), (2, .int (nI (fl_op tk (k + 1)))), (3, .int (nI k)), (4, .int (nI (tk k))), (5, .int (nI (fl_ar (tk k))))]) hx hb dX2_work_94 hl (by decide) rfl (fun ls hl => ?_)
      exact tlM_96 hn htk hok hc hw hN hfc hkn hO hSt (by omega) (by omega) (fun q => wq_g hSt (by omega)) (fun q => wq_h hSt (by omega)) S hA X (lv_sub hl [2, 3, 4, 5, 6, 7, 1, 0] rfl) K2
set_option maxHeartbeats 4000000 in
theorem lpM_work {w n : Nat} {tk : Nat → Nat} {ct : Nat} {fc : Nat → Nat} {N : Nat} (hn : n ≤ 14) (htk : ∀ k, tk k ≤ 12) (hok : fl_Ok tk n) (hc : fl_op tk n = 0) (hw : w ≤ 12) (hN : N ≤ 201) (hfc : ∀ t, fc t ≤ 15) (S : CallFix p m c cX2_work 9 s args lw_all RX2) (hA : ∀ q : Nat, s.heap.size ≤ q → A q)
    (K : ∀ (hd st : Nat → Nat) (H : Heap) (locs : List Loc) (ls : Array Slot), (∀ j, j < 2814 → hd j < 2) → fl_Tru tk fc w n (Rw_ hd) N → wX D (tyM kc) A s H locs (mdW a kc w n tk ct fc hd st) → W p l e (rm_ 3 77) s m args below meth c H locs 0 0 Q (F0 m 167 ls [])) :
    ∀ (d i : Nat) (hd st : Nat → Nat) (H : Heap) (locs : List Loc) (ls : Array Slot), i < d → i ≤ n → wq_O tk w fc n N i hd → wq_S tk n i st → wX D (tyM kc) A s H locs (mdW a kc w n tk ct fc hd st) → lv_has ls 9 [(3, .int (nI i - 1)), (2, .int (nI (fl_op tk i))), (0, .ref (a 0)), (1, .int (nI N))] → W p l e (rm_ 3 77) s m args below meth c H locs 0 0 Q (F0 m 9 ls []) := by
  have hx := S.1
  have hb := S.2.1
  intro d
  induction d with
  | zero =>
    intro i hd st H locs ls hd_
    omega
  | succ d ih =>
    intro i hd st H locs ls hd_ hi hO hSt X hl
    refine lv_iload_n hx hb dX2_work_9 rfl (lv_at hl 0 rfl) ?_
    refine mm_if_lt (tgt := 167) hx hb (by omega) dX2_work_10 (by decide) (fun c10 => ?_) (fun c10 => ?_)
    · subst c10
      exact K hd st H locs ls hO.2 (fun k hk t ht h hs => hO.1 k (Nat.zero_le _) hk t ht h hs) X
    · obtain ⟨k, rfl⟩ : ∃ k, i = k + 1 := ⟨i - 1, by omega⟩
      rw [nI_pred] at hl
      have htkk := htk k
      refine lv_aload_n hx hb dX2_work_13 rfl (lv_at hl 2 rfl) ?_
      refine gM_tk S X dX2_work_14 ?_
      refine lv_iload_n hx hb dX2_work_17 rfl (lv_at hl 0 rfl) ?_
      refine lM_tk S X (by omega) dX2_work_18 ?_
      refine lv_istore (lv' := [(4, .int (nI (tk k))), (3, .int (nI k)), (2, .int (nI (fl_op tk (k + 1)))), (0, .ref (a 0)), (1, .int (nI N))]) hx hb dX2_work_19 hl (by decide) rfl (fun ls hl => ?_)
      refine lv_iload hx hb dX2_work_21 (lv_at hl 0 rfl) ?_
      refine lv_iconst (v := nI 3) hx hb dX2_work_23 (by decide) ?_
      refine mn_icmp_gt (tgt := 31) hx hb (by omega) (by omega) dX2_work_24 (by decide) (fun c24 => ?_) (fun c24 => ?_)
      · skip
        refine lv_iload hx hb dX2_work_31 (lv_at hl 0 rfl) ?_
        refine lv_iconst (v := nI 5) hx hb dX2_work_33 (by decide) ?_
        refine mn_icmp_eq (tgt := 51) hx hb (by omega) (by omega) dX2_work_34 (by decide) (fun c34 => ?_) (fun c34 => ?_)
        · skip
          refine lv_iconst (v := nI 2) hx hb dX2_work_51 (by decide) ?_
          refine lv_goto (tgt := 56) hx hb dX2_work_52 (by decide) ?_
          refine mn_eq (y := fl_ar (tk k)) ((fl_ar_2.mpr (by omega)).symm) ?_
          refine lv_istore (lv' := [(5, .int (nI (fl_ar (tk k)))), (4, .int (nI (tk k))), (3, .int (nI k)), (2, .int (nI (fl_op tk (k + 1)))), (0, .ref (a 0)), (1, .int (nI N))]) hx hb dX2_work_56 hl (by decide) rfl (fun ls hl => ?_)
          exact tlM_58 hn htk hok hc hw hN hfc (by omega) hO hSt S hA X (lv_sub hl [4, 5, 3, 2, 1, 0] rfl) (fun hd st H locs ls hO hSt X hl => ih k hd st H locs ls (by omega) (by omega) hO hSt X hl)
        · skip
          refine lv_iload hx hb dX2_work_37 (lv_at hl 0 rfl) ?_
          refine lv_bipush (v := nI 6) hx hb dX2_work_39 (by decide) ?_
          refine mn_icmp_eq (tgt := 51) hx hb (by omega) (by omega) dX2_work_41 (by decide) (fun c41 => ?_) (fun c41 => ?_)
          · skip
            refine lv_iconst (v := nI 2) hx hb dX2_work_51 (by decide) ?_
            refine lv_goto (tgt := 56) hx hb dX2_work_52 (by decide) ?_
            refine mn_eq (y := fl_ar (tk k)) ((fl_ar_2.mpr (by omega)).symm) ?_
            refine lv_istore (lv' := [(5, .int (nI (fl_ar (tk k)))), (4, .int (nI (tk k))), (3, .int (nI k)), (2, .int (nI (fl_op tk (k + 1)))), (0, .ref (a 0)), (1, .int (nI N))]) hx hb dX2_work_56 hl (by decide) rfl (fun ls hl => ?_)
            exact tlM_58 hn htk hok hc hw hN hfc (by omega) hO hSt S hA X (lv_sub hl [4, 5, 3, 2, 1, 0] rfl) (fun hd st H locs ls hO hSt X hl => ih k hd st H locs ls (by omega) (by omega) hO hSt X hl)
          · skip
            refine lv_iload hx hb dX2_work_44 (lv_at hl 0 rfl) ?_
            refine lv_bipush (v := nI 10) hx hb dX2_work_46 (by decide) ?_
            refine mn_icmp_ne (tgt := 55) hx hb (by omega) (by omega) dX2_work_48 (by decide) (fun c48 => ?_) (fun c48 => ?_)
            · skip
              refine lv_iconst (v := nI 1) hx hb dX2_work_55 (by decide) ?_
              refine mn_eq (y := fl_ar (tk k)) (show 1 = fl_ar (tk k) by unfold fl_ar; rw [if_neg (by omega), if_neg (by omega)]) ?_
              refine lv_istore (lv' := [(5, .int (nI (fl_ar (tk k)))), (4, .int (nI (tk k))), (3, .int (nI k)), (2, .int (nI (fl_op tk (k + 1)))), (0, .ref (a 0)), (1, .int (nI N))]) hx hb dX2_work_56 hl (by decide) rfl (fun ls hl => ?_)
              exact tlM_58 hn htk hok hc hw hN hfc (by omega) hO hSt S hA X (lv_sub hl [4, 5, 3, 2, 1, 0] rfl) (fun hd st H locs ls hO hSt X hl => ih k hd st H locs ls (by omega) (by omega) hO hSt X hl)
            · skip
              refine lv_iconst (v := nI 2) hx hb dX2_work_51 (by decide) ?_
              refine lv_goto (tgt := 56) hx hb dX2_work_52 (by decide) ?_
              refine mn_eq (y := fl_ar (tk k)) ((fl_ar_2.mpr (by omega)).symm) ?_
              refine lv_istore (lv' := [(5, .int (nI (fl_ar (tk k)))), (4, .int (nI (tk k))), (3, .int (nI k)), (2, .int (nI (fl_op tk (k + 1)))), (0, .ref (a 0)), (1, .int (nI N))]) hx hb dX2_work_56 hl (by decide) rfl (fun ls hl => ?_)
              exact tlM_58 hn htk hok hc hw hN hfc (by omega) hO hSt S hA X (lv_sub hl [4, 5, 3, 2, 1, 0] rfl) (fun hd st H locs ls hO hSt X hl => ih k hd st H locs ls (by omega) (by omega) hO hSt X hl)
      · skip
        refine lv_iconst (v := nI 0) hx hb dX2_work_27 (by decide) ?_
        refine lv_goto (tgt := 56) hx hb dX2_work_28 (by decide) ?_
        refine mn_eq (y := fl_ar (tk k)) ((fl_ar_0.mpr (by omega)).symm) ?_
        refine lv_istore (lv' := [(5, .int (nI (fl_ar (tk k)))), (4, .int (nI (tk k))), (3, .int (nI k)), (2, .int (nI (fl_op tk (k + 1)))), (0, .ref (a 0)), (1, .int (nI N))]) hx hb dX2_work_56 hl (by decide) rfl (fun ls hl => ?_)
        exact tlM_58 hn htk hok hc hw hN hfc (by omega) hO hSt S hA X (lv_sub hl [4, 5, 3, 2, 1, 0] rfl) (fun hd st H locs ls hO hSt X hl => ih k hd st H locs ls (by omega) (by omega) hO hSt X hl)
end WRK
set_option maxHeartbeats 4000000 in
theorem mM_work (l : Launch) (D : va_G) (a : Nat → Nat) (kc : Nat → ClassId) {N : Nat} {w n : Nat} {tk : Nat → Nat} {ct : Nat} {fc hd st : Nat → Nat} (hn : n ≤ 14) (htk : ∀ k, tk k ≤ 12) (hok : fl_Ok tk n) (hc : fl_op tk n = 0) (hw : w ≤ 12) (hN : N ≤ 201) (hfc : ∀ t, fc t ≤ 15) (hh : ∀ j, j < 2814 → hd j < 2) : cV l D (tyM kc) yX2_work cX2_work 9 (rm_ 3 77) [.ref (a 0), .int (nI N)] (mdW a kc w n tk ct fc hd st) (fun w1 => ∃ hd' st' : Nat → Nat, w1 = mdW a kc w n tk ct fc hd' st' ∧ (∀ j, j < 2814 → hd' j < 2) ∧ fl_Tru tk fc w n (Rw_ hd') N) := by
  refine cV_of (by decide) (Nat.le_of_ble_eq_true rfl) ?_
  intro p e s m below meth c ls S hr hlk X hA hl
  have hx := S.1
  have hb := S.2.1
  have hl : lv_has ls 9 [(0, .ref (a 0)), (1, .int (nI N))] := hl
  refine lv_iconst (v := nI 0) hx hb dX2_work_0 (by decide) ?_
  refine mn_eq (y := fl_op tk n) hc.symm ?_
  refine lv_istore_n (lv' := [(2, .int (nI (fl_op tk n))), (0, .ref (a 0)), (1, .int (nI N))]) hx hb dX2_work_1 rfl hl (by decide) rfl (fun ls hl => ?_)
  refine lv_aload_n hx hb dX2_work_2 rfl (lv_at hl 1 rfl) ?_
  refine gM_n S X dX2_work_3 ?_
  refine lv_iconst (v := nI 1) hx hb dX2_work_6 (by decide) ?_
  refine lv_isub hx hb dX2_work_7 ?_
  refine mi_eq (y := nI n - 1) rfl ?_
  refine lv_istore_n (lv' := [(3, .int (nI n - 1)), (2, .int (nI (fl_op tk n))), (0, .ref (a 0)), (1, .int (nI N))]) hx hb dX2_work_8 rfl hl (by decide) rfl (fun ls hl => ?_)
  refine lpM_work hn htk hok hc hw hN hfc S hA (fun hd st H locs ls h2 hT X => ?_) (n + 1) n hd st _ _ ls (by omega) (by omega) ⟨fun k k1 k2 => absurd k2 (by omega), hh⟩ (wq_S_0 hc) X hl
  exact cV_ret S hr hlk X dX2_work_167 ⟨hd, st, rfl, h2, hT⟩
end
section
set_option maxRecDepth 100000
def md_I (w : Nat) (tk : Nat → Nat) (n : Nat) (fc : Nat → Nat) (ct : Nat) (hd : Nat → Nat) : Prop := w ≤ 12 ∧ n ≤ 14 ∧ (∀ k, tk k ≤ 12) ∧ fl_Ok tk n ∧ ct ≤ 200 ∧ (∀ t, fc t ≤ 15) ∧ ∀ j, j < 2814 → hd j < 2
/-- a world that is a PastMonitorModel with that window, formula and events -/
def md_R (a : Nat → Nat) (kc : Nat → ClassId) (w : Nat) (tk : Nat → Nat) (n : Nat) (fc : Nat → Nat) (ct : Nat) (w0 : va_W) : Prop := ∃ (fd hd st : Nat → Nat), w0 = mdW a kc w n tk ct fd hd st ∧ md_I w tk n fd ct hd ∧ ∀ u, u < ct → fd u = fc u
theorem Rw_0 {hd : Nat → Nat} {t : Nat} : Rw_ hd 0 t ↔ hd t = 1 := by
  unfold Rw_
  rw [Nat.mul_zero, Nat.zero_add]
theorem up_le {f : Nat → Nat} {k x b : Nat} (h : ∀ t, f t ≤ b) (hx : x ≤ b) : ∀ t, va_up f k x t ≤ b := by
  intro t
  unfold va_up
  split
  · exact hx
  · exact h t
/-- what stands in row 0 behind work -/
theorem md_row {tk fc fd hd : Nat → Nat} {w n N c : Nat} (htk : ∀ k, tk k ≤ 12) (hok : fl_Ok tk n) (hc : fl_op tk n = 0) (h2 : ∀ j, j < 2814 → hd j < 2) (hN : N ≤ 201) (hT : fl_Tru tk fd w n (Rw_ hd) N) (hf : ∀ u, u < N → fd u = fc u) : ∀ t, t < N → hd t = tf_ tk fc w n t := by
  intro t ht
  obtain ⟨sc, F⟩ := fl_Full_ex htk hok hc
  exact fl_b_of (h2 t (by omega)) (Rw_0.symm.trans ((fl_tru_iff F hT ht).symm.trans (fl_tru_congr htk (fun u hu => hf u (by omega)))))
set_option maxHeartbeats 4000000 in
theorem mM_at (l : Launch) (D : va_G) (a : Nat → Nat) (kc : Nat → ClassId) (v : Int32) {w : Nat} {tk : Nat → Nat} {n : Nat} {fc : Nat → Nat} {ct : Nat} {w0 : va_W} (h : md_R a kc w tk n fc ct w0) : cI l D (tyM kc) yX2_at cX2_at 2 (some .boolean) (rm_ 4 105) [.ref (a 0), .int v] w0 (fun r w1 => md_R a kc w tk n fc ct w1 ∧ r = nI (at_ tk fc w n ct v)) := by
  obtain ⟨fd, hd, st, rfl, hI, hF⟩ := h
  obtain ⟨hw, hn, htk, hok, hct, hfc, hh⟩ := hI
  refine cI_of (by decide) (Nat.le_of_ble_eq_true rfl) ?_
  intro p e s m below meth c ls S hr hlk X hA hl
  have hx := S.1
  have hb := S.2.1
  have hl : lv_has ls 2 [(0, .ref (a 0)), (1, .int v)] := hl
  refine lv_iload_n hx hb dX2_at_0 rfl (lv_at hl 1 rfl) ?_
  refine mi_if_lt (tgt := 19) hx hb dX2_at_1 (by decide) (fun c1 => ?_) (fun x hx31 cx => ?_)
  · skip
    refine lv_iconst (v := nI 0) hx hb dX2_at_19 (by decide) ?_
    exact cZ_ret S hr hlk X (by omega) dX2_at_20 ⟨⟨fd, hd, st, rfl, ⟨hw, hn, htk, hok, hct, hfc, hh⟩, hF⟩, congrArg nI (fl_b_f (fun ⟨t, q1, q2, q3, _⟩ => nI_neg c1 (show t ≤ 1000 by omega) q1)).symm⟩
  · subst cx
    refine lv_iload_n hx hb dX2_at_4 rfl (lv_at hl 1 rfl) ?_
    refine lv_aload_n hx hb dX2_at_5 rfl (lv_at hl 0 rfl) ?_
    refine gM_ct S X dX2_at_6 ?_
    refine mn_icmp_ge (tgt := 19) hx hb (by omega) (by omega) dX2_at_9 (by decide) (fun c9 => ?_) (fun c9 => ?_)
    · skip
      refine lv_iconst (v := nI 0) hx hb dX2_at_19 (by decide) ?_
      exact cZ_ret S hr hlk X (by omega) dX2_at_20 ⟨⟨fd, hd, st, rfl, ⟨hw, hn, htk, hok, hct, hfc, hh⟩, hF⟩, congrArg nI (fl_b_f (fun ⟨t, q1, q2, q3, _⟩ => by have := nI_inj hx31 (show t ≤ 1000 by omega) q1; omega)).symm⟩
    · skip
      refine lv_aload_n hx hb dX2_at_12 rfl (lv_at hl 0 rfl) ?_
      refine cI_call (n := 0) (As := []) (rest := []) S X hA (mM_complete l D a kc hn htk hok) (lw_V q217 q218 q219 q14 q220) rfl rfl (by decide +kernel) ⟨Nat.le_of_ble_eq_true rfl, Nat.le_of_ble_eq_true rfl⟩ rfl rfl hl.1 rfl rfl (Nat.le_of_ble_eq_true rfl) dX2_at_13 ⟨Nat.zero_le _, Nat.zero_le _⟩ (fun r w1 H locs hq X => ?_)
      obtain ⟨rfl, hq⟩ := hq
      rcases hq with ⟨hq1, rfl⟩ | ⟨hq1, rfl⟩
      · refine mn_if_ne (tgt := 21) hx hb (by decide) dX2_at_16 (by decide) (fun c16 => ?_) (fun c16 => absurd c16 (by decide))
        refine lv_aload_n hx hb dX2_at_21 rfl (lv_at hl 0 rfl) ?_
        refine lv_aload_n hx hb dX2_at_22 rfl (lv_at hl 0 rfl) ?_
        refine gM_ct S X dX2_at_23 ?_
        refine cV_call (n := 1) (As := [.int (nI ct)]) (rest := []) S X hA (mM_work l D a kc (N := ct) hn htk hok hq1 hw (by omega) hfc hh) (lw_V q254 q256 qs8 q14 q257) rfl rfl (by decide +kernel) ⟨Nat.le_of_ble_eq_true rfl, Nat.le_of_ble_eq_true rfl⟩ rfl rfl hl.1 rfl rfl (Nat.le_of_ble_eq_true rfl) dX2_at_26 ⟨Nat.zero_le _, Nat.zero_le _⟩ (fun w1 H locs hq X => ?_)
        obtain ⟨hd1, st1, rfl, h2, hT⟩ := hq
        have htf : ∀ t, t < ct → hd1 t = tf_ tk fc w n t := md_row (c := 0) htk hok hq1 h2 (by omega) hT hF
        refine lv_aload_n hx hb dX2_at_29 rfl (lv_at hl 0 rfl) ?_
        refine gM_hd S X dX2_at_30 ?_
        refine lv_iload_n hx hb dX2_at_33 rfl (lv_at hl 1 rfl) ?_
        refine lM_hd S X (by omega) dX2_at_34 ?_
        exact cZ_ret S hr hlk X (h2 x (by omega)) dX2_at_35 ⟨⟨fd, hd1, st1, rfl, ⟨hw, hn, htk, hok, hct, hfc, h2⟩, hF⟩, congrArg nI ((htf x (by omega)).trans (fl_b_congr ⟨fun q => ⟨x, rfl, by omega, by omega, hq1, q⟩, fun ⟨t, q1, q2, q3, q4, q5⟩ => by have e1 := nI_inj hx31 (show t ≤ 1000 by omega) q1; subst e1; exact q5⟩))⟩
      · refine mn_if_ne (tgt := 21) hx hb (by decide) dX2_at_16 (by decide) (fun c16 => absurd rfl c16) (fun c16 => ?_)
        refine lv_iconst (v := nI 0) hx hb dX2_at_19 (by decide) ?_
        exact cZ_ret S hr hlk X (by omega) dX2_at_20 ⟨⟨fd, hd, st, rfl, ⟨hw, hn, htk, hok, hct, hfc, hh⟩, hF⟩, congrArg nI (fl_b_f (fun ⟨t, q1, q2, q3, q4, _⟩ => hq1 q4)).symm⟩
set_option maxHeartbeats 4000000 in
theorem mM_now (l : Launch) (D : va_G) (a : Nat → Nat) (kc : Nat → ClassId) {w : Nat} {tk : Nat → Nat} {n : Nat} {fc : Nat → Nat} {ct : Nat} {w0 : va_W} (h : md_R a kc w tk n fc ct w0) : cI l D (tyM kc) yX2_now cX2_now 1 (some .boolean) (rm_ 5 126) [.ref (a 0)] w0 (fun r w1 => md_R a kc w tk n fc ct w1 ∧ r = nI (at_ tk fc w n ct (nI ct - nI 1))) := by
  obtain ⟨fd, hd, st, rfl, hI, hF⟩ := h
  obtain ⟨hw, hn, htk, hok, hct, hfc, hh⟩ := hI
  refine cI_of (by decide) (Nat.le_of_ble_eq_true rfl) ?_
  intro p e s m below meth c ls S hr hlk X hA hl
  have hx := S.1
  have hb := S.2.1
  have hl : lv_has ls 1 [(0, .ref (a 0))] := hl
  refine lv_aload_n hx hb dX2_now_0 rfl (lv_at hl 0 rfl) ?_
  refine lv_aload_n hx hb dX2_now_1 rfl (lv_at hl 0 rfl) ?_
  refine gM_ct S X dX2_now_2 ?_
  refine lv_iconst (v := nI 1) hx hb dX2_now_5 (by decide) ?_
  refine lv_isub hx hb dX2_now_6 ?_
  refine cI_call (n := 1) (As := [.int ((nI ct) - (nI 1))]) (rest := []) S X hA (mM_at l D a kc (nI ct - nI 1) ⟨fd, hd, st, rfl, ⟨hw, hn, htk, hok, hct, hfc, hh⟩, hF⟩) (lw_V q250 q251 q252 q14 q253) rfl rfl (by decide +kernel) ⟨Nat.le_of_ble_eq_true rfl, Nat.le_of_ble_eq_true rfl⟩ rfl rfl hl.1 rfl rfl (Nat.le_of_ble_eq_true rfl) dX2_now_7 ⟨Nat.zero_le _, Nat.zero_le _⟩ (fun r w1 H locs hq X => ?_)
  obtain ⟨hR, rfl⟩ := hq
  exact cZ_ret S hr hlk X (fl_b_lt _) dX2_now_10 ⟨hR, rfl⟩
section ANM
variable {p : Program} {l : Launch} {e : Env} {R : Room} {s : State} {m : MethodId} {args : Array Value} {below : List Frame} {meth : Method} {c : Code} {Q : State → Prop} {D : va_G} {A : Nat → Prop} {a : Nat → Nat} {kc : Nat → ClassId}
set_option maxHeartbeats 4000000 in
theorem lpM_count {w n : Nat} {tk : Nat → Nat} {ct : Nat} {fc hd st : Nat → Nat} {f : Nat → Nat} (hct : ct ≤ 200) (h2 : ∀ j, j < 2814 → hd j < 2) (htf : ∀ t, t < ct → hd t = f t) (S : CallFix p m c cX2_count 3 s args lw_all RX2)
    (K : ∀ (H : Heap) (locs : List Loc) (ls : Array Slot), wX D (tyM kc) A s H locs (mdW a kc w n tk ct fc hd st) → lv_has ls 3 [(1, .int (nI (fl_sum f ct)))] → W p l e R s m args below meth c H locs 0 0 Q (F0 m 52 ls [])) :
    ∀ (d t c_ : Nat) (H : Heap) (locs : List Loc) (ls : Array Slot), ct - t < d → t ≤ ct → c_ = fl_sum f t → wX D (tyM kc) A s H locs (mdW a kc w n tk ct fc hd st) → lv_has ls 3 [(2, .int (nI t)), (1, .int (nI c_)), (0, .ref (a 0))] → W p l e R s m args below meth c H locs 0 0 Q (F0 m 21 ls []) := by
  have hx := S.1
  have hb := S.2.1
  intro d
  induction d with
  | zero =>
    intro t c_ H locs ls hd_
    omega
  | succ d ih =>
    intro t c_ H locs ls hd_ ht hc X hl
    refine lv_iload_n hx hb dX2_count_21 rfl (lv_at hl 0 rfl) ?_
    refine lv_aload_n hx hb dX2_count_22 rfl (lv_at hl 2 rfl) ?_
    refine gM_ct S X dX2_count_23 ?_
    refine mn_icmp_ge (tgt := 52) hx hb (by omega) (by omega) dX2_count_26 (by decide) (fun c26 => ?_) (fun c26 => ?_)
    · skip
      have e0 : t = ct := by omega
      subst e0
      subst hc
      exact K H locs ls X (lv_sub hl [1] rfl)
    · skip
      refine lv_iload_n hx hb dX2_count_29 rfl (lv_at hl 1 rfl) ?_
      refine lv_aload_n hx hb dX2_count_30 rfl (lv_at hl 2 rfl) ?_
      refine gM_hd S X dX2_count_31 ?_
      refine lv_iload_n hx hb dX2_count_34 rfl (lv_at hl 0 rfl) ?_
      refine lM_hd S X (by omega) dX2_count_35 ?_
      have hG := h2 (t) (by omega)
      refine mn_if_eq (tgt := 43) hx hb (by omega) dX2_count_36 (by decide) (fun c36 => ?_) (fun c36 => ?_)
      · skip
        refine lv_iconst (v := nI 0) hx hb dX2_count_43 (by decide) ?_
        refine mn_iadd hx hb dX2_count_44 ?_
        refine lv_istore_n (lv' := [(1, .int (nI (c_ + 0))), (2, .int (nI t)), (0, .ref (a 0))]) hx hb dX2_count_45 rfl hl (by decide) rfl (fun ls hl => ?_)
        refine lv_iinc (v := nI (t + 1)) (lv' := [(2, .int (nI (t + 1))), (1, .int (nI (c_ + 0))), (0, .ref (a 0))]) hx hb dX2_count_46 hl (k := 1) rfl (nI_1 t) (by decide) rfl (fun ls hl => ?_)
        refine lv_goto (tgt := 21) hx hb dX2_count_49 (by decide) ?_
        exact ih (t + 1) _ _ _ _ (by omega) (by omega) (by rw [fl_sum_s, ← htf t (by omega)]; omega) X (lv_sub hl [0, 1, 2] rfl)
      · skip
        refine lv_iconst (v := nI 1) hx hb dX2_count_39 (by decide) ?_
        refine lv_goto (tgt := 44) hx hb dX2_count_40 (by decide) ?_
        refine mn_iadd hx hb dX2_count_44 ?_
        refine lv_istore_n (lv' := [(1, .int (nI (c_ + 1))), (2, .int (nI t)), (0, .ref (a 0))]) hx hb dX2_count_45 rfl hl (by decide) rfl (fun ls hl => ?_)
        refine lv_iinc (v := nI (t + 1)) (lv' := [(2, .int (nI (t + 1))), (1, .int (nI (c_ + 1))), (0, .ref (a 0))]) hx hb dX2_count_46 hl (k := 1) rfl (nI_1 t) (by decide) rfl (fun ls hl => ?_)
        refine lv_goto (tgt := 21) hx hb dX2_count_49 (by decide) ?_
        exact ih (t + 1) _ _ _ _ (by omega) (by omega) (by rw [fl_sum_s, ← htf t (by omega)]; omega) X (lv_sub hl [0, 1, 2] rfl)
set_option maxHeartbeats 4000000 in
theorem lpM_vio {w n : Nat} {tk : Nat → Nat} {ct : Nat} {fc hd st : Nat → Nat} {f : Nat → Nat} {r : Int32} (hct : ct ≤ 200) (h2 : ∀ j, j < 2814 → hd j < 2) (htf : ∀ t, t < ct → hd t = f t) (S : CallFix p m c cX2_violation 3 s args lw_all RX2)
    (K1 : ∀ (H : Heap) (locs : List Loc) (ls : Array Slot), r = -1 → wX D (tyM kc) A s H locs (mdW a kc w n tk ct fc hd st) → W p l e R s m args below meth c H locs 0 0 Q (F0 m 48 ls []))
    (K2 : ∀ (t : Nat) (H : Heap) (locs : List Loc) (ls : Array Slot), r = nI t → wX D (tyM kc) A s H locs (mdW a kc w n tk ct fc hd st) → lv_has ls 3 [(2, .int (nI t))] → W p l e R s m args below meth c H locs 0 0 Q (F0 m 40 ls [])) :
    ∀ (d t : Nat) (H : Heap) (locs : List Loc) (ls : Array Slot), ct - t < d → t < 2 ^ 31 → r = fl_vio f t (ct - t) → wX D (tyM kc) A s H locs (mdW a kc w n tk ct fc hd st) → lv_has ls 3 [(2, .int (nI t)), (0, .ref (a 0))] → W p l e R s m args below meth c H locs 0 0 Q (F0 m 23 ls []) := by
  have hx := S.1
  have hb := S.2.1
  intro d
  induction d with
  | zero =>
    intro t H locs ls hd_
    omega
  | succ d ih =>
    intro t H locs ls hd_ ht hr X hl
    refine lv_iload_n hx hb dX2_violation_23 rfl (lv_at hl 0 rfl) ?_
    refine lv_aload_n hx hb dX2_violation_24 rfl (lv_at hl 1 rfl) ?_
    refine gM_ct S X dX2_violation_25 ?_
    refine mn_icmp_ge (tgt := 48) hx hb (by omega) (by omega) dX2_violation_28 (by decide) (fun c28 => ?_) (fun c28 => ?_)
    · skip
      exact K1 H locs ls (hr.trans (fl_vio_e (by omega))) X
    · skip
      refine lv_aload_n hx hb dX2_violation_31 rfl (lv_at hl 1 rfl) ?_
      refine gM_hd S X dX2_violation_32 ?_
      refine lv_iload_n hx hb dX2_violation_35 rfl (lv_at hl 0 rfl) ?_
      refine lM_hd S X (by omega) dX2_violation_36 ?_
      have hG := h2 (t) (by omega)
      refine mn_if_ne (tgt := 42) hx hb (by omega) dX2_violation_37 (by decide) (fun c37 => ?_) (fun c37 => ?_)
      · skip
        refine lv_iinc (v := nI (t + 1)) (lv' := [(2, .int (nI (t + 1))), (0, .ref (a 0))]) hx hb dX2_violation_42 hl (k := 0) rfl (nI_1 t) (by decide) rfl (fun ls hl => ?_)
        refine lv_goto (tgt := 23) hx hb dX2_violation_45 (by decide) ?_
        exact ih (t + 1) _ _ _ (by omega) (by omega) (hr.trans ((fl_vio_s (by omega)).trans (if_neg (by rw [← htf t (by omega)]; omega)))) X (lv_sub hl [0, 1] rfl)
      · skip
        exact K2 t H locs ls (hr.trans ((fl_vio_s (by omega)).trans (if_pos (by rw [← htf t (by omega)]; omega)))) X (lv_sub hl [0] rfl)
set_option maxHeartbeats 4000000 in
theorem lpM_run {w n : Nat} {tk : Nat → Nat} {ct : Nat} {fc hd st : Nat → Nat} {f : Nat → Nat} {r : Nat} (hct : ct ≤ 200) (h2 : ∀ j, j < 2814 → hd j < 2) (htf : ∀ t, t < ct → hd t = f t) (S : CallFix p m c cX2_streak 2 s args lw_all RX2)
    (K : ∀ (k : Nat) (H : Heap) (locs : List Loc) (ls : Array Slot), r = k → wX D (tyM kc) A s H locs (mdW a kc w n tk ct fc hd st) → lv_has ls 2 [(1, .int (nI k))] → W p l e R s m args below meth c H locs 0 0 Q (F0 m 49 ls [])) :
    ∀ (d k : Nat) (H : Heap) (locs : List Loc) (ls : Array Slot), ct - k < d → k ≤ ct → r = fl_run f ct k (ct - k) → wX D (tyM kc) A s H locs (mdW a kc w n tk ct fc hd st) → lv_has ls 2 [(1, .int (nI k)), (0, .ref (a 0))] → W p l e R s m args below meth c H locs 0 0 Q (F0 m 19 ls []) := by
  have hx := S.1
  have hb := S.2.1
  intro d
  induction d with
  | zero =>
    intro k H locs ls hd_
    omega
  | succ d ih =>
    intro k H locs ls hd_ hk hr X hl
    refine lv_iload_n hx hb dX2_streak_19 rfl (lv_at hl 0 rfl) ?_
    refine lv_aload_n hx hb dX2_streak_20 rfl (lv_at hl 1 rfl) ?_
    refine gM_ct S X dX2_streak_21 ?_
    refine mn_icmp_ge (tgt := 49) hx hb (by omega) (by omega) dX2_streak_24 (by decide) (fun c24 => ?_) (fun c24 => ?_)
    · skip
      exact K k H locs ls (hr.trans (fl_run_e (by omega))) X (lv_sub hl [0] rfl)
    · skip
      refine lv_aload_n hx hb dX2_streak_27 rfl (lv_at hl 1 rfl) ?_
      refine gM_hd S X dX2_streak_28 ?_
      refine lv_aload_n hx hb dX2_streak_31 rfl (lv_at hl 1 rfl) ?_
      refine gM_ct S X dX2_streak_32 ?_
      refine lv_iconst (v := nI 1) hx hb dX2_streak_35 (by decide) ?_
      refine mn_isub hx hb (by omega) dX2_streak_36 ?_
      refine lv_iload_n hx hb dX2_streak_37 rfl (lv_at hl 0 rfl) ?_
      refine mn_isub hx hb (by omega) dX2_streak_38 ?_
      refine lM_hd S X (by omega) dX2_streak_39 ?_
      have hG := h2 (ct - 1 - k) (by omega)
      refine mn_if_eq (tgt := 49) hx hb (by omega) dX2_streak_40 (by decide) (fun c40 => ?_) (fun c40 => ?_)
      · skip
        exact K k H locs ls (hr.trans ((fl_run_s (by omega)).trans (if_pos (by rw [← htf (ct - 1 - k) (by omega)]; omega)))) X (lv_sub hl [0] rfl)
      · skip
        refine lv_iinc (v := nI (k + 1)) (lv' := [(1, .int (nI (k + 1))), (0, .ref (a 0))]) hx hb dX2_streak_43 hl (k := 0) rfl (nI_1 k) (by decide) rfl (fun ls hl => ?_)
        refine lv_goto (tgt := 19) hx hb dX2_streak_46 (by decide) ?_
        exact ih (k + 1) _ _ _ (by omega) (by omega) (hr.trans ((fl_run_s (by omega)).trans (if_neg (by rw [← htf (ct - 1 - k) (by omega)]; omega)))) X (lv_sub hl [0, 1] rfl)
end ANM
set_option maxHeartbeats 4000000 in
theorem mM_count (l : Launch) (D : va_G) (a : Nat → Nat) (kc : Nat → ClassId) {w : Nat} {tk : Nat → Nat} {n : Nat} {fc : Nat → Nat} {ct : Nat} {w0 : va_W} (h : md_R a kc w tk n fc ct w0) : cI l D (tyM kc) yX2_count cX2_count 3 (some .int) (rm_ 4 105) [.ref (a 0)] w0 (fun r w1 => md_R a kc w tk n fc ct w1 ∧ r = cn_ tk fc w n ct) := by
  obtain ⟨fd, hd, st, rfl, hI, hF⟩ := h
  obtain ⟨hw, hn, htk, hok, hct, hfc, hh⟩ := hI
  refine cI_of (by decide) (Nat.le_of_ble_eq_true rfl) ?_
  intro p e s m below meth c ls S hr hlk X hA hl
  have hx := S.1
  have hb := S.2.1
  have hl : lv_has ls 3 [(0, .ref (a 0))] := hl
  refine lv_aload_n hx hb dX2_count_0 rfl (lv_at hl 0 rfl) ?_
  refine cI_call (n := 0) (As := []) (rest := []) S X hA (mM_complete l D a kc hn htk hok) (lw_V q217 q218 q219 q14 q220) rfl rfl (by decide +kernel) ⟨Nat.le_of_ble_eq_true rfl, Nat.le_of_ble_eq_true rfl⟩ rfl rfl hl.1 rfl rfl (Nat.le_of_ble_eq_true rfl) dX2_count_1 ⟨Nat.zero_le _, Nat.zero_le _⟩ (fun r w1 H locs hq X => ?_)
  obtain ⟨rfl, hq⟩ := hq
  rcases hq with ⟨hq1, rfl⟩ | ⟨hq1, rfl⟩
  · refine mn_if_ne (tgt := 9) hx hb (by decide) dX2_count_4 (by decide) (fun c4 => ?_) (fun c4 => absurd c4 (by decide))
    refine lv_aload_n hx hb dX2_count_9 rfl (lv_at hl 0 rfl) ?_
    refine lv_aload_n hx hb dX2_count_10 rfl (lv_at hl 0 rfl) ?_
    refine gM_ct S X dX2_count_11 ?_
    refine cV_call (n := 1) (As := [.int (nI ct)]) (rest := []) S X hA (mM_work l D a kc (N := ct) hn htk hok hq1 hw (by omega) hfc hh) (lw_V q254 q256 qs8 q14 q257) rfl rfl (by decide +kernel) ⟨Nat.le_of_ble_eq_true rfl, Nat.le_of_ble_eq_true rfl⟩ rfl rfl hl.1 rfl rfl (Nat.le_of_ble_eq_true rfl) dX2_count_14 ⟨Nat.zero_le _, Nat.zero_le _⟩ (fun w1 H locs hq X => ?_)
    obtain ⟨hd1, st1, rfl, h2, hT⟩ := hq
    have htf : ∀ t, t < ct → hd1 t = tf_ tk fc w n t := md_row (c := 0) htk hok hq1 h2 (by omega) hT hF
    refine lv_iconst (v := nI 0) hx hb dX2_count_17 (by decide) ?_
    refine lv_istore_n (lv' := [(1, .int (nI 0)), (0, .ref (a 0))]) hx hb dX2_count_18 rfl hl (by decide) rfl (fun ls hl => ?_)
    refine lv_iconst (v := nI 0) hx hb dX2_count_19 (by decide) ?_
    refine lv_istore_n (lv' := [(2, .int (nI 0)), (1, .int (nI 0)), (0, .ref (a 0))]) hx hb dX2_count_20 rfl hl (by decide) rfl (fun ls hl => ?_)
    refine lpM_count hct h2 htf S (fun H locs ls X hl => ?_) (ct + 1) 0 0 _ _ ls (by omega) (by omega) rfl X hl
    refine lv_iload_n hx hb dX2_count_52 rfl (lv_at hl 0 rfl) ?_
    exact cI_ret S hr hlk X dX2_count_53 ⟨⟨fd, hd1, st1, rfl, ⟨hw, hn, htk, hok, hct, hfc, h2⟩, hF⟩, (if_pos hq1).symm⟩
  · refine mn_if_ne (tgt := 9) hx hb (by decide) dX2_count_4 (by decide) (fun c4 => absurd rfl c4) (fun c4 => ?_)
    refine lv_iconst (v := (-1)) hx hb dX2_count_7 (by decide) ?_
    exact cI_ret S hr hlk X dX2_count_8 ⟨⟨fd, hd, st, rfl, ⟨hw, hn, htk, hok, hct, hfc, hh⟩, hF⟩, (if_neg hq1).symm⟩
set_option maxHeartbeats 4000000 in
theorem mM_violation (l : Launch) (D : va_G) (a : Nat → Nat) (kc : Nat → ClassId) (v : Int32) {w : Nat} {tk : Nat → Nat} {n : Nat} {fc : Nat → Nat} {ct : Nat} {w0 : va_W} (h : md_R a kc w tk n fc ct w0) : cI l D (tyM kc) yX2_violation cX2_violation 3 (some .int) (rm_ 4 105) [.ref (a 0), .int v] w0 (fun r w1 => md_R a kc w tk n fc ct w1 ∧ r = vi_ tk fc w n ct v) := by
  obtain ⟨fd, hd, st, rfl, hI, hF⟩ := h
  obtain ⟨hw, hn, htk, hok, hct, hfc, hh⟩ := hI
  refine cI_of (by decide) (Nat.le_of_ble_eq_true rfl) ?_
  intro p e s m below meth c ls S hr hlk X hA hl
  have hx := S.1
  have hb := S.2.1
  have hl : lv_has ls 3 [(0, .ref (a 0)), (1, .int v)] := hl
  refine lv_iload_n hx hb dX2_violation_0 rfl (lv_at hl 1 rfl) ?_
  refine mi_if_lt (tgt := 11) hx hb dX2_violation_1 (by decide) (fun c1 => ?_) (fun x hx31 cx => ?_)
  · skip
    refine lv_iconst (v := (-1)) hx hb dX2_violation_11 (by decide) ?_
    exact cI_ret S hr hlk X dX2_violation_12 ⟨⟨fd, hd, st, rfl, ⟨hw, hn, htk, hok, hct, hfc, hh⟩, hF⟩, (if_pos c1).symm⟩
  · subst cx
    refine lv_aload_n hx hb dX2_violation_4 rfl (lv_at hl 0 rfl) ?_
    refine cI_call (n := 0) (As := []) (rest := []) S X hA (mM_complete l D a kc hn htk hok) (lw_V q217 q218 q219 q14 q220) rfl rfl (by decide +kernel) ⟨Nat.le_of_ble_eq_true rfl, Nat.le_of_ble_eq_true rfl⟩ rfl rfl hl.1 rfl rfl (Nat.le_of_ble_eq_true rfl) dX2_violation_5 ⟨Nat.zero_le _, Nat.zero_le _⟩ (fun r w1 H locs hq X => ?_)
    obtain ⟨rfl, hq⟩ := hq
    rcases hq with ⟨hq1, rfl⟩ | ⟨hq1, rfl⟩
    · refine mn_if_ne (tgt := 13) hx hb (by decide) dX2_violation_8 (by decide) (fun c8 => ?_) (fun c8 => absurd c8 (by decide))
      refine lv_aload_n hx hb dX2_violation_13 rfl (lv_at hl 0 rfl) ?_
      refine lv_aload_n hx hb dX2_violation_14 rfl (lv_at hl 0 rfl) ?_
      refine gM_ct S X dX2_violation_15 ?_
      refine cV_call (n := 1) (As := [.int (nI ct)]) (rest := []) S X hA (mM_work l D a kc (N := ct) hn htk hok hq1 hw (by omega) hfc hh) (lw_V q254 q256 qs8 q14 q257) rfl rfl (by decide +kernel) ⟨Nat.le_of_ble_eq_true rfl, Nat.le_of_ble_eq_true rfl⟩ rfl rfl hl.1 rfl rfl (Nat.le_of_ble_eq_true rfl) dX2_violation_18 ⟨Nat.zero_le _, Nat.zero_le _⟩ (fun w1 H locs hq X => ?_)
      obtain ⟨hd1, st1, rfl, h2, hT⟩ := hq
      have htf : ∀ t, t < ct → hd1 t = tf_ tk fc w n t := md_row (c := 0) htk hok hq1 h2 (by omega) hT hF
      refine lv_iload_n hx hb dX2_violation_21 rfl (lv_at hl 1 rfl) ?_
      refine lv_istore_n (lv' := [(2, .int (nI x)), (0, .ref (a 0)), (1, .int (nI x))]) hx hb dX2_violation_22 rfl hl (by decide) rfl (fun ls hl => ?_)
      refine lpM_vio (r := fl_vio (tf_ tk fc w n) x (ct - x)) hct h2 htf S (fun H locs ls hr0 X => ?_) (fun t H locs ls hr0 X hl => ?_) (ct - x + 1) x _ _ ls (by omega) hx31 rfl X (lv_sub hl [0, 1] rfl)
      · skip
        refine lv_iconst (v := (-1)) hx hb dX2_violation_48 (by decide) ?_
        exact cI_ret S hr hlk X dX2_violation_49 ⟨⟨fd, hd1, st1, rfl, ⟨hw, hn, htk, hok, hct, hfc, h2⟩, hF⟩, by unfold vi_; rw [if_neg (nI_pos hx31), if_pos hq1, nI_clamp hx31]; exact hr0.symm⟩
      · skip
        refine lv_iload_n hx hb dX2_violation_40 rfl (lv_at hl 0 rfl) ?_
        exact cI_ret S hr hlk X dX2_violation_41 ⟨⟨fd, hd1, st1, rfl, ⟨hw, hn, htk, hok, hct, hfc, h2⟩, hF⟩, by unfold vi_; rw [if_neg (nI_pos hx31), if_pos hq1, nI_clamp hx31]; exact hr0.symm⟩
    · refine mn_if_ne (tgt := 13) hx hb (by decide) dX2_violation_8 (by decide) (fun c8 => absurd rfl c8) (fun c8 => ?_)
      refine lv_iconst (v := (-1)) hx hb dX2_violation_11 (by decide) ?_
      exact cI_ret S hr hlk X dX2_violation_12 ⟨⟨fd, hd, st, rfl, ⟨hw, hn, htk, hok, hct, hfc, hh⟩, hF⟩, by unfold vi_; rw [if_neg (nI_pos hx31), if_neg hq1]⟩
set_option maxHeartbeats 4000000 in
theorem mM_streak (l : Launch) (D : va_G) (a : Nat → Nat) (kc : Nat → ClassId) {w : Nat} {tk : Nat → Nat} {n : Nat} {fc : Nat → Nat} {ct : Nat} {w0 : va_W} (h : md_R a kc w tk n fc ct w0) : cI l D (tyM kc) yX2_streak cX2_streak 2 (some .int) (rm_ 4 105) [.ref (a 0)] w0 (fun r w1 => md_R a kc w tk n fc ct w1 ∧ r = sk_ tk fc w n ct) := by
  obtain ⟨fd, hd, st, rfl, hI, hF⟩ := h
  obtain ⟨hw, hn, htk, hok, hct, hfc, hh⟩ := hI
  refine cI_of (by decide) (Nat.le_of_ble_eq_true rfl) ?_
  intro p e s m below meth c ls S hr hlk X hA hl
  have hx := S.1
  have hb := S.2.1
  have hl : lv_has ls 2 [(0, .ref (a 0))] := hl
  refine lv_aload_n hx hb dX2_streak_0 rfl (lv_at hl 0 rfl) ?_
  refine cI_call (n := 0) (As := []) (rest := []) S X hA (mM_complete l D a kc hn htk hok) (lw_V q217 q218 q219 q14 q220) rfl rfl (by decide +kernel) ⟨Nat.le_of_ble_eq_true rfl, Nat.le_of_ble_eq_true rfl⟩ rfl rfl hl.1 rfl rfl (Nat.le_of_ble_eq_true rfl) dX2_streak_1 ⟨Nat.zero_le _, Nat.zero_le _⟩ (fun r w1 H locs hq X => ?_)
  obtain ⟨rfl, hq⟩ := hq
  rcases hq with ⟨hq1, rfl⟩ | ⟨hq1, rfl⟩
  · refine mn_if_ne (tgt := 9) hx hb (by decide) dX2_streak_4 (by decide) (fun c4 => ?_) (fun c4 => absurd c4 (by decide))
    refine lv_aload_n hx hb dX2_streak_9 rfl (lv_at hl 0 rfl) ?_
    refine lv_aload_n hx hb dX2_streak_10 rfl (lv_at hl 0 rfl) ?_
    refine gM_ct S X dX2_streak_11 ?_
    refine cV_call (n := 1) (As := [.int (nI ct)]) (rest := []) S X hA (mM_work l D a kc (N := ct) hn htk hok hq1 hw (by omega) hfc hh) (lw_V q254 q256 qs8 q14 q257) rfl rfl (by decide +kernel) ⟨Nat.le_of_ble_eq_true rfl, Nat.le_of_ble_eq_true rfl⟩ rfl rfl hl.1 rfl rfl (Nat.le_of_ble_eq_true rfl) dX2_streak_14 ⟨Nat.zero_le _, Nat.zero_le _⟩ (fun w1 H locs hq X => ?_)
    obtain ⟨hd1, st1, rfl, h2, hT⟩ := hq
    have htf : ∀ t, t < ct → hd1 t = tf_ tk fc w n t := md_row (c := 0) htk hok hq1 h2 (by omega) hT hF
    refine lv_iconst (v := nI 0) hx hb dX2_streak_17 (by decide) ?_
    refine lv_istore_n (lv' := [(1, .int (nI 0)), (0, .ref (a 0))]) hx hb dX2_streak_18 rfl hl (by decide) rfl (fun ls hl => ?_)
    refine lpM_run (r := fl_run (tf_ tk fc w n) ct 0 (ct - 0)) hct h2 htf S (fun k H locs ls hr0 X hl => ?_) (ct + 1) 0 _ _ ls (by omega) (by omega) rfl X hl
    refine lv_iload_n hx hb dX2_streak_49 rfl (lv_at hl 0 rfl) ?_
    exact cI_ret S hr hlk X dX2_streak_50 ⟨⟨fd, hd1, st1, rfl, ⟨hw, hn, htk, hok, hct, hfc, h2⟩, hF⟩, by unfold sk_; rw [if_pos hq1, hr0]⟩
  · refine mn_if_ne (tgt := 9) hx hb (by decide) dX2_streak_4 (by decide) (fun c4 => absurd rfl c4) (fun c4 => ?_)
    refine lv_iconst (v := (-1)) hx hb dX2_streak_7 (by decide) ?_
    exact cI_ret S hr hlk X dX2_streak_8 ⟨⟨fd, hd, st, rfl, ⟨hw, hn, htk, hok, hct, hfc, hh⟩, hF⟩, (if_neg hq1).symm⟩
set_option maxHeartbeats 4000000 in
theorem mM_wouldHold (l : Launch) (D : va_G) (a : Nat → Nat) (kc : Nat → ClassId) (v : Int32) {w : Nat} {tk : Nat → Nat} {n : Nat} {fc : Nat → Nat} {ct : Nat} {w0 : va_W} (h : md_R a kc w tk n fc ct w0) : cI l D (tyM kc) yX2_wouldHold cX2_wouldHold 2 (some .boolean) (rm_ 4 105) [.ref (a 0), .int v] w0 (fun r w1 => md_R a kc w tk n fc ct w1 ∧ r = nI (wh_ tk fc w n ct v)) := by
  obtain ⟨fd, hd, st, rfl, hI, hF⟩ := h
  obtain ⟨hw, hn, htk, hok, hct, hfc, hh⟩ := hI
  refine cI_of (by decide) (Nat.le_of_ble_eq_true rfl) ?_
  intro p e s m below meth c ls S hr hlk X hA hl
  have hx := S.1
  have hb := S.2.1
  have hl : lv_has ls 2 [(0, .ref (a 0)), (1, .int v)] := hl
  refine lv_iload_n hx hb dX2_wouldHold_0 rfl (lv_at hl 1 rfl) ?_
  refine mi_if_lt (tgt := 17) hx hb dX2_wouldHold_1 (by decide) (fun c1 => ?_) (fun x hx31 cx => ?_)
  · skip
    refine lv_iconst (v := nI 0) hx hb dX2_wouldHold_17 (by decide) ?_
    exact cZ_ret S hr hlk X (by omega) dX2_wouldHold_18 ⟨⟨fd, hd, st, rfl, ⟨hw, hn, htk, hok, hct, hfc, hh⟩, hF⟩, congrArg nI (fl_b_f (fun ⟨t, q1, q2, _⟩ => nI_neg c1 (show t ≤ 1000 by omega) q1)).symm⟩
  · subst cx
    refine lv_iload_n hx hb dX2_wouldHold_4 rfl (lv_at hl 1 rfl) ?_
    refine lv_bipush (v := nI 15) hx hb dX2_wouldHold_5 (by decide) ?_
    refine mn_icmp_gt (tgt := 17) hx hb (by omega) (by omega) dX2_wouldHold_7 (by decide) (fun c7 => ?_) (fun c7 => ?_)
    · skip
      refine lv_iconst (v := nI 0) hx hb dX2_wouldHold_17 (by decide) ?_
      exact cZ_ret S hr hlk X (by omega) dX2_wouldHold_18 ⟨⟨fd, hd, st, rfl, ⟨hw, hn, htk, hok, hct, hfc, hh⟩, hF⟩, congrArg nI (fl_b_f (fun ⟨t, q1, q2, _⟩ => by have := nI_inj hx31 (show t ≤ 1000 by omega) q1; omega)).symm⟩
    · skip
      refine lv_aload_n hx hb dX2_wouldHold_10 rfl (lv_at hl 0 rfl) ?_
      refine cI_call (n := 0) (As := []) (rest := []) S X hA (mM_complete l D a kc hn htk hok) (lw_V q217 q218 q219 q14 q220) rfl rfl (by decide +kernel) ⟨Nat.le_of_ble_eq_true rfl, Nat.le_of_ble_eq_true rfl⟩ rfl rfl hl.1 rfl rfl (Nat.le_of_ble_eq_true rfl) dX2_wouldHold_11 ⟨Nat.zero_le _, Nat.zero_le _⟩ (fun r w1 H locs hq X => ?_)
      obtain ⟨rfl, hq⟩ := hq
      rcases hq with ⟨hq1, rfl⟩ | ⟨hq1, rfl⟩
      · refine mn_if_ne (tgt := 19) hx hb (by decide) dX2_wouldHold_14 (by decide) (fun c14 => ?_) (fun c14 => absurd c14 (by decide))
        refine lv_aload_n hx hb dX2_wouldHold_19 rfl (lv_at hl 0 rfl) ?_
        refine gM_fc S X dX2_wouldHold_20 ?_
        refine lv_aload_n hx hb dX2_wouldHold_23 rfl (lv_at hl 0 rfl) ?_
        refine gM_ct S X dX2_wouldHold_24 ?_
        refine lv_iload_n hx hb dX2_wouldHold_27 rfl (lv_at hl 1 rfl) ?_
        refine sM_fc S X (by omega) dX2_wouldHold_28 (fun H locs X => ?_)
        refine lv_aload_n hx hb dX2_wouldHold_29 rfl (lv_at hl 0 rfl) ?_
        refine lv_aload_n hx hb dX2_wouldHold_30 rfl (lv_at hl 0 rfl) ?_
        refine gM_ct S X dX2_wouldHold_31 ?_
        refine lv_iconst (v := nI 1) hx hb dX2_wouldHold_34 (by decide) ?_
        refine mn_iadd hx hb dX2_wouldHold_35 ?_
        have hU : ∀ u, u < ct + 1 → va_up fd ct x u = va_up fc ct x u := by
          intro u hu
          by_cases e : u = ct
          · rw [e, va_up_self, va_up_self]
          · rw [va_up_ne fd _ e, va_up_ne fc _ e]
            exact hF u (by omega)
        refine cV_call (n := 1) (As := [.int (nI (ct + 1))]) (rest := []) S X hA (mM_work l D a kc (N := ct + 1) hn htk hok hq1 hw (by omega) (up_le hfc (by omega)) hh) (lw_V q254 q256 qs8 q14 q257) rfl rfl (by decide +kernel) ⟨Nat.le_of_ble_eq_true rfl, Nat.le_of_ble_eq_true rfl⟩ rfl rfl hl.1 rfl rfl (Nat.le_of_ble_eq_true rfl) dX2_wouldHold_36 ⟨Nat.zero_le _, Nat.zero_le _⟩ (fun w1 H locs hq X => ?_)
        obtain ⟨hd1, st1, rfl, h2, hT⟩ := hq
        have htf : ∀ t, t < ct + 1 → hd1 t = tf_ tk (va_up fc ct x) w n t := md_row (c := 0) htk hok hq1 h2 (by omega) hT hU
        refine lv_aload_n hx hb dX2_wouldHold_39 rfl (lv_at hl 0 rfl) ?_
        refine gM_hd S X dX2_wouldHold_40 ?_
        refine lv_aload_n hx hb dX2_wouldHold_43 rfl (lv_at hl 0 rfl) ?_
        refine gM_ct S X dX2_wouldHold_44 ?_
        refine lM_hd S X (by omega) dX2_wouldHold_47 ?_
        exact cZ_ret S hr hlk X (h2 ct (by omega)) dX2_wouldHold_48 ⟨⟨va_up fd ct x, hd1, st1, rfl, ⟨hw, hn, htk, hok, hct, up_le hfc (by omega), h2⟩, fun u hu => (va_up_ne fd x (show u ≠ ct by omega)).trans (hF u hu)⟩, congrArg nI ((htf ct (by omega)).trans (fl_b_congr ⟨fun q => ⟨x, rfl, by omega, hq1, q⟩, fun ⟨t, q1, q2, q3, q4⟩ => by have e1 := nI_inj hx31 (show t ≤ 1000 by omega) q1; subst e1; exact q4⟩))⟩
      · refine mn_if_ne (tgt := 19) hx hb (by decide) dX2_wouldHold_14 (by decide) (fun c14 => absurd rfl c14) (fun c14 => ?_)
        refine lv_iconst (v := nI 0) hx hb dX2_wouldHold_17 (by decide) ?_
        exact cZ_ret S hr hlk X (by omega) dX2_wouldHold_18 ⟨⟨fd, hd, st, rfl, ⟨hw, hn, htk, hok, hct, hfc, hh⟩, hF⟩, congrArg nI (fl_b_f (fun ⟨t, q1, q2, q3, _⟩ => hq1 q3)).symm⟩
section ALM
variable {p : Program} {l : Launch} {e : Env} {R : Room} {s : State} {m : MethodId} {args : Array Value} {below : List Frame} {meth : Method} {c : Code} {Q : State → Prop} {D : va_G} {A : Nat → Prop} {a : Nat → Nat} {kc : Nat → ClassId}
set_option maxHeartbeats 4000000 in
theorem lpM_allowed {w : Nat} {tk : Nat → Nat} {n : Nat} {fc : Nat → Nat} {ct : Nat} (S : CallFix p m c cX2_allowed 3 s args lw_all RX2) (hA : ∀ q : Nat, s.heap.size ≤ q → A q)
    (K : ∀ (w0 : va_W) (H : Heap) (locs : List Loc) (ls : Array Slot), md_R a kc w tk n fc ct w0 → wX D (tyM kc) A s H locs w0 → lv_has ls 3 [(1, .int (nI (fl_sum (fun x => wh_ tk fc w n ct (nI x)) 16)))] → W p l e (rm_ 5 126) s m args below meth c H locs 0 0 Q (F0 m 32 ls [])) :
    ∀ (d x c_ : Nat) (w0 : va_W) (H : Heap) (locs : List Loc) (ls : Array Slot), 16 - x < d → x ≤ 16 → c_ = (fl_sum (fun x => wh_ tk fc w n ct (nI x)) x) → md_R a kc w tk n fc ct w0 → wX D (tyM kc) A s H locs w0 → lv_has ls 3 [(2, .int (nI x)), (1, .int (nI c_)), (0, .ref (a 0))] → W p l e (rm_ 5 126) s m args below meth c H locs 0 0 Q (F0 m 4 ls []) := by
  have hx := S.1
  have hb := S.2.1
  intro d
  induction d with
  | zero =>
    intro x c_ w0 H locs ls hd_
    omega
  | succ d ih =>
    intro x c_ w0 H locs ls hd_ hxx hc h X hl
    obtain ⟨fd, hd, st, rfl, hI, hF⟩ := h
    obtain ⟨hw, hn, htk, hok, hct, hfc, hh⟩ := hI
    refine lv_iload_n hx hb dX2_allowed_4 rfl (lv_at hl 0 rfl) ?_
    refine lv_bipush (v := nI 16) hx hb dX2_allowed_5 (by decide) ?_
    refine mn_icmp_ge (tgt := 32) hx hb (by omega) (by omega) dX2_allowed_7 (by decide) (fun c7 => ?_) (fun c7 => ?_)
    · skip
      have e0 : x = 16 := by omega
      subst e0
      subst hc
      exact K _ H locs ls ⟨fd, hd, st, rfl, ⟨hw, hn, htk, hok, hct, hfc, hh⟩, hF⟩ X (lv_sub hl [1] rfl)
    · skip
      refine lv_iload_n hx hb dX2_allowed_10 rfl (lv_at hl 1 rfl) ?_
      refine lv_aload_n hx hb dX2_allowed_11 rfl (lv_at hl 2 rfl) ?_
      refine lv_iload_n hx hb dX2_allowed_12 rfl (lv_at hl 0 rfl) ?_
      refine cI_call (n := 1) (As := [.int (nI x)]) (rest := [.int (nI c_)]) S X hA (mM_wouldHold l D a kc (nI x) ⟨fd, hd, st, rfl, ⟨hw, hn, htk, hok, hct, hfc, hh⟩, hF⟩) (lw_V q291 q284 q285 q14 q286) rfl rfl (by decide +kernel) ⟨Nat.le_of_ble_eq_true rfl, Nat.le_of_ble_eq_true rfl⟩ rfl rfl hl.1 rfl rfl (Nat.le_of_ble_eq_true rfl) dX2_allowed_13 ⟨Nat.zero_le _, Nat.zero_le _⟩ (fun r w1 H locs hq X => ?_)
      obtain ⟨hR, rfl⟩ := hq
      have hbl : wh_ tk fc w n ct (nI x) < 2 := fl_b_lt _
      refine mn_if_eq (tgt := 23) hx hb (by omega) dX2_allowed_16 (by decide) (fun c16 => ?_) (fun c16 => ?_)
      · skip
        refine lv_iconst (v := nI 0) hx hb dX2_allowed_23 (by decide) ?_
        refine mn_iadd hx hb dX2_allowed_24 ?_
        refine lv_istore_n (lv' := [(1, .int (nI (c_ + 0))), (2, .int (nI x)), (0, .ref (a 0))]) hx hb dX2_allowed_25 rfl hl (by decide) rfl (fun ls hl => ?_)
        refine lv_iinc (v := nI (x + 1)) (lv' := [(2, .int (nI (x + 1))), (1, .int (nI (c_ + 0))), (0, .ref (a 0))]) hx hb dX2_allowed_26 hl (k := 1) rfl (nI_1 x) (by decide) rfl (fun ls hl => ?_)
        refine lv_goto (tgt := 4) hx hb dX2_allowed_29 (by decide) ?_
        exact ih (x + 1) _ _ _ _ _ (by omega) (by omega) (by rw [fl_sum_s]; omega) hR X (lv_sub hl [0, 1, 2] rfl)
      · skip
        refine lv_iconst (v := nI 1) hx hb dX2_allowed_19 (by decide) ?_
        refine lv_goto (tgt := 24) hx hb dX2_allowed_20 (by decide) ?_
        refine mn_iadd hx hb dX2_allowed_24 ?_
        refine lv_istore_n (lv' := [(1, .int (nI (c_ + 1))), (2, .int (nI x)), (0, .ref (a 0))]) hx hb dX2_allowed_25 rfl hl (by decide) rfl (fun ls hl => ?_)
        refine lv_iinc (v := nI (x + 1)) (lv' := [(2, .int (nI (x + 1))), (1, .int (nI (c_ + 1))), (0, .ref (a 0))]) hx hb dX2_allowed_26 hl (k := 1) rfl (nI_1 x) (by decide) rfl (fun ls hl => ?_)
        refine lv_goto (tgt := 4) hx hb dX2_allowed_29 (by decide) ?_
        exact ih (x + 1) _ _ _ _ _ (by omega) (by omega) (by rw [fl_sum_s]; omega) hR X (lv_sub hl [0, 1, 2] rfl)
end ALM
set_option maxHeartbeats 4000000 in
theorem mM_allowed (l : Launch) (D : va_G) (a : Nat → Nat) (kc : Nat → ClassId) {w : Nat} {tk : Nat → Nat} {n : Nat} {fc : Nat → Nat} {ct : Nat} {w0 : va_W} (h : md_R a kc w tk n fc ct w0) : cI l D (tyM kc) yX2_allowed cX2_allowed 3 (some .int) (rm_ 5 126) [.ref (a 0)] w0 (fun r w1 => md_R a kc w tk n fc ct w1 ∧ r = al_ tk fc w n ct) := by
  refine cI_of (by decide) (Nat.le_of_ble_eq_true rfl) ?_
  intro p e s m below meth c ls S hr hlk X hA hl
  have hx := S.1
  have hb := S.2.1
  have hl : lv_has ls 3 [(0, .ref (a 0))] := hl
  refine lv_iconst (v := nI 0) hx hb dX2_allowed_0 (by decide) ?_
  refine lv_istore_n (lv' := [(1, .int (nI 0)), (0, .ref (a 0))]) hx hb dX2_allowed_1 rfl hl (by decide) rfl (fun ls hl => ?_)
  refine lv_iconst (v := nI 0) hx hb dX2_allowed_2 (by decide) ?_
  refine lv_istore_n (lv' := [(2, .int (nI 0)), (1, .int (nI 0)), (0, .ref (a 0))]) hx hb dX2_allowed_3 rfl hl (by decide) rfl (fun ls hl => ?_)
  refine lpM_allowed S hA (fun w1 H locs ls hR X hl => ?_) 17 0 0 _ _ _ ls (by omega) (by omega) rfl h X hl
  refine lv_iload_n hx hb dX2_allowed_32 rfl (lv_at hl 0 rfl) ?_
  exact cI_ret S hr hlk X dX2_allowed_33 ⟨hR, rfl⟩
end
section
set_option maxRecDepth 100000
theorem cI_mono {l : Launch} {D : va_G} {tys : List (ClassId × FieldType)} {y : MethodName} {b : ByteArray} {nL : Nat} {ret : Option FieldType} {rm : Room} {As : List Value} {w0 : va_W} {post post' : Int32 → va_W → Prop} (h : cI l D tys y b nL ret rm As w0 post) (hp : ∀ r w, post r w → post' r w) : cI l D tys y b nL ret rm As w0 post' := fun sz => MetFree.mono (h sz) (fun _ _ q => q) (fun _ _ _ _ _ q => q) (fun a s o s' _ q => by
  obtain ⟨⟨⟨r, u, h1, h2, h3⟩, h4⟩, h5⟩ := q
  exact ⟨⟨⟨r, u, h1, hp r u h2, h3⟩, h4⟩, h5⟩)
theorem cV_mono {l : Launch} {D : va_G} {tys : List (ClassId × FieldType)} {y : MethodName} {b : ByteArray} {nL : Nat} {rm : Room} {As : List Value} {w0 : va_W} {post post' : va_W → Prop} (h : cV l D tys y b nL rm As w0 post) (hp : ∀ w, post w → post' w) : cV l D tys y b nL rm As w0 post' := fun sz => MetFree.mono (h sz) (fun _ _ q => q) (fun _ _ _ _ _ q => q) (fun a s o s' _ q => by
  obtain ⟨⟨⟨u, h1, h2, h3⟩, h4⟩, h5⟩ := q
  exact ⟨⟨⟨u, h1, hp u h2, h3⟩, h4⟩, h5⟩)
theorem fl_Ok_up {tk : Nat → Nat} {n t : Nat} (hok : fl_Ok tk n) (hc : ¬ fl_op tk n = 0) : fl_Ok (va_up tk n t) (n + 1) := by
  intro j hj
  rw [fl_op_congr (tk' := tk) (n := j) (fun k hk => va_up_ne tk t (show k ≠ n by omega))]
  rcases Nat.lt_or_ge j n with q | q
  · exact hok j q
  · have e : j = n := by omega
    rw [e]
    omega
theorem fl_Ok_less {tk : Nat → Nat} {n m : Nat} (hok : fl_Ok tk n) (h : m ≤ n) : fl_Ok tk m := fun j hj => hok j (by omega)
set_option maxHeartbeats 4000000 in
theorem rP_feed (l : Launch) (D : va_G) (a : Nat → Nat) (kc : Nat → ClassId) (v : Int32) {w : Nat} {tk : Nat → Nat} {n : Nat} {fc : Nat → Nat} {ct : Nat} {w0 : va_W} (h : pm_R a kc w tk n fc ct w0) : cI l D (tyP kc) yX1_feed cX1_feed 2 (some .int) (rm_ 2 44) [.ref (a 0), .int v] w0 (fun r w1 => (∃ t, fd_ v tk n t ∧ r = nI (n + 1) ∧ pm_R a kc w (va_up tk n t) (n + 1) fc ct w1) ∨ ((∀ t, ¬ fd_ v tk n t) ∧ r = -1 ∧ pm_R a kc w tk n fc ct w1)) := by
  obtain ⟨sc, ot, ow, oc, jd, ta, vl, vb, me, sn, sv, sm, ss, rfl, hI⟩ := h
  obtain ⟨hw, hn, htk, hok, hct, hfc, hjd, hjd2⟩ := hI
  refine cI_mono (mP_feed l D a kc v hn htk hok) (fun r w1 hq => ?_)
  rcases hq with ⟨t, ht, hr, oc1, sc1, ot1, ow1, rfl⟩ | ⟨ht, hr, oc1, sc1, ot1, ow1, rfl⟩
  · exact Or.inl ⟨t, ht, hr, sc1, ot1, ow1, oc1, 0, ta, vl, vb, me, sn, sv, sm, ss, rfl, hw, ht.2.2.1, up_le htk ht.2.1, fl_Ok_up hok ht.2.2.2, hct, hfc, Nat.zero_le _, fun q => absurd q (by omega)⟩
  · exact Or.inr ⟨ht, hr, sc1, ot1, ow1, oc1, jd, ta, vl, vb, me, sn, sv, sm, ss, rfl, hw, hn, htk, hok, hct, hfc, hjd, hjd2⟩
set_option maxHeartbeats 4000000 in
theorem rM_feed (l : Launch) (D : va_G) (a : Nat → Nat) (kc : Nat → ClassId) (v : Int32) {w : Nat} {tk : Nat → Nat} {n : Nat} {fc : Nat → Nat} {ct : Nat} {w0 : va_W} (h : md_R a kc w tk n fc ct w0) : cI l D (tyM kc) yX2_feed cX2_feed 2 (some .int) (rm_ 1 23) [.ref (a 0), .int v] w0 (fun r w1 => (∃ t, fd_ v tk n t ∧ r = nI (n + 1) ∧ md_R a kc w (va_up tk n t) (n + 1) fc ct w1) ∨ ((∀ t, ¬ fd_ v tk n t) ∧ r = -1 ∧ md_R a kc w tk n fc ct w1)) := by
  obtain ⟨fd, hd, st, rfl, hI, hF⟩ := h
  obtain ⟨hw, hn, htk, hok, hct, hfc, hh⟩ := hI
  refine cI_mono (mM_feed l D a kc v hn htk hok) (fun r w1 hq => ?_)
  rcases hq with ⟨t, ht, hr, rfl⟩ | ⟨ht, hr, rfl⟩
  · exact Or.inl ⟨t, ht, hr, fd, hd, st, rfl, ⟨hw, ht.2.2.1, up_le htk ht.2.1, fl_Ok_up hok ht.2.2.2, hct, hfc, hh⟩, hF⟩
  · exact Or.inr ⟨ht, hr, fd, hd, st, rfl, ⟨hw, hn, htk, hok, hct, hfc, hh⟩, hF⟩
set_option maxHeartbeats 4000000 in
theorem rP_back (l : Launch) (D : va_G) (a : Nat → Nat) (kc : Nat → ClassId) {w : Nat} {tk : Nat → Nat} {n : Nat} {fc : Nat → Nat} {ct : Nat} {w0 : va_W} (h : pm_R a kc w tk n fc ct w0) : cI l D (tyP kc) yX1_back cX1_back 1 (some .int) (rm_ 0 0) [.ref (a 0)] w0 (fun r w1 => (n = 0 ∧ r = -1 ∧ pm_R a kc w tk n fc ct w1) ∨ (0 < n ∧ r = nI (tk (n - 1)) ∧ pm_R a kc w tk (n - 1) fc ct w1)) := by
  obtain ⟨sc, ot, ow, oc, jd, ta, vl, vb, me, sn, sv, sm, ss, rfl, hI⟩ := h
  obtain ⟨hw, hn, htk, hok, hct, hfc, hjd, hjd2⟩ := hI
  refine cI_mono (mP_back l D a kc hn) (fun r w1 hq => ?_)
  rcases hq with ⟨h0, hr, rfl⟩ | ⟨h0, hr, rfl⟩
  · exact Or.inl ⟨h0, hr, ⟨sc, ot, ow, oc, jd, ta, vl, vb, me, sn, sv, sm, ss, rfl, hw, hn, htk, hok, hct, hfc, hjd, hjd2⟩⟩
  · exact Or.inr ⟨h0, hr, sc, ot, ow, oc, 0, ta, vl, vb, me, sn, sv, sm, ss, rfl, hw, by omega, htk, fl_Ok_less hok (by omega), hct, hfc, Nat.zero_le _, fun q => absurd q (by omega)⟩
set_option maxHeartbeats 4000000 in
theorem rM_back (l : Launch) (D : va_G) (a : Nat → Nat) (kc : Nat → ClassId) {w : Nat} {tk : Nat → Nat} {n : Nat} {fc : Nat → Nat} {ct : Nat} {w0 : va_W} (h : md_R a kc w tk n fc ct w0) : cI l D (tyM kc) yX2_back cX2_back 1 (some .int) (rm_ 0 0) [.ref (a 0)] w0 (fun r w1 => (n = 0 ∧ r = -1 ∧ md_R a kc w tk n fc ct w1) ∨ (0 < n ∧ r = nI (tk (n - 1)) ∧ md_R a kc w tk (n - 1) fc ct w1)) := by
  obtain ⟨fd, hd, st, rfl, hI, hF⟩ := h
  obtain ⟨hw, hn, htk, hok, hct, hfc, hh⟩ := hI
  refine cI_mono (mM_back l D a kc hn) (fun r w1 hq => ?_)
  rcases hq with ⟨h0, hr, rfl⟩ | ⟨h0, hr, rfl⟩
  · exact Or.inl ⟨h0, hr, fd, hd, st, rfl, ⟨hw, hn, htk, hok, hct, hfc, hh⟩, hF⟩
  · exact Or.inr ⟨h0, hr, fd, hd, st, rfl, ⟨hw, by omega, htk, fl_Ok_less hok (by omega), hct, hfc, hh⟩, hF⟩
set_option maxHeartbeats 4000000 in
theorem rP_complete (l : Launch) (D : va_G) (a : Nat → Nat) (kc : Nat → ClassId) {w : Nat} {tk : Nat → Nat} {n : Nat} {fc : Nat → Nat} {ct : Nat} {w0 : va_W} (h : pm_R a kc w tk n fc ct w0) : cI l D (tyP kc) yX1_complete cX1_complete 3 (some .boolean) (rm_ 1 22) [.ref (a 0)] w0 (fun r w1 => pm_R a kc w tk n fc ct w1 ∧ r = nI (fl_b (fl_op tk n = 0))) := by
  obtain ⟨sc, ot, ow, oc, jd, ta, vl, vb, me, sn, sv, sm, ss, rfl, hI⟩ := h
  obtain ⟨hw, hn, htk, hok, hct, hfc, hjd, hjd2⟩ := hI
  refine cI_mono (mP_complete l D a kc hn htk hok) (fun r w1 hq => ?_)
  obtain ⟨oc1, sc1, ot1, ow1, rfl, hq⟩ := hq
  refine ⟨⟨sc1, ot1, ow1, oc1, jd, ta, vl, vb, me, sn, sv, sm, ss, rfl, hw, hn, htk, hok, hct, hfc, hjd, hjd2⟩, ?_⟩
  rcases hq with ⟨h0, hr, -⟩ | ⟨h0, hr⟩
  · rw [hr, fl_b_t h0]
  · rw [hr, fl_b_f h0]
set_option maxHeartbeats 4000000 in
theorem rM_complete (l : Launch) (D : va_G) (a : Nat → Nat) (kc : Nat → ClassId) {w : Nat} {tk : Nat → Nat} {n : Nat} {fc : Nat → Nat} {ct : Nat} {w0 : va_W} (h : md_R a kc w tk n fc ct w0) : cI l D (tyM kc) yX2_complete cX2_complete 4 (some .boolean) (rm_ 0 0) [.ref (a 0)] w0 (fun r w1 => md_R a kc w tk n fc ct w1 ∧ r = nI (fl_b (fl_op tk n = 0))) := by
  obtain ⟨fd, hd, st, rfl, hI, hF⟩ := h
  obtain ⟨hw, hn, htk, hok, hct, hfc, hh⟩ := hI
  refine cI_mono (mM_complete l D a kc hn htk hok) (fun r w1 hq => ?_)
  obtain ⟨rfl, hq⟩ := hq
  refine ⟨⟨fd, hd, st, rfl, ⟨hw, hn, htk, hok, hct, hfc, hh⟩, hF⟩, ?_⟩
  rcases hq with ⟨h0, hr⟩ | ⟨h0, hr⟩
  · rw [hr, fl_b_t h0]
  · rw [hr, fl_b_f h0]
set_option maxHeartbeats 4000000 in
theorem rP_window (l : Launch) (D : va_G) (a : Nat → Nat) (kc : Nat → ClassId) {w : Nat} {tk : Nat → Nat} {n : Nat} {fc : Nat → Nat} {ct : Nat} {w0 : va_W} (h : pm_R a kc w tk n fc ct w0) : cI l D (tyP kc) yX1_window cX1_window 1 (some .int) (rm_ 0 0) [.ref (a 0)] w0 (fun r w1 => pm_R a kc w tk n fc ct w1 ∧ r = nI w) := by
  obtain ⟨sc, ot, ow, oc, jd, ta, vl, vb, me, sn, sv, sm, ss, rfl, hI⟩ := h
  obtain ⟨hw, hn, htk, hok, hct, hfc, hjd, hjd2⟩ := hI
  refine cI_mono (mP_window l D a kc) (fun r w1 hq => ?_)
  obtain ⟨hr, rfl⟩ := hq
  exact ⟨⟨sc, ot, ow, oc, jd, ta, vl, vb, me, sn, sv, sm, ss, rfl, hw, hn, htk, hok, hct, hfc, hjd, hjd2⟩, hr⟩
set_option maxHeartbeats 4000000 in
theorem rM_window (l : Launch) (D : va_G) (a : Nat → Nat) (kc : Nat → ClassId) {w : Nat} {tk : Nat → Nat} {n : Nat} {fc : Nat → Nat} {ct : Nat} {w0 : va_W} (h : md_R a kc w tk n fc ct w0) : cI l D (tyM kc) yX2_window cX2_window 1 (some .int) (rm_ 0 0) [.ref (a 0)] w0 (fun r w1 => md_R a kc w tk n fc ct w1 ∧ r = nI w) := by
  obtain ⟨fd, hd, st, rfl, hI, hF⟩ := h
  obtain ⟨hw, hn, htk, hok, hct, hfc, hh⟩ := hI
  refine cI_mono (mM_window l D a kc) (fun r w1 hq => ?_)
  obtain ⟨hr, rfl⟩ := hq
  exact ⟨⟨fd, hd, st, rfl, ⟨hw, hn, htk, hok, hct, hfc, hh⟩, hF⟩, hr⟩
set_option maxHeartbeats 4000000 in
theorem rP_events (l : Launch) (D : va_G) (a : Nat → Nat) (kc : Nat → ClassId) {w : Nat} {tk : Nat → Nat} {n : Nat} {fc : Nat → Nat} {ct : Nat} {w0 : va_W} (h : pm_R a kc w tk n fc ct w0) : cI l D (tyP kc) yX1_events cX1_events 1 (some .int) (rm_ 0 0) [.ref (a 0)] w0 (fun r w1 => pm_R a kc w tk n fc ct w1 ∧ r = nI ct) := by
  obtain ⟨sc, ot, ow, oc, jd, ta, vl, vb, me, sn, sv, sm, ss, rfl, hI⟩ := h
  obtain ⟨hw, hn, htk, hok, hct, hfc, hjd, hjd2⟩ := hI
  refine cI_mono (mP_events l D a kc) (fun r w1 hq => ?_)
  obtain ⟨hr, rfl⟩ := hq
  exact ⟨⟨sc, ot, ow, oc, jd, ta, vl, vb, me, sn, sv, sm, ss, rfl, hw, hn, htk, hok, hct, hfc, hjd, hjd2⟩, hr⟩
set_option maxHeartbeats 4000000 in
theorem rM_events (l : Launch) (D : va_G) (a : Nat → Nat) (kc : Nat → ClassId) {w : Nat} {tk : Nat → Nat} {n : Nat} {fc : Nat → Nat} {ct : Nat} {w0 : va_W} (h : md_R a kc w tk n fc ct w0) : cI l D (tyM kc) yX2_events cX2_events 1 (some .int) (rm_ 0 0) [.ref (a 0)] w0 (fun r w1 => md_R a kc w tk n fc ct w1 ∧ r = nI ct) := by
  obtain ⟨fd, hd, st, rfl, hI, hF⟩ := h
  obtain ⟨hw, hn, htk, hok, hct, hfc, hh⟩ := hI
  refine cI_mono (mM_events l D a kc) (fun r w1 hq => ?_)
  obtain ⟨hr, rfl⟩ := hq
  exact ⟨⟨fd, hd, st, rfl, ⟨hw, hn, htk, hok, hct, hfc, hh⟩, hF⟩, hr⟩
set_option maxHeartbeats 4000000 in
theorem rP_event (l : Launch) (D : va_G) (a : Nat → Nat) (kc : Nat → ClassId) (v : Int32) {w : Nat} {tk : Nat → Nat} {n : Nat} {fc : Nat → Nat} {ct : Nat} {w0 : va_W} (h : pm_R a kc w tk n fc ct w0) : cI l D (tyP kc) yX1_event cX1_event 2 (some .int) (rm_ 0 0) [.ref (a 0), .int v] w0 (fun r w1 => (∃ t, v = nI t ∧ t ≤ 15 ∧ ct < 200 ∧ r = nI ct ∧ pm_R a kc w tk n (va_up fc ct t) (ct + 1) w1) ∨ ((∃ t, v = nI t ∧ t ≤ 15) ∧ 200 ≤ ct ∧ r = -2 ∧ pm_R a kc w tk n fc ct w1) ∨ ((∀ t, ¬ (v = nI t ∧ t ≤ 15)) ∧ r = -1 ∧ pm_R a kc w tk n fc ct w1)) := by
  obtain ⟨sc, ot, ow, oc, jd, ta, vl, vb, me, sn, sv, sm, ss, rfl, hI⟩ := h
  obtain ⟨hw, hn, htk, hok, hct, hfc, hjd, hjd2⟩ := hI
  refine cI_mono (mP_event l D a kc v hct) (fun r w1 hq => ?_)
  rcases hq with ⟨t, h1, h2, h3, hr, rfl⟩ | ⟨h1, h2, hr, rfl⟩ | ⟨h1, hr, rfl⟩
  · refine Or.inl ⟨t, h1, h2, h3, hr, sc, ot, ow, oc, jd, ta, vl, vb, me, sn, sv, sm, ss, rfl, hw, hn, htk, hok, by omega, up_le hfc h2, by omega, fun q => ?_⟩
    obtain ⟨sc0, M, k1, k2, k3, k4⟩ := hjd2 q
    exact ⟨sc0, M, k1, k2.facts htk (fun u hu => (va_up_ne fc t (show u ≠ ct by omega)).symm), k3, k4⟩
  · exact Or.inr (Or.inl ⟨h1, h2, hr, ⟨sc, ot, ow, oc, jd, ta, vl, vb, me, sn, sv, sm, ss, rfl, hw, hn, htk, hok, hct, hfc, hjd, hjd2⟩⟩)
  · exact Or.inr (Or.inr ⟨h1, hr, ⟨sc, ot, ow, oc, jd, ta, vl, vb, me, sn, sv, sm, ss, rfl, hw, hn, htk, hok, hct, hfc, hjd, hjd2⟩⟩)
set_option maxHeartbeats 4000000 in
theorem rM_event (l : Launch) (D : va_G) (a : Nat → Nat) (kc : Nat → ClassId) (v : Int32) {w : Nat} {tk : Nat → Nat} {n : Nat} {fc : Nat → Nat} {ct : Nat} {w0 : va_W} (h : md_R a kc w tk n fc ct w0) : cI l D (tyM kc) yX2_event cX2_event 2 (some .int) (rm_ 0 0) [.ref (a 0), .int v] w0 (fun r w1 => (∃ t, v = nI t ∧ t ≤ 15 ∧ ct < 200 ∧ r = nI ct ∧ md_R a kc w tk n (va_up fc ct t) (ct + 1) w1) ∨ ((∃ t, v = nI t ∧ t ≤ 15) ∧ 200 ≤ ct ∧ r = -2 ∧ md_R a kc w tk n fc ct w1) ∨ ((∀ t, ¬ (v = nI t ∧ t ≤ 15)) ∧ r = -1 ∧ md_R a kc w tk n fc ct w1)) := by
  obtain ⟨fd, hd, st, rfl, hI, hF⟩ := h
  obtain ⟨hw, hn, htk, hok, hct, hfc, hh⟩ := hI
  refine cI_mono (mM_event l D a kc v hct) (fun r w1 hq => ?_)
  rcases hq with ⟨t, h1, h2, h3, hr, rfl⟩ | ⟨h1, h2, hr, rfl⟩ | ⟨h1, hr, rfl⟩
  · refine Or.inl ⟨t, h1, h2, h3, hr, va_up fd ct t, hd, st, rfl, ⟨hw, hn, htk, hok, by omega, up_le hfc h2, hh⟩, fun u hu => ?_⟩
    by_cases e : u = ct
    · rw [e, va_up_self, va_up_self]
    · rw [va_up_ne fd _ e, va_up_ne fc _ e]
      exact hF u (by omega)
  · exact Or.inr (Or.inl ⟨h1, h2, hr, fd, hd, st, rfl, ⟨hw, hn, htk, hok, hct, hfc, hh⟩, hF⟩)
  · exact Or.inr (Or.inr ⟨h1, hr, fd, hd, st, rfl, ⟨hw, hn, htk, hok, hct, hfc, hh⟩, hF⟩)
set_option maxHeartbeats 4000000 in
theorem rP_undo (l : Launch) (D : va_G) (a : Nat → Nat) (kc : Nat → ClassId) {w : Nat} {tk : Nat → Nat} {n : Nat} {fc : Nat → Nat} {ct : Nat} {w0 : va_W} (h : pm_R a kc w tk n fc ct w0) : cI l D (tyP kc) yX1_undo cX1_undo 1 (some .int) (rm_ 0 0) [.ref (a 0)] w0 (fun r w1 => (ct = 0 ∧ r = -1 ∧ pm_R a kc w tk n fc ct w1) ∨ (0 < ct ∧ r = nI (ct - 1) ∧ pm_R a kc w tk n fc (ct - 1) w1)) := by
  obtain ⟨sc, ot, ow, oc, jd, ta, vl, vb, me, sn, sv, sm, ss, rfl, hI⟩ := h
  obtain ⟨hw, hn, htk, hok, hct, hfc, hjd, hjd2⟩ := hI
  refine cI_mono (mP_undo l D a kc hct (by omega)) (fun r w1 hq => ?_)
  rcases hq with ⟨h0, hr, rfl⟩ | ⟨h0, hr, rfl⟩
  · exact Or.inl ⟨h0, hr, ⟨sc, ot, ow, oc, jd, ta, vl, vb, me, sn, sv, sm, ss, rfl, hw, hn, htk, hok, hct, hfc, hjd, hjd2⟩⟩
  · refine Or.inr ⟨h0, hr, sc, ot, ow, oc, (if ct - 1 < jd then 0 else jd), ta, vl, vb, me, sn, sv, sm, ss, rfl, hw, hn, htk, hok, by omega, hfc, ?_, ?_⟩
    · split <;> omega
    · split
      · exact fun q => absurd q (by omega)
      · exact hjd2
set_option maxHeartbeats 4000000 in
theorem rM_undo (l : Launch) (D : va_G) (a : Nat → Nat) (kc : Nat → ClassId) {w : Nat} {tk : Nat → Nat} {n : Nat} {fc : Nat → Nat} {ct : Nat} {w0 : va_W} (h : md_R a kc w tk n fc ct w0) : cI l D (tyM kc) yX2_undo cX2_undo 1 (some .int) (rm_ 0 0) [.ref (a 0)] w0 (fun r w1 => (ct = 0 ∧ r = -1 ∧ md_R a kc w tk n fc ct w1) ∨ (0 < ct ∧ r = nI (ct - 1) ∧ md_R a kc w tk n fc (ct - 1) w1)) := by
  obtain ⟨fd, hd, st, rfl, hI, hF⟩ := h
  obtain ⟨hw, hn, htk, hok, hct, hfc, hh⟩ := hI
  refine cI_mono (mM_undo l D a kc hct) (fun r w1 hq => ?_)
  rcases hq with ⟨h0, hr, rfl⟩ | ⟨h0, hr, rfl⟩
  · exact Or.inl ⟨h0, hr, fd, hd, st, rfl, ⟨hw, hn, htk, hok, hct, hfc, hh⟩, hF⟩
  · exact Or.inr ⟨h0, hr, fd, hd, st, rfl, ⟨hw, hn, htk, hok, by omega, hfc, hh⟩, fun u hu => hF u (by omega)⟩
set_option maxHeartbeats 4000000 in
theorem rP_restart (l : Launch) (D : va_G) (a : Nat → Nat) (kc : Nat → ClassId) {w : Nat} {tk : Nat → Nat} {n : Nat} {fc : Nat → Nat} {ct : Nat} {w0 : va_W} (h : pm_R a kc w tk n fc ct w0) : cV l D (tyP kc) yX1_restart cX1_restart 1 (rm_ 0 0) [.ref (a 0)] w0 (fun w1 => pm_R a kc w tk n fc 0 w1) := by
  obtain ⟨sc, ot, ow, oc, jd, ta, vl, vb, me, sn, sv, sm, ss, rfl, hI⟩ := h
  obtain ⟨hw, hn, htk, hok, hct, hfc, hjd, hjd2⟩ := hI
  refine cV_mono (mP_restart l D a kc) (fun w1 hq => ?_)
  subst hq
  exact ⟨sc, ot, ow, oc, 0, ta, vl, vb, me, sn, sv, sm, ss, rfl, hw, hn, htk, hok, Nat.zero_le _, hfc, Nat.le_refl _, fun q => absurd q (by omega)⟩
set_option maxHeartbeats 4000000 in
theorem rM_restart (l : Launch) (D : va_G) (a : Nat → Nat) (kc : Nat → ClassId) {w : Nat} {tk : Nat → Nat} {n : Nat} {fc : Nat → Nat} {ct : Nat} {w0 : va_W} (h : md_R a kc w tk n fc ct w0) : cV l D (tyM kc) yX2_restart cX2_restart 1 (rm_ 0 0) [.ref (a 0)] w0 (fun w1 => md_R a kc w tk n fc 0 w1) := by
  obtain ⟨fd, hd, st, rfl, hI, hF⟩ := h
  obtain ⟨hw, hn, htk, hok, hct, hfc, hh⟩ := hI
  refine cV_mono (mM_restart l D a kc) (fun w1 hq => ?_)
  subst hq
  exact ⟨fd, hd, st, rfl, ⟨hw, hn, htk, hok, Nat.zero_le _, hfc, hh⟩, fun u hu => absurd hu (by omega)⟩
end
section
set_option maxRecDepth 100000
def cw_ (v : Int32) : Nat := if v < 0 then 0 else if 12 < v.toNatClampNeg then 12 else v.toNatClampNeg
theorem cw_le (v : Int32) : cw_ v ≤ 12 := by
  unfold cw_
  repeat' split
  all_goals omega
theorem z_n (N : Nat) (cA : ClassId) (ty : FieldType) (h : defaultValue ty = .int 0) : vp_cell cA (N, .inl (nF (fun _ => 0))) = arrV cA N (fun _ => defaultValue ty) := by
  have e : nF (fun _ => 0) = fun _ => 0 := by
    funext j
    show nI 0 = 0
    decide
  rw [e, h]
  rfl
theorem z_s (cA : ClassId) : vp_cell cA (14, .inl (lF (fun _ => 1))) = arrV cA 14 (fun _ => defaultValue .short) := by
  have e : lF (fun _ => 1) = fun _ => 0 := by
    funext j
    show nI 1 - 1 = 0
    decide
  rw [e]
  rfl
def adP (x0 x1 x3 x4 x5 x7 x10 x11 x12 x13 x14 x15 x16 x17 : Nat) : Nat → Nat := fun k => match k with
  | 0 => x0
  | 1 => x1
  | 3 => x3
  | 4 => x4
  | 5 => x5
  | 7 => x7
  | 10 => x10
  | 11 => x11
  | 12 => x12
  | 13 => x13
  | 14 => x14
  | 15 => x15
  | 16 => x16
  | _ => x17
def kcP (x1 x3 x4 x5 x7 x10 x11 x12 x13 x14 x15 x16 x17 : ClassId) : Nat → ClassId := fun k => match k with
  | 1 => x1
  | 3 => x3
  | 4 => x4
  | 5 => x5
  | 7 => x7
  | 10 => x10
  | 11 => x11
  | 12 => x12
  | 13 => x13
  | 14 => x14
  | 15 => x15
  | 16 => x16
  | _ => x17
def adM (x0 x2 x4 x5 x6 : Nat) : Nat → Nat := fun k => match k with
  | 0 => x0
  | 2 => x2
  | 4 => x4
  | 5 => x5
  | _ => x6
def kcM (x2 x4 x5 x6 : ClassId) : Nat → ClassId := fun k => match k with
  | 2 => x2
  | 4 => x4
  | 5 => x5
  | _ => x6
set_option maxHeartbeats 4000000 in
theorem mP_init (l : Launch) (D : va_G) (h sz : Nat) (v : Int32) : Met l yX1_init (ws_ yX1_init cX1_init 2 none) ({ frames := 1, cells := 13, slots := 362, locals := 12 } : Room) (va_Pc [.ref h, .int v] (cP D [] [(h, .inr (0, [.int 0, .null, .int 0, .null, .null, .null, .int 0, .null, .int 0, .int 0, .null, .null, .null, .null, .null, .null, .null, .null]))] sz)) (va_Qv (fun u : (Nat → Nat) × (Nat → ClassId) => u.1 0 = h) (fun u t => cB D (tyP u.2) [(h, .inr (0, [.int 0, .null, .int 0, .null, .null, .null, .int 0, .null, .int 0, .int 0, .null, .null, .null, .null, .null, .null, .null, .null]))] sz (pmW u.1 u.2 (cw_ v) (fun _ => 0) 0 (fun _ => 0) (fun _ => 0) (fun _ => 0) 0 (fun _ => 0) 0 0 (fun _ => 0) (fun _ => 0) (fun _ => 0) (fun _ => 0) (fun _ => 1) (fun _ => 0) (fun _ => 0) (fun _ => 1)) t) (va_A [(h, .inr (0, [.int 0, .null, .int 0, .null, .null, .null, .int 0, .null, .int 0, .int 0, .null, .null, .null, .null, .null, .null, .null, .null]))] sz)) 13 362 (va_A [(h, .inr (0, [.int 0, .null, .int 0, .null, .null, .null, .int 0, .null, .int 0, .int 0, .null, .null, .null, .null, .null, .null, .null, .null]))] sz) := by
  refine Met.ofW (cc := cX1_init) (maxL := 2) (ret := none) (by decide) rfl ?_
  intro p e s m args below meth c s₁ B hml hv
  obtain ⟨rfl, hsz, hP, hK, hD0⟩ := hv
  have hx := B.exec
  have hb := B.bytes
  have hr := B.returns
  have hts := atoms_spec (ws := ws_ yX1_init cX1_init 2 none) B.pre
  have hts : ∀ w ∈ lw_all, w.before _ s = true := fun w h => hts w (List.mem_cons_of_mem _ h)
  have hown : s.vm.findClass RX1 = some m.cls := findClass_of_methodNamed B.named
  have hlk := B.notSynchronized
  have hin : meth.name = "<init>" := (name_of_methodNamed B.named B.method).1
  subst hsz
  have hD := hD0.self (sz := s.heap.size)
  generalize hAe : va_A [(h, .inr (0, [.int 0, .null, .int 0, .null, .null, .null, .int 0, .null, .int 0, .int 0, .null, .null, .null, .null, .null, .null, .null, .null]))] s.heap.size = A at hD ⊢
  have hA : ∀ q : Nat, s.heap.size ≤ q → A q := fun q h => by rw [← hAe]; exact Or.inr h
  have hS : va_S A s.heap s.heap [] := va_S.rf
  unfold cB
  rw [hAe]
  have hl := lv_entry ([.ref h, .int v]) (n := 2) (Nat.le_of_ble_eq_true rfl)
  rw [lg_entry_eq]
  generalize (lg_sl ([.ref h, .int v]) ++ List.replicate (2 - (lg_sl ([.ref h, .int v])).length) Slot.unset).toArray = ls at hl ⊢
  have hl : lv_has ls 2 [(0, .ref h), (1, .int v)] := hl
  refine lv_aload_n hx hb dX1_init_0 rfl (lv_at hl 0 rfl) ?_
  refine W.objInit hx hb hown (hts _ q20) (hts _ q21) (hts _ q22) rfl (by rw [hml]; exact hl.1) rfl dX1_init_1 (Nat.le_of_ble_eq_true rfl) (Nat.le_of_ble_eq_true rfl) ?_
  refine W.eq (g2 := F0 m 4 ls []) rfl ?_
  refine lv_aload_n hx hb dX1_init_4 rfl (lv_at hl 0 rfl) ?_
  refine lv_bipush (v := 14) hx hb dX1_init_5 (by decide) ?_
  refine va_newa (atype := .byte) (ty := .byte) (a0 := (14, .inl (nF (fun _ => 0)))) hx hb (hts _ q78) rfl hK hP hD hS hA (fun cA => z_n 14 cA _ rfl) (by decide) (by decide) (by decide) (Nat.le_of_ble_eq_true rfl) (Nat.le_of_ble_eq_true rfl) dX1_init_7 (fun y1 k1 H hK hP hD hS => ?_)
  have hP : va_P D vwCl [(h, .inr (0, [.int 0, .null, .int 0, .null, .null, .null, .int 0, .null, .int 0, .int 0, .null, .null, .null, .null, .null, .null, .null, .null])), (y1, .inl (k1, 14, .inl (nF (fun _ => 0))))] H := hP
  have hD : va_D A [(h, .inr (0, [.int 0, .null, .int 0, .null, .null, .null, .int 0, .null, .int 0, .int 0, .null, .null, .null, .null, .null, .null, .null, .null])), (y1, .inl (k1, 14, .inl (nF (fun _ => 0))))] := hD
  have hK : va_K D vwCl [(k1, .byte)] s := hK
  refine W.widen (k := 1) (n := 14) (by decide) (by decide) ?_
  refine va_putF (D := D) (ci := 0) (v := .ref y1) (ty := .array .byte) (C := RX1) (T := TX1) (N := 18) hx hb hts in_X1 tyX1 tyX1_ok nmX1 hown hK hP hD hS 0 rfl rfl 1 (by decide) (hts _ q24) (fun _ h9 => h9) rfl hin rfl (by decide +kernel) rfl rfl (Nat.le_of_ble_eq_true rfl) dX1_init_9 (fun H locs hP hD hS => ?_)
  have hP : va_P D vwCl [(h, .inr (0, [.int 0, .ref y1, .int 0, .null, .null, .null, .int 0, .null, .int 0, .int 0, .null, .null, .null, .null, .null, .null, .null, .null])), (y1, .inl (k1, 14, .inl (nF (fun _ => 0))))] H := hP
  have hD : va_D A [(h, .inr (0, [.int 0, .ref y1, .int 0, .null, .null, .null, .int 0, .null, .int 0, .int 0, .null, .null, .null, .null, .null, .null, .null, .null])), (y1, .inl (k1, 14, .inl (nF (fun _ => 0))))] := hD
  refine lv_aload_n hx hb dX1_init_12 rfl (lv_at hl 0 rfl) ?_
  refine lv_bipush (v := 14) hx hb dX1_init_13 (by decide) ?_
  refine va_newa (atype := .byte) (ty := .byte) (a0 := (14, .inl (nF (fun _ => 0)))) hx hb (hts _ q78) rfl hK hP hD hS hA (fun cA => z_n 14 cA _ rfl) (by decide) (by decide) (by decide) (Nat.le_of_ble_eq_true rfl) (Nat.le_of_ble_eq_true rfl) dX1_init_15 (fun y3 k3 H hK hP hD hS => ?_)
  have hP : va_P D vwCl [(h, .inr (0, [.int 0, .ref y1, .int 0, .null, .null, .null, .int 0, .null, .int 0, .int 0, .null, .null, .null, .null, .null, .null, .null, .null])), (y1, .inl (k1, 14, .inl (nF (fun _ => 0)))), (y3, .inl (k3, 14, .inl (nF (fun _ => 0))))] H := hP
  have hD : va_D A [(h, .inr (0, [.int 0, .ref y1, .int 0, .null, .null, .null, .int 0, .null, .int 0, .int 0, .null, .null, .null, .null, .null, .null, .null, .null])), (y1, .inl (k1, 14, .inl (nF (fun _ => 0)))), (y3, .inl (k3, 14, .inl (nF (fun _ => 0))))] := hD
  have hK : va_K D vwCl [(k1, .byte), (k3, .byte)] s := hK
  refine W.widen (k := 2) (n := 28) (by decide) (by decide) ?_
  refine va_putF (D := D) (ci := 0) (v := .ref y3) (ty := .array .byte) (C := RX1) (T := TX1) (N := 18) hx hb hts in_X1 tyX1 tyX1_ok nmX1 hown hK hP hD hS 0 rfl rfl 3 (by decide) (hts _ q26) (fun _ h9 => h9) rfl hin rfl (by decide +kernel) rfl rfl (Nat.le_of_ble_eq_true rfl) dX1_init_17 (fun H locs hP hD hS => ?_)
  have hP : va_P D vwCl [(h, .inr (0, [.int 0, .ref y1, .int 0, .ref y3, .null, .null, .int 0, .null, .int 0, .int 0, .null, .null, .null, .null, .null, .null, .null, .null])), (y1, .inl (k1, 14, .inl (nF (fun _ => 0)))), (y3, .inl (k3, 14, .inl (nF (fun _ => 0))))] H := hP
  have hD : va_D A [(h, .inr (0, [.int 0, .ref y1, .int 0, .ref y3, .null, .null, .int 0, .null, .int 0, .int 0, .null, .null, .null, .null, .null, .null, .null, .null])), (y1, .inl (k1, 14, .inl (nF (fun _ => 0)))), (y3, .inl (k3, 14, .inl (nF (fun _ => 0))))] := hD
  refine lv_aload_n hx hb dX1_init_20 rfl (lv_at hl 0 rfl) ?_
  refine lv_bipush (v := 16) hx hb dX1_init_21 (by decide) ?_
  refine va_newa (atype := .byte) (ty := .byte) (a0 := (16, .inl (nF (fun _ => 0)))) hx hb (hts _ q78) rfl hK hP hD hS hA (fun cA => z_n 16 cA _ rfl) (by decide) (by decide) (by decide) (Nat.le_of_ble_eq_true rfl) (Nat.le_of_ble_eq_true rfl) dX1_init_23 (fun y4 k4 H hK hP hD hS => ?_)
  have hP : va_P D vwCl [(h, .inr (0, [.int 0, .ref y1, .int 0, .ref y3, .null, .null, .int 0, .null, .int 0, .int 0, .null, .null, .null, .null, .null, .null, .null, .null])), (y1, .inl (k1, 14, .inl (nF (fun _ => 0)))), (y3, .inl (k3, 14, .inl (nF (fun _ => 0)))), (y4, .inl (k4, 16, .inl (nF (fun _ => 0))))] H := hP
  have hD : va_D A [(h, .inr (0, [.int 0, .ref y1, .int 0, .ref y3, .null, .null, .int 0, .null, .int 0, .int 0, .null, .null, .null, .null, .null, .null, .null, .null])), (y1, .inl (k1, 14, .inl (nF (fun _ => 0)))), (y3, .inl (k3, 14, .inl (nF (fun _ => 0)))), (y4, .inl (k4, 16, .inl (nF (fun _ => 0))))] := hD
  have hK : va_K D vwCl [(k1, .byte), (k3, .byte), (k4, .byte)] s := hK
  refine W.widen (k := 3) (n := 44) (by decide) (by decide) ?_
  refine va_putF (D := D) (ci := 0) (v := .ref y4) (ty := .array .byte) (C := RX1) (T := TX1) (N := 18) hx hb hts in_X1 tyX1 tyX1_ok nmX1 hown hK hP hD hS 0 rfl rfl 4 (by decide) (hts _ q27) (fun _ h9 => h9) rfl hin rfl (by decide +kernel) rfl rfl (Nat.le_of_ble_eq_true rfl) dX1_init_25 (fun H locs hP hD hS => ?_)
  have hP : va_P D vwCl [(h, .inr (0, [.int 0, .ref y1, .int 0, .ref y3, .ref y4, .null, .int 0, .null, .int 0, .int 0, .null, .null, .null, .null, .null, .null, .null, .null])), (y1, .inl (k1, 14, .inl (nF (fun _ => 0)))), (y3, .inl (k3, 14, .inl (nF (fun _ => 0)))), (y4, .inl (k4, 16, .inl (nF (fun _ => 0))))] H := hP
  have hD : va_D A [(h, .inr (0, [.int 0, .ref y1, .int 0, .ref y3, .ref y4, .null, .int 0, .null, .int 0, .int 0, .null, .null, .null, .null, .null, .null, .null, .null])), (y1, .inl (k1, 14, .inl (nF (fun _ => 0)))), (y3, .inl (k3, 14, .inl (nF (fun _ => 0)))), (y4, .inl (k4, 16, .inl (nF (fun _ => 0))))] := hD
  refine lv_aload_n hx hb dX1_init_28 rfl (lv_at hl 0 rfl) ?_
  refine lv_bipush (v := 16) hx hb dX1_init_29 (by decide) ?_
  refine va_newa (atype := .byte) (ty := .byte) (a0 := (16, .inl (nF (fun _ => 0)))) hx hb (hts _ q78) rfl hK hP hD hS hA (fun cA => z_n 16 cA _ rfl) (by decide) (by decide) (by decide) (Nat.le_of_ble_eq_true rfl) (Nat.le_of_ble_eq_true rfl) dX1_init_31 (fun y5 k5 H hK hP hD hS => ?_)
  have hP : va_P D vwCl [(h, .inr (0, [.int 0, .ref y1, .int 0, .ref y3, .ref y4, .null, .int 0, .null, .int 0, .int 0, .null, .null, .null, .null, .null, .null, .null, .null])), (y1, .inl (k1, 14, .inl (nF (fun _ => 0)))), (y3, .inl (k3, 14, .inl (nF (fun _ => 0)))), (y4, .inl (k4, 16, .inl (nF (fun _ => 0)))), (y5, .inl (k5, 16, .inl (nF (fun _ => 0))))] H := hP
  have hD : va_D A [(h, .inr (0, [.int 0, .ref y1, .int 0, .ref y3, .ref y4, .null, .int 0, .null, .int 0, .int 0, .null, .null, .null, .null, .null, .null, .null, .null])), (y1, .inl (k1, 14, .inl (nF (fun _ => 0)))), (y3, .inl (k3, 14, .inl (nF (fun _ => 0)))), (y4, .inl (k4, 16, .inl (nF (fun _ => 0)))), (y5, .inl (k5, 16, .inl (nF (fun _ => 0))))] := hD
  have hK : va_K D vwCl [(k1, .byte), (k3, .byte), (k4, .byte), (k5, .byte)] s := hK
  refine W.widen (k := 4) (n := 60) (by decide) (by decide) ?_
  refine va_putF (D := D) (ci := 0) (v := .ref y5) (ty := .array .byte) (C := RX1) (T := TX1) (N := 18) hx hb hts in_X1 tyX1 tyX1_ok nmX1 hown hK hP hD hS 0 rfl rfl 5 (by decide) (hts _ q28) (fun _ h9 => h9) rfl hin rfl (by decide +kernel) rfl rfl (Nat.le_of_ble_eq_true rfl) dX1_init_33 (fun H locs hP hD hS => ?_)
  have hP : va_P D vwCl [(h, .inr (0, [.int 0, .ref y1, .int 0, .ref y3, .ref y4, .ref y5, .int 0, .null, .int 0, .int 0, .null, .null, .null, .null, .null, .null, .null, .null])), (y1, .inl (k1, 14, .inl (nF (fun _ => 0)))), (y3, .inl (k3, 14, .inl (nF (fun _ => 0)))), (y4, .inl (k4, 16, .inl (nF (fun _ => 0)))), (y5, .inl (k5, 16, .inl (nF (fun _ => 0))))] H := hP
  have hD : va_D A [(h, .inr (0, [.int 0, .ref y1, .int 0, .ref y3, .ref y4, .ref y5, .int 0, .null, .int 0, .int 0, .null, .null, .null, .null, .null, .null, .null, .null])), (y1, .inl (k1, 14, .inl (nF (fun _ => 0)))), (y3, .inl (k3, 14, .inl (nF (fun _ => 0)))), (y4, .inl (k4, 16, .inl (nF (fun _ => 0)))), (y5, .inl (k5, 16, .inl (nF (fun _ => 0))))] := hD
  refine lv_aload_n hx hb dX1_init_36 rfl (lv_at hl 0 rfl) ?_
  refine lv_sipush (v := 200) hx hb dX1_init_37 (by decide) ?_
  refine va_newa (atype := .byte) (ty := .byte) (a0 := (200, .inl (nF (fun _ => 0)))) hx hb (hts _ q78) rfl hK hP hD hS hA (fun cA => z_n 200 cA _ rfl) (by decide) (by decide) (by decide) (Nat.le_of_ble_eq_true rfl) (Nat.le_of_ble_eq_true rfl) dX1_init_40 (fun y7 k7 H hK hP hD hS => ?_)
  have hP : va_P D vwCl [(h, .inr (0, [.int 0, .ref y1, .int 0, .ref y3, .ref y4, .ref y5, .int 0, .null, .int 0, .int 0, .null, .null, .null, .null, .null, .null, .null, .null])), (y1, .inl (k1, 14, .inl (nF (fun _ => 0)))), (y3, .inl (k3, 14, .inl (nF (fun _ => 0)))), (y4, .inl (k4, 16, .inl (nF (fun _ => 0)))), (y5, .inl (k5, 16, .inl (nF (fun _ => 0)))), (y7, .inl (k7, 200, .inl (nF (fun _ => 0))))] H := hP
  have hD : va_D A [(h, .inr (0, [.int 0, .ref y1, .int 0, .ref y3, .ref y4, .ref y5, .int 0, .null, .int 0, .int 0, .null, .null, .null, .null, .null, .null, .null, .null])), (y1, .inl (k1, 14, .inl (nF (fun _ => 0)))), (y3, .inl (k3, 14, .inl (nF (fun _ => 0)))), (y4, .inl (k4, 16, .inl (nF (fun _ => 0)))), (y5, .inl (k5, 16, .inl (nF (fun _ => 0)))), (y7, .inl (k7, 200, .inl (nF (fun _ => 0))))] := hD
  have hK : va_K D vwCl [(k1, .byte), (k3, .byte), (k4, .byte), (k5, .byte), (k7, .byte)] s := hK
  refine W.widen (k := 5) (n := 260) (by decide) (by decide) ?_
  refine va_putF (D := D) (ci := 0) (v := .ref y7) (ty := .array .byte) (C := RX1) (T := TX1) (N := 18) hx hb hts in_X1 tyX1 tyX1_ok nmX1 hown hK hP hD hS 0 rfl rfl 7 (by decide) (hts _ q30) (fun _ h9 => h9) rfl hin rfl (by decide +kernel) rfl rfl (Nat.le_of_ble_eq_true rfl) dX1_init_42 (fun H locs hP hD hS => ?_)
  have hP : va_P D vwCl [(h, .inr (0, [.int 0, .ref y1, .int 0, .ref y3, .ref y4, .ref y5, .int 0, .ref y7, .int 0, .int 0, .null, .null, .null, .null, .null, .null, .null, .null])), (y1, .inl (k1, 14, .inl (nF (fun _ => 0)))), (y3, .inl (k3, 14, .inl (nF (fun _ => 0)))), (y4, .inl (k4, 16, .inl (nF (fun _ => 0)))), (y5, .inl (k5, 16, .inl (nF (fun _ => 0)))), (y7, .inl (k7, 200, .inl (nF (fun _ => 0))))] H := hP
  have hD : va_D A [(h, .inr (0, [.int 0, .ref y1, .int 0, .ref y3, .ref y4, .ref y5, .int 0, .ref y7, .int 0, .int 0, .null, .null, .null, .null, .null, .null, .null, .null])), (y1, .inl (k1, 14, .inl (nF (fun _ => 0)))), (y3, .inl (k3, 14, .inl (nF (fun _ => 0)))), (y4, .inl (k4, 16, .inl (nF (fun _ => 0)))), (y5, .inl (k5, 16, .inl (nF (fun _ => 0)))), (y7, .inl (k7, 200, .inl (nF (fun _ => 0))))] := hD
  refine lv_aload_n hx hb dX1_init_45 rfl (lv_at hl 0 rfl) ?_
  refine lv_iconst (v := 4) hx hb dX1_init_46 (by decide) ?_
  refine va_newa (atype := .long) (ty := .long) (a0 := (4, .inr (.inl (fun _ => 0)))) hx hb (hts _ q79) rfl hK hP hD hS hA (fun _ => rfl) (by decide) (by decide) (by decide) (Nat.le_of_ble_eq_true rfl) (Nat.le_of_ble_eq_true rfl) dX1_init_47 (fun y10 k10 H hK hP hD hS => ?_)
  have hP : va_P D vwCl [(h, .inr (0, [.int 0, .ref y1, .int 0, .ref y3, .ref y4, .ref y5, .int 0, .ref y7, .int 0, .int 0, .null, .null, .null, .null, .null, .null, .null, .null])), (y1, .inl (k1, 14, .inl (nF (fun _ => 0)))), (y3, .inl (k3, 14, .inl (nF (fun _ => 0)))), (y4, .inl (k4, 16, .inl (nF (fun _ => 0)))), (y5, .inl (k5, 16, .inl (nF (fun _ => 0)))), (y7, .inl (k7, 200, .inl (nF (fun _ => 0)))), (y10, .inl (k10, 4, .inr (.inl (fun _ => 0))))] H := hP
  have hD : va_D A [(h, .inr (0, [.int 0, .ref y1, .int 0, .ref y3, .ref y4, .ref y5, .int 0, .ref y7, .int 0, .int 0, .null, .null, .null, .null, .null, .null, .null, .null])), (y1, .inl (k1, 14, .inl (nF (fun _ => 0)))), (y3, .inl (k3, 14, .inl (nF (fun _ => 0)))), (y4, .inl (k4, 16, .inl (nF (fun _ => 0)))), (y5, .inl (k5, 16, .inl (nF (fun _ => 0)))), (y7, .inl (k7, 200, .inl (nF (fun _ => 0)))), (y10, .inl (k10, 4, .inr (.inl (fun _ => 0))))] := hD
  have hK : va_K D vwCl [(k1, .byte), (k3, .byte), (k4, .byte), (k5, .byte), (k7, .byte), (k10, .long)] s := hK
  refine W.widen (k := 6) (n := 264) (by decide) (by decide) ?_
  refine va_putF (D := D) (ci := 0) (v := .ref y10) (ty := .array .long) (C := RX1) (T := TX1) (N := 18) hx hb hts in_X1 tyX1 tyX1_ok nmX1 hown hK hP hD hS 0 rfl rfl 10 (by decide) (hts _ q33) (fun _ h9 => h9) rfl hin rfl (by decide +kernel) rfl rfl (Nat.le_of_ble_eq_true rfl) dX1_init_49 (fun H locs hP hD hS => ?_)
  have hP : va_P D vwCl [(h, .inr (0, [.int 0, .ref y1, .int 0, .ref y3, .ref y4, .ref y5, .int 0, .ref y7, .int 0, .int 0, .ref y10, .null, .null, .null, .null, .null, .null, .null])), (y1, .inl (k1, 14, .inl (nF (fun _ => 0)))), (y3, .inl (k3, 14, .inl (nF (fun _ => 0)))), (y4, .inl (k4, 16, .inl (nF (fun _ => 0)))), (y5, .inl (k5, 16, .inl (nF (fun _ => 0)))), (y7, .inl (k7, 200, .inl (nF (fun _ => 0)))), (y10, .inl (k10, 4, .inr (.inl (fun _ => 0))))] H := hP
  have hD : va_D A [(h, .inr (0, [.int 0, .ref y1, .int 0, .ref y3, .ref y4, .ref y5, .int 0, .ref y7, .int 0, .int 0, .ref y10, .null, .null, .null, .null, .null, .null, .null])), (y1, .inl (k1, 14, .inl (nF (fun _ => 0)))), (y3, .inl (k3, 14, .inl (nF (fun _ => 0)))), (y4, .inl (k4, 16, .inl (nF (fun _ => 0)))), (y5, .inl (k5, 16, .inl (nF (fun _ => 0)))), (y7, .inl (k7, 200, .inl (nF (fun _ => 0)))), (y10, .inl (k10, 4, .inr (.inl (fun _ => 0))))] := hD
  refine lv_aload_n hx hb dX1_init_52 rfl (lv_at hl 0 rfl) ?_
  refine lv_bipush (v := 14) hx hb dX1_init_53 (by decide) ?_
  refine va_newa (atype := .boolean) (ty := .boolean) (a0 := (14, .inl (nF (fun _ => 0)))) hx hb (hts _ q80) rfl hK hP hD hS hA (fun cA => z_n 14 cA _ rfl) (by decide) (by decide) (by decide) (Nat.le_of_ble_eq_true rfl) (Nat.le_of_ble_eq_true rfl) dX1_init_55 (fun y11 k11 H hK hP hD hS => ?_)
  have hP : va_P D vwCl [(h, .inr (0, [.int 0, .ref y1, .int 0, .ref y3, .ref y4, .ref y5, .int 0, .ref y7, .int 0, .int 0, .ref y10, .null, .null, .null, .null, .null, .null, .null])), (y1, .inl (k1, 14, .inl (nF (fun _ => 0)))), (y3, .inl (k3, 14, .inl (nF (fun _ => 0)))), (y4, .inl (k4, 16, .inl (nF (fun _ => 0)))), (y5, .inl (k5, 16, .inl (nF (fun _ => 0)))), (y7, .inl (k7, 200, .inl (nF (fun _ => 0)))), (y10, .inl (k10, 4, .inr (.inl (fun _ => 0)))), (y11, .inl (k11, 14, .inl (nF (fun _ => 0))))] H := hP
  have hD : va_D A [(h, .inr (0, [.int 0, .ref y1, .int 0, .ref y3, .ref y4, .ref y5, .int 0, .ref y7, .int 0, .int 0, .ref y10, .null, .null, .null, .null, .null, .null, .null])), (y1, .inl (k1, 14, .inl (nF (fun _ => 0)))), (y3, .inl (k3, 14, .inl (nF (fun _ => 0)))), (y4, .inl (k4, 16, .inl (nF (fun _ => 0)))), (y5, .inl (k5, 16, .inl (nF (fun _ => 0)))), (y7, .inl (k7, 200, .inl (nF (fun _ => 0)))), (y10, .inl (k10, 4, .inr (.inl (fun _ => 0)))), (y11, .inl (k11, 14, .inl (nF (fun _ => 0))))] := hD
  have hK : va_K D vwCl [(k1, .byte), (k3, .byte), (k4, .byte), (k5, .byte), (k7, .byte), (k10, .long), (k11, .boolean)] s := hK
  refine W.widen (k := 7) (n := 278) (by decide) (by decide) ?_
  refine va_putF (D := D) (ci := 0) (v := .ref y11) (ty := .array .boolean) (C := RX1) (T := TX1) (N := 18) hx hb hts in_X1 tyX1 tyX1_ok nmX1 hown hK hP hD hS 0 rfl rfl 11 (by decide) (hts _ q34) (fun _ h9 => h9) rfl hin rfl (by decide +kernel) rfl rfl (Nat.le_of_ble_eq_true rfl) dX1_init_57 (fun H locs hP hD hS => ?_)
  have hP : va_P D vwCl [(h, .inr (0, [.int 0, .ref y1, .int 0, .ref y3, .ref y4, .ref y5, .int 0, .ref y7, .int 0, .int 0, .ref y10, .ref y11, .null, .null, .null, .null, .null, .null])), (y1, .inl (k1, 14, .inl (nF (fun _ => 0)))), (y3, .inl (k3, 14, .inl (nF (fun _ => 0)))), (y4, .inl (k4, 16, .inl (nF (fun _ => 0)))), (y5, .inl (k5, 16, .inl (nF (fun _ => 0)))), (y7, .inl (k7, 200, .inl (nF (fun _ => 0)))), (y10, .inl (k10, 4, .inr (.inl (fun _ => 0)))), (y11, .inl (k11, 14, .inl (nF (fun _ => 0))))] H := hP
  have hD : va_D A [(h, .inr (0, [.int 0, .ref y1, .int 0, .ref y3, .ref y4, .ref y5, .int 0, .ref y7, .int 0, .int 0, .ref y10, .ref y11, .null, .null, .null, .null, .null, .null])), (y1, .inl (k1, 14, .inl (nF (fun _ => 0)))), (y3, .inl (k3, 14, .inl (nF (fun _ => 0)))), (y4, .inl (k4, 16, .inl (nF (fun _ => 0)))), (y5, .inl (k5, 16, .inl (nF (fun _ => 0)))), (y7, .inl (k7, 200, .inl (nF (fun _ => 0)))), (y10, .inl (k10, 4, .inr (.inl (fun _ => 0)))), (y11, .inl (k11, 14, .inl (nF (fun _ => 0))))] := hD
  refine lv_aload_n hx hb dX1_init_60 rfl (lv_at hl 0 rfl) ?_
  refine lv_bipush (v := 14) hx hb dX1_init_61 (by decide) ?_
  refine va_newa (atype := .boolean) (ty := .boolean) (a0 := (14, .inl (nF (fun _ => 0)))) hx hb (hts _ q80) rfl hK hP hD hS hA (fun cA => z_n 14 cA _ rfl) (by decide) (by decide) (by decide) (Nat.le_of_ble_eq_true rfl) (Nat.le_of_ble_eq_true rfl) dX1_init_63 (fun y12 k12 H hK hP hD hS => ?_)
  have hP : va_P D vwCl [(h, .inr (0, [.int 0, .ref y1, .int 0, .ref y3, .ref y4, .ref y5, .int 0, .ref y7, .int 0, .int 0, .ref y10, .ref y11, .null, .null, .null, .null, .null, .null])), (y1, .inl (k1, 14, .inl (nF (fun _ => 0)))), (y3, .inl (k3, 14, .inl (nF (fun _ => 0)))), (y4, .inl (k4, 16, .inl (nF (fun _ => 0)))), (y5, .inl (k5, 16, .inl (nF (fun _ => 0)))), (y7, .inl (k7, 200, .inl (nF (fun _ => 0)))), (y10, .inl (k10, 4, .inr (.inl (fun _ => 0)))), (y11, .inl (k11, 14, .inl (nF (fun _ => 0)))), (y12, .inl (k12, 14, .inl (nF (fun _ => 0))))] H := hP
  have hD : va_D A [(h, .inr (0, [.int 0, .ref y1, .int 0, .ref y3, .ref y4, .ref y5, .int 0, .ref y7, .int 0, .int 0, .ref y10, .ref y11, .null, .null, .null, .null, .null, .null])), (y1, .inl (k1, 14, .inl (nF (fun _ => 0)))), (y3, .inl (k3, 14, .inl (nF (fun _ => 0)))), (y4, .inl (k4, 16, .inl (nF (fun _ => 0)))), (y5, .inl (k5, 16, .inl (nF (fun _ => 0)))), (y7, .inl (k7, 200, .inl (nF (fun _ => 0)))), (y10, .inl (k10, 4, .inr (.inl (fun _ => 0)))), (y11, .inl (k11, 14, .inl (nF (fun _ => 0)))), (y12, .inl (k12, 14, .inl (nF (fun _ => 0))))] := hD
  have hK : va_K D vwCl [(k1, .byte), (k3, .byte), (k4, .byte), (k5, .byte), (k7, .byte), (k10, .long), (k11, .boolean), (k12, .boolean)] s := hK
  refine W.widen (k := 8) (n := 292) (by decide) (by decide) ?_
  refine va_putF (D := D) (ci := 0) (v := .ref y12) (ty := .array .boolean) (C := RX1) (T := TX1) (N := 18) hx hb hts in_X1 tyX1 tyX1_ok nmX1 hown hK hP hD hS 0 rfl rfl 12 (by decide) (hts _ q35) (fun _ h9 => h9) rfl hin rfl (by decide +kernel) rfl rfl (Nat.le_of_ble_eq_true rfl) dX1_init_65 (fun H locs hP hD hS => ?_)
  have hP : va_P D vwCl [(h, .inr (0, [.int 0, .ref y1, .int 0, .ref y3, .ref y4, .ref y5, .int 0, .ref y7, .int 0, .int 0, .ref y10, .ref y11, .ref y12, .null, .null, .null, .null, .null])), (y1, .inl (k1, 14, .inl (nF (fun _ => 0)))), (y3, .inl (k3, 14, .inl (nF (fun _ => 0)))), (y4, .inl (k4, 16, .inl (nF (fun _ => 0)))), (y5, .inl (k5, 16, .inl (nF (fun _ => 0)))), (y7, .inl (k7, 200, .inl (nF (fun _ => 0)))), (y10, .inl (k10, 4, .inr (.inl (fun _ => 0)))), (y11, .inl (k11, 14, .inl (nF (fun _ => 0)))), (y12, .inl (k12, 14, .inl (nF (fun _ => 0))))] H := hP
  have hD : va_D A [(h, .inr (0, [.int 0, .ref y1, .int 0, .ref y3, .ref y4, .ref y5, .int 0, .ref y7, .int 0, .int 0, .ref y10, .ref y11, .ref y12, .null, .null, .null, .null, .null])), (y1, .inl (k1, 14, .inl (nF (fun _ => 0)))), (y3, .inl (k3, 14, .inl (nF (fun _ => 0)))), (y4, .inl (k4, 16, .inl (nF (fun _ => 0)))), (y5, .inl (k5, 16, .inl (nF (fun _ => 0)))), (y7, .inl (k7, 200, .inl (nF (fun _ => 0)))), (y10, .inl (k10, 4, .inr (.inl (fun _ => 0)))), (y11, .inl (k11, 14, .inl (nF (fun _ => 0)))), (y12, .inl (k12, 14, .inl (nF (fun _ => 0))))] := hD
  refine lv_aload_n hx hb dX1_init_68 rfl (lv_at hl 0 rfl) ?_
  refine lv_bipush (v := 14) hx hb dX1_init_69 (by decide) ?_
  refine va_newa (atype := .boolean) (ty := .boolean) (a0 := (14, .inl (nF (fun _ => 0)))) hx hb (hts _ q80) rfl hK hP hD hS hA (fun cA => z_n 14 cA _ rfl) (by decide) (by decide) (by decide) (Nat.le_of_ble_eq_true rfl) (Nat.le_of_ble_eq_true rfl) dX1_init_71 (fun y13 k13 H hK hP hD hS => ?_)
  have hP : va_P D vwCl [(h, .inr (0, [.int 0, .ref y1, .int 0, .ref y3, .ref y4, .ref y5, .int 0, .ref y7, .int 0, .int 0, .ref y10, .ref y11, .ref y12, .null, .null, .null, .null, .null])), (y1, .inl (k1, 14, .inl (nF (fun _ => 0)))), (y3, .inl (k3, 14, .inl (nF (fun _ => 0)))), (y4, .inl (k4, 16, .inl (nF (fun _ => 0)))), (y5, .inl (k5, 16, .inl (nF (fun _ => 0)))), (y7, .inl (k7, 200, .inl (nF (fun _ => 0)))), (y10, .inl (k10, 4, .inr (.inl (fun _ => 0)))), (y11, .inl (k11, 14, .inl (nF (fun _ => 0)))), (y12, .inl (k12, 14, .inl (nF (fun _ => 0)))), (y13, .inl (k13, 14, .inl (nF (fun _ => 0))))] H := hP
  have hD : va_D A [(h, .inr (0, [.int 0, .ref y1, .int 0, .ref y3, .ref y4, .ref y5, .int 0, .ref y7, .int 0, .int 0, .ref y10, .ref y11, .ref y12, .null, .null, .null, .null, .null])), (y1, .inl (k1, 14, .inl (nF (fun _ => 0)))), (y3, .inl (k3, 14, .inl (nF (fun _ => 0)))), (y4, .inl (k4, 16, .inl (nF (fun _ => 0)))), (y5, .inl (k5, 16, .inl (nF (fun _ => 0)))), (y7, .inl (k7, 200, .inl (nF (fun _ => 0)))), (y10, .inl (k10, 4, .inr (.inl (fun _ => 0)))), (y11, .inl (k11, 14, .inl (nF (fun _ => 0)))), (y12, .inl (k12, 14, .inl (nF (fun _ => 0)))), (y13, .inl (k13, 14, .inl (nF (fun _ => 0))))] := hD
  have hK : va_K D vwCl [(k1, .byte), (k3, .byte), (k4, .byte), (k5, .byte), (k7, .byte), (k10, .long), (k11, .boolean), (k12, .boolean), (k13, .boolean)] s := hK
  refine W.widen (k := 9) (n := 306) (by decide) (by decide) ?_
  refine va_putF (D := D) (ci := 0) (v := .ref y13) (ty := .array .boolean) (C := RX1) (T := TX1) (N := 18) hx hb hts in_X1 tyX1 tyX1_ok nmX1 hown hK hP hD hS 0 rfl rfl 13 (by decide) (hts _ q36) (fun _ h9 => h9) rfl hin rfl (by decide +kernel) rfl rfl (Nat.le_of_ble_eq_true rfl) dX1_init_73 (fun H locs hP hD hS => ?_)
  have hP : va_P D vwCl [(h, .inr (0, [.int 0, .ref y1, .int 0, .ref y3, .ref y4, .ref y5, .int 0, .ref y7, .int 0, .int 0, .ref y10, .ref y11, .ref y12, .ref y13, .null, .null, .null, .null])), (y1, .inl (k1, 14, .inl (nF (fun _ => 0)))), (y3, .inl (k3, 14, .inl (nF (fun _ => 0)))), (y4, .inl (k4, 16, .inl (nF (fun _ => 0)))), (y5, .inl (k5, 16, .inl (nF (fun _ => 0)))), (y7, .inl (k7, 200, .inl (nF (fun _ => 0)))), (y10, .inl (k10, 4, .inr (.inl (fun _ => 0)))), (y11, .inl (k11, 14, .inl (nF (fun _ => 0)))), (y12, .inl (k12, 14, .inl (nF (fun _ => 0)))), (y13, .inl (k13, 14, .inl (nF (fun _ => 0))))] H := hP
  have hD : va_D A [(h, .inr (0, [.int 0, .ref y1, .int 0, .ref y3, .ref y4, .ref y5, .int 0, .ref y7, .int 0, .int 0, .ref y10, .ref y11, .ref y12, .ref y13, .null, .null, .null, .null])), (y1, .inl (k1, 14, .inl (nF (fun _ => 0)))), (y3, .inl (k3, 14, .inl (nF (fun _ => 0)))), (y4, .inl (k4, 16, .inl (nF (fun _ => 0)))), (y5, .inl (k5, 16, .inl (nF (fun _ => 0)))), (y7, .inl (k7, 200, .inl (nF (fun _ => 0)))), (y10, .inl (k10, 4, .inr (.inl (fun _ => 0)))), (y11, .inl (k11, 14, .inl (nF (fun _ => 0)))), (y12, .inl (k12, 14, .inl (nF (fun _ => 0)))), (y13, .inl (k13, 14, .inl (nF (fun _ => 0))))] := hD
  refine lv_aload_n hx hb dX1_init_76 rfl (lv_at hl 0 rfl) ?_
  refine lv_bipush (v := 14) hx hb dX1_init_77 (by decide) ?_
  refine va_newa (atype := .short) (ty := .short) (a0 := (14, .inl (lF (fun _ => 1)))) hx hb (hts _ q81) rfl hK hP hD hS hA z_s (by decide) (by decide) (by decide) (Nat.le_of_ble_eq_true rfl) (Nat.le_of_ble_eq_true rfl) dX1_init_79 (fun y14 k14 H hK hP hD hS => ?_)
  have hP : va_P D vwCl [(h, .inr (0, [.int 0, .ref y1, .int 0, .ref y3, .ref y4, .ref y5, .int 0, .ref y7, .int 0, .int 0, .ref y10, .ref y11, .ref y12, .ref y13, .null, .null, .null, .null])), (y1, .inl (k1, 14, .inl (nF (fun _ => 0)))), (y3, .inl (k3, 14, .inl (nF (fun _ => 0)))), (y4, .inl (k4, 16, .inl (nF (fun _ => 0)))), (y5, .inl (k5, 16, .inl (nF (fun _ => 0)))), (y7, .inl (k7, 200, .inl (nF (fun _ => 0)))), (y10, .inl (k10, 4, .inr (.inl (fun _ => 0)))), (y11, .inl (k11, 14, .inl (nF (fun _ => 0)))), (y12, .inl (k12, 14, .inl (nF (fun _ => 0)))), (y13, .inl (k13, 14, .inl (nF (fun _ => 0)))), (y14, .inl (k14, 14, .inl (lF (fun _ => 1))))] H := hP
  have hD : va_D A [(h, .inr (0, [.int 0, .ref y1, .int 0, .ref y3, .ref y4, .ref y5, .int 0, .ref y7, .int 0, .int 0, .ref y10, .ref y11, .ref y12, .ref y13, .null, .null, .null, .null])), (y1, .inl (k1, 14, .inl (nF (fun _ => 0)))), (y3, .inl (k3, 14, .inl (nF (fun _ => 0)))), (y4, .inl (k4, 16, .inl (nF (fun _ => 0)))), (y5, .inl (k5, 16, .inl (nF (fun _ => 0)))), (y7, .inl (k7, 200, .inl (nF (fun _ => 0)))), (y10, .inl (k10, 4, .inr (.inl (fun _ => 0)))), (y11, .inl (k11, 14, .inl (nF (fun _ => 0)))), (y12, .inl (k12, 14, .inl (nF (fun _ => 0)))), (y13, .inl (k13, 14, .inl (nF (fun _ => 0)))), (y14, .inl (k14, 14, .inl (lF (fun _ => 1))))] := hD
  have hK : va_K D vwCl [(k1, .byte), (k3, .byte), (k4, .byte), (k5, .byte), (k7, .byte), (k10, .long), (k11, .boolean), (k12, .boolean), (k13, .boolean), (k14, .short)] s := hK
  refine W.widen (k := 10) (n := 320) (by decide) (by decide) ?_
  refine va_putF (D := D) (ci := 0) (v := .ref y14) (ty := .array .short) (C := RX1) (T := TX1) (N := 18) hx hb hts in_X1 tyX1 tyX1_ok nmX1 hown hK hP hD hS 0 rfl rfl 14 (by decide) (hts _ q37) (fun _ h9 => h9) rfl hin rfl (by decide +kernel) rfl rfl (Nat.le_of_ble_eq_true rfl) dX1_init_81 (fun H locs hP hD hS => ?_)
  have hP : va_P D vwCl [(h, .inr (0, [.int 0, .ref y1, .int 0, .ref y3, .ref y4, .ref y5, .int 0, .ref y7, .int 0, .int 0, .ref y10, .ref y11, .ref y12, .ref y13, .ref y14, .null, .null, .null])), (y1, .inl (k1, 14, .inl (nF (fun _ => 0)))), (y3, .inl (k3, 14, .inl (nF (fun _ => 0)))), (y4, .inl (k4, 16, .inl (nF (fun _ => 0)))), (y5, .inl (k5, 16, .inl (nF (fun _ => 0)))), (y7, .inl (k7, 200, .inl (nF (fun _ => 0)))), (y10, .inl (k10, 4, .inr (.inl (fun _ => 0)))), (y11, .inl (k11, 14, .inl (nF (fun _ => 0)))), (y12, .inl (k12, 14, .inl (nF (fun _ => 0)))), (y13, .inl (k13, 14, .inl (nF (fun _ => 0)))), (y14, .inl (k14, 14, .inl (lF (fun _ => 1))))] H := hP
  have hD : va_D A [(h, .inr (0, [.int 0, .ref y1, .int 0, .ref y3, .ref y4, .ref y5, .int 0, .ref y7, .int 0, .int 0, .ref y10, .ref y11, .ref y12, .ref y13, .ref y14, .null, .null, .null])), (y1, .inl (k1, 14, .inl (nF (fun _ => 0)))), (y3, .inl (k3, 14, .inl (nF (fun _ => 0)))), (y4, .inl (k4, 16, .inl (nF (fun _ => 0)))), (y5, .inl (k5, 16, .inl (nF (fun _ => 0)))), (y7, .inl (k7, 200, .inl (nF (fun _ => 0)))), (y10, .inl (k10, 4, .inr (.inl (fun _ => 0)))), (y11, .inl (k11, 14, .inl (nF (fun _ => 0)))), (y12, .inl (k12, 14, .inl (nF (fun _ => 0)))), (y13, .inl (k13, 14, .inl (nF (fun _ => 0)))), (y14, .inl (k14, 14, .inl (lF (fun _ => 1))))] := hD
  refine lv_aload_n hx hb dX1_init_84 rfl (lv_at hl 0 rfl) ?_
  refine lv_bipush (v := 14) hx hb dX1_init_85 (by decide) ?_
  refine va_newa (atype := .boolean) (ty := .boolean) (a0 := (14, .inl (nF (fun _ => 0)))) hx hb (hts _ q80) rfl hK hP hD hS hA (fun cA => z_n 14 cA _ rfl) (by decide) (by decide) (by decide) (Nat.le_of_ble_eq_true rfl) (Nat.le_of_ble_eq_true rfl) dX1_init_87 (fun y15 k15 H hK hP hD hS => ?_)
  have hP : va_P D vwCl [(h, .inr (0, [.int 0, .ref y1, .int 0, .ref y3, .ref y4, .ref y5, .int 0, .ref y7, .int 0, .int 0, .ref y10, .ref y11, .ref y12, .ref y13, .ref y14, .null, .null, .null])), (y1, .inl (k1, 14, .inl (nF (fun _ => 0)))), (y3, .inl (k3, 14, .inl (nF (fun _ => 0)))), (y4, .inl (k4, 16, .inl (nF (fun _ => 0)))), (y5, .inl (k5, 16, .inl (nF (fun _ => 0)))), (y7, .inl (k7, 200, .inl (nF (fun _ => 0)))), (y10, .inl (k10, 4, .inr (.inl (fun _ => 0)))), (y11, .inl (k11, 14, .inl (nF (fun _ => 0)))), (y12, .inl (k12, 14, .inl (nF (fun _ => 0)))), (y13, .inl (k13, 14, .inl (nF (fun _ => 0)))), (y14, .inl (k14, 14, .inl (lF (fun _ => 1)))), (y15, .inl (k15, 14, .inl (nF (fun _ => 0))))] H := hP
  have hD : va_D A [(h, .inr (0, [.int 0, .ref y1, .int 0, .ref y3, .ref y4, .ref y5, .int 0, .ref y7, .int 0, .int 0, .ref y10, .ref y11, .ref y12, .ref y13, .ref y14, .null, .null, .null])), (y1, .inl (k1, 14, .inl (nF (fun _ => 0)))), (y3, .inl (k3, 14, .inl (nF (fun _ => 0)))), (y4, .inl (k4, 16, .inl (nF (fun _ => 0)))), (y5, .inl (k5, 16, .inl (nF (fun _ => 0)))), (y7, .inl (k7, 200, .inl (nF (fun _ => 0)))), (y10, .inl (k10, 4, .inr (.inl (fun _ => 0)))), (y11, .inl (k11, 14, .inl (nF (fun _ => 0)))), (y12, .inl (k12, 14, .inl (nF (fun _ => 0)))), (y13, .inl (k13, 14, .inl (nF (fun _ => 0)))), (y14, .inl (k14, 14, .inl (lF (fun _ => 1)))), (y15, .inl (k15, 14, .inl (nF (fun _ => 0))))] := hD
  have hK : va_K D vwCl [(k1, .byte), (k3, .byte), (k4, .byte), (k5, .byte), (k7, .byte), (k10, .long), (k11, .boolean), (k12, .boolean), (k13, .boolean), (k14, .short), (k15, .boolean)] s := hK
  refine W.widen (k := 11) (n := 334) (by decide) (by decide) ?_
  refine va_putF (D := D) (ci := 0) (v := .ref y15) (ty := .array .boolean) (C := RX1) (T := TX1) (N := 18) hx hb hts in_X1 tyX1 tyX1_ok nmX1 hown hK hP hD hS 0 rfl rfl 15 (by decide) (hts _ q38) (fun _ h9 => h9) rfl hin rfl (by decide +kernel) rfl rfl (Nat.le_of_ble_eq_true rfl) dX1_init_89 (fun H locs hP hD hS => ?_)
  have hP : va_P D vwCl [(h, .inr (0, [.int 0, .ref y1, .int 0, .ref y3, .ref y4, .ref y5, .int 0, .ref y7, .int 0, .int 0, .ref y10, .ref y11, .ref y12, .ref y13, .ref y14, .ref y15, .null, .null])), (y1, .inl (k1, 14, .inl (nF (fun _ => 0)))), (y3, .inl (k3, 14, .inl (nF (fun _ => 0)))), (y4, .inl (k4, 16, .inl (nF (fun _ => 0)))), (y5, .inl (k5, 16, .inl (nF (fun _ => 0)))), (y7, .inl (k7, 200, .inl (nF (fun _ => 0)))), (y10, .inl (k10, 4, .inr (.inl (fun _ => 0)))), (y11, .inl (k11, 14, .inl (nF (fun _ => 0)))), (y12, .inl (k12, 14, .inl (nF (fun _ => 0)))), (y13, .inl (k13, 14, .inl (nF (fun _ => 0)))), (y14, .inl (k14, 14, .inl (lF (fun _ => 1)))), (y15, .inl (k15, 14, .inl (nF (fun _ => 0))))] H := hP
  have hD : va_D A [(h, .inr (0, [.int 0, .ref y1, .int 0, .ref y3, .ref y4, .ref y5, .int 0, .ref y7, .int 0, .int 0, .ref y10, .ref y11, .ref y12, .ref y13, .ref y14, .ref y15, .null, .null])), (y1, .inl (k1, 14, .inl (nF (fun _ => 0)))), (y3, .inl (k3, 14, .inl (nF (fun _ => 0)))), (y4, .inl (k4, 16, .inl (nF (fun _ => 0)))), (y5, .inl (k5, 16, .inl (nF (fun _ => 0)))), (y7, .inl (k7, 200, .inl (nF (fun _ => 0)))), (y10, .inl (k10, 4, .inr (.inl (fun _ => 0)))), (y11, .inl (k11, 14, .inl (nF (fun _ => 0)))), (y12, .inl (k12, 14, .inl (nF (fun _ => 0)))), (y13, .inl (k13, 14, .inl (nF (fun _ => 0)))), (y14, .inl (k14, 14, .inl (lF (fun _ => 1)))), (y15, .inl (k15, 14, .inl (nF (fun _ => 0))))] := hD
  refine lv_aload_n hx hb dX1_init_92 rfl (lv_at hl 0 rfl) ?_
  refine lv_bipush (v := 14) hx hb dX1_init_93 (by decide) ?_
  refine va_newa (atype := .boolean) (ty := .boolean) (a0 := (14, .inl (nF (fun _ => 0)))) hx hb (hts _ q80) rfl hK hP hD hS hA (fun cA => z_n 14 cA _ rfl) (by decide) (by decide) (by decide) (Nat.le_of_ble_eq_true rfl) (Nat.le_of_ble_eq_true rfl) dX1_init_95 (fun y16 k16 H hK hP hD hS => ?_)
  have hP : va_P D vwCl [(h, .inr (0, [.int 0, .ref y1, .int 0, .ref y3, .ref y4, .ref y5, .int 0, .ref y7, .int 0, .int 0, .ref y10, .ref y11, .ref y12, .ref y13, .ref y14, .ref y15, .null, .null])), (y1, .inl (k1, 14, .inl (nF (fun _ => 0)))), (y3, .inl (k3, 14, .inl (nF (fun _ => 0)))), (y4, .inl (k4, 16, .inl (nF (fun _ => 0)))), (y5, .inl (k5, 16, .inl (nF (fun _ => 0)))), (y7, .inl (k7, 200, .inl (nF (fun _ => 0)))), (y10, .inl (k10, 4, .inr (.inl (fun _ => 0)))), (y11, .inl (k11, 14, .inl (nF (fun _ => 0)))), (y12, .inl (k12, 14, .inl (nF (fun _ => 0)))), (y13, .inl (k13, 14, .inl (nF (fun _ => 0)))), (y14, .inl (k14, 14, .inl (lF (fun _ => 1)))), (y15, .inl (k15, 14, .inl (nF (fun _ => 0)))), (y16, .inl (k16, 14, .inl (nF (fun _ => 0))))] H := hP
  have hD : va_D A [(h, .inr (0, [.int 0, .ref y1, .int 0, .ref y3, .ref y4, .ref y5, .int 0, .ref y7, .int 0, .int 0, .ref y10, .ref y11, .ref y12, .ref y13, .ref y14, .ref y15, .null, .null])), (y1, .inl (k1, 14, .inl (nF (fun _ => 0)))), (y3, .inl (k3, 14, .inl (nF (fun _ => 0)))), (y4, .inl (k4, 16, .inl (nF (fun _ => 0)))), (y5, .inl (k5, 16, .inl (nF (fun _ => 0)))), (y7, .inl (k7, 200, .inl (nF (fun _ => 0)))), (y10, .inl (k10, 4, .inr (.inl (fun _ => 0)))), (y11, .inl (k11, 14, .inl (nF (fun _ => 0)))), (y12, .inl (k12, 14, .inl (nF (fun _ => 0)))), (y13, .inl (k13, 14, .inl (nF (fun _ => 0)))), (y14, .inl (k14, 14, .inl (lF (fun _ => 1)))), (y15, .inl (k15, 14, .inl (nF (fun _ => 0)))), (y16, .inl (k16, 14, .inl (nF (fun _ => 0))))] := hD
  have hK : va_K D vwCl [(k1, .byte), (k3, .byte), (k4, .byte), (k5, .byte), (k7, .byte), (k10, .long), (k11, .boolean), (k12, .boolean), (k13, .boolean), (k14, .short), (k15, .boolean), (k16, .boolean)] s := hK
  refine W.widen (k := 12) (n := 348) (by decide) (by decide) ?_
  refine va_putF (D := D) (ci := 0) (v := .ref y16) (ty := .array .boolean) (C := RX1) (T := TX1) (N := 18) hx hb hts in_X1 tyX1 tyX1_ok nmX1 hown hK hP hD hS 0 rfl rfl 16 (by decide) (hts _ q39) (fun _ h9 => h9) rfl hin rfl (by decide +kernel) rfl rfl (Nat.le_of_ble_eq_true rfl) dX1_init_97 (fun H locs hP hD hS => ?_)
  have hP : va_P D vwCl [(h, .inr (0, [.int 0, .ref y1, .int 0, .ref y3, .ref y4, .ref y5, .int 0, .ref y7, .int 0, .int 0, .ref y10, .ref y11, .ref y12, .ref y13, .ref y14, .ref y15, .ref y16, .null])), (y1, .inl (k1, 14, .inl (nF (fun _ => 0)))), (y3, .inl (k3, 14, .inl (nF (fun _ => 0)))), (y4, .inl (k4, 16, .inl (nF (fun _ => 0)))), (y5, .inl (k5, 16, .inl (nF (fun _ => 0)))), (y7, .inl (k7, 200, .inl (nF (fun _ => 0)))), (y10, .inl (k10, 4, .inr (.inl (fun _ => 0)))), (y11, .inl (k11, 14, .inl (nF (fun _ => 0)))), (y12, .inl (k12, 14, .inl (nF (fun _ => 0)))), (y13, .inl (k13, 14, .inl (nF (fun _ => 0)))), (y14, .inl (k14, 14, .inl (lF (fun _ => 1)))), (y15, .inl (k15, 14, .inl (nF (fun _ => 0)))), (y16, .inl (k16, 14, .inl (nF (fun _ => 0))))] H := hP
  have hD : va_D A [(h, .inr (0, [.int 0, .ref y1, .int 0, .ref y3, .ref y4, .ref y5, .int 0, .ref y7, .int 0, .int 0, .ref y10, .ref y11, .ref y12, .ref y13, .ref y14, .ref y15, .ref y16, .null])), (y1, .inl (k1, 14, .inl (nF (fun _ => 0)))), (y3, .inl (k3, 14, .inl (nF (fun _ => 0)))), (y4, .inl (k4, 16, .inl (nF (fun _ => 0)))), (y5, .inl (k5, 16, .inl (nF (fun _ => 0)))), (y7, .inl (k7, 200, .inl (nF (fun _ => 0)))), (y10, .inl (k10, 4, .inr (.inl (fun _ => 0)))), (y11, .inl (k11, 14, .inl (nF (fun _ => 0)))), (y12, .inl (k12, 14, .inl (nF (fun _ => 0)))), (y13, .inl (k13, 14, .inl (nF (fun _ => 0)))), (y14, .inl (k14, 14, .inl (lF (fun _ => 1)))), (y15, .inl (k15, 14, .inl (nF (fun _ => 0)))), (y16, .inl (k16, 14, .inl (nF (fun _ => 0))))] := hD
  refine lv_aload_n hx hb dX1_init_100 rfl (lv_at hl 0 rfl) ?_
  refine lv_bipush (v := 14) hx hb dX1_init_101 (by decide) ?_
  refine va_newa (atype := .short) (ty := .short) (a0 := (14, .inl (lF (fun _ => 1)))) hx hb (hts _ q81) rfl hK hP hD hS hA z_s (by decide) (by decide) (by decide) (Nat.le_of_ble_eq_true rfl) (Nat.le_of_ble_eq_true rfl) dX1_init_103 (fun y17 k17 H hK hP hD hS => ?_)
  have hP : va_P D vwCl [(h, .inr (0, [.int 0, .ref y1, .int 0, .ref y3, .ref y4, .ref y5, .int 0, .ref y7, .int 0, .int 0, .ref y10, .ref y11, .ref y12, .ref y13, .ref y14, .ref y15, .ref y16, .null])), (y1, .inl (k1, 14, .inl (nF (fun _ => 0)))), (y3, .inl (k3, 14, .inl (nF (fun _ => 0)))), (y4, .inl (k4, 16, .inl (nF (fun _ => 0)))), (y5, .inl (k5, 16, .inl (nF (fun _ => 0)))), (y7, .inl (k7, 200, .inl (nF (fun _ => 0)))), (y10, .inl (k10, 4, .inr (.inl (fun _ => 0)))), (y11, .inl (k11, 14, .inl (nF (fun _ => 0)))), (y12, .inl (k12, 14, .inl (nF (fun _ => 0)))), (y13, .inl (k13, 14, .inl (nF (fun _ => 0)))), (y14, .inl (k14, 14, .inl (lF (fun _ => 1)))), (y15, .inl (k15, 14, .inl (nF (fun _ => 0)))), (y16, .inl (k16, 14, .inl (nF (fun _ => 0)))), (y17, .inl (k17, 14, .inl (lF (fun _ => 1))))] H := hP
  have hD : va_D A [(h, .inr (0, [.int 0, .ref y1, .int 0, .ref y3, .ref y4, .ref y5, .int 0, .ref y7, .int 0, .int 0, .ref y10, .ref y11, .ref y12, .ref y13, .ref y14, .ref y15, .ref y16, .null])), (y1, .inl (k1, 14, .inl (nF (fun _ => 0)))), (y3, .inl (k3, 14, .inl (nF (fun _ => 0)))), (y4, .inl (k4, 16, .inl (nF (fun _ => 0)))), (y5, .inl (k5, 16, .inl (nF (fun _ => 0)))), (y7, .inl (k7, 200, .inl (nF (fun _ => 0)))), (y10, .inl (k10, 4, .inr (.inl (fun _ => 0)))), (y11, .inl (k11, 14, .inl (nF (fun _ => 0)))), (y12, .inl (k12, 14, .inl (nF (fun _ => 0)))), (y13, .inl (k13, 14, .inl (nF (fun _ => 0)))), (y14, .inl (k14, 14, .inl (lF (fun _ => 1)))), (y15, .inl (k15, 14, .inl (nF (fun _ => 0)))), (y16, .inl (k16, 14, .inl (nF (fun _ => 0)))), (y17, .inl (k17, 14, .inl (lF (fun _ => 1))))] := hD
  have hK : va_K D vwCl [(k1, .byte), (k3, .byte), (k4, .byte), (k5, .byte), (k7, .byte), (k10, .long), (k11, .boolean), (k12, .boolean), (k13, .boolean), (k14, .short), (k15, .boolean), (k16, .boolean), (k17, .short)] s := hK
  refine W.widen (k := 13) (n := 362) (by decide) (by decide) ?_
  refine va_putF (D := D) (ci := 0) (v := .ref y17) (ty := .array .short) (C := RX1) (T := TX1) (N := 18) hx hb hts in_X1 tyX1 tyX1_ok nmX1 hown hK hP hD hS 0 rfl rfl 17 (by decide) (hts _ q40) (fun _ h9 => h9) rfl hin rfl (by decide +kernel) rfl rfl (Nat.le_of_ble_eq_true rfl) dX1_init_105 (fun H locs hP hD hS => ?_)
  have hP : va_P D vwCl [(h, .inr (0, [.int 0, .ref y1, .int 0, .ref y3, .ref y4, .ref y5, .int 0, .ref y7, .int 0, .int 0, .ref y10, .ref y11, .ref y12, .ref y13, .ref y14, .ref y15, .ref y16, .ref y17])), (y1, .inl (k1, 14, .inl (nF (fun _ => 0)))), (y3, .inl (k3, 14, .inl (nF (fun _ => 0)))), (y4, .inl (k4, 16, .inl (nF (fun _ => 0)))), (y5, .inl (k5, 16, .inl (nF (fun _ => 0)))), (y7, .inl (k7, 200, .inl (nF (fun _ => 0)))), (y10, .inl (k10, 4, .inr (.inl (fun _ => 0)))), (y11, .inl (k11, 14, .inl (nF (fun _ => 0)))), (y12, .inl (k12, 14, .inl (nF (fun _ => 0)))), (y13, .inl (k13, 14, .inl (nF (fun _ => 0)))), (y14, .inl (k14, 14, .inl (lF (fun _ => 1)))), (y15, .inl (k15, 14, .inl (nF (fun _ => 0)))), (y16, .inl (k16, 14, .inl (nF (fun _ => 0)))), (y17, .inl (k17, 14, .inl (lF (fun _ => 1))))] H := hP
  have hD : va_D A [(h, .inr (0, [.int 0, .ref y1, .int 0, .ref y3, .ref y4, .ref y5, .int 0, .ref y7, .int 0, .int 0, .ref y10, .ref y11, .ref y12, .ref y13, .ref y14, .ref y15, .ref y16, .ref y17])), (y1, .inl (k1, 14, .inl (nF (fun _ => 0)))), (y3, .inl (k3, 14, .inl (nF (fun _ => 0)))), (y4, .inl (k4, 16, .inl (nF (fun _ => 0)))), (y5, .inl (k5, 16, .inl (nF (fun _ => 0)))), (y7, .inl (k7, 200, .inl (nF (fun _ => 0)))), (y10, .inl (k10, 4, .inr (.inl (fun _ => 0)))), (y11, .inl (k11, 14, .inl (nF (fun _ => 0)))), (y12, .inl (k12, 14, .inl (nF (fun _ => 0)))), (y13, .inl (k13, 14, .inl (nF (fun _ => 0)))), (y14, .inl (k14, 14, .inl (lF (fun _ => 1)))), (y15, .inl (k15, 14, .inl (nF (fun _ => 0)))), (y16, .inl (k16, 14, .inl (nF (fun _ => 0)))), (y17, .inl (k17, 14, .inl (lF (fun _ => 1))))] := hD
  refine lv_aload_n hx hb dX1_init_108 rfl (lv_at hl 0 rfl) ?_
  refine lv_iload_n hx hb dX1_init_109 rfl (lv_at hl 1 rfl) ?_
  refine lv_if_ge (tgt := 117) hx hb dX1_init_110 (by decide) (fun cv => ?_) (fun cv => ?_)
  · obtain ⟨x, hx31, rfl⟩ := nI_of (Int32.not_lt.mpr cv)
    refine lv_iload_n hx hb dX1_init_117 rfl (lv_at hl 1 rfl) ?_
    refine lv_bipush (v := nI 12) hx hb dX1_init_118 (by decide) ?_
    refine mn_icmp_le (tgt := 128) hx hb hx31 (by decide) dX1_init_120 (by decide) (fun c2 => ?_) (fun c2 => ?_)
    · refine lv_iload_n hx hb dX1_init_128 rfl (lv_at hl 1 rfl) ?_
      refine va_putF (D := D) (ci := 0) (v := .int (nI x)) (ty := .int) (C := RX1) (T := TX1) (N := 18) hx hb hts in_X1 tyX1 tyX1_ok nmX1 hown hK hP hD hS 0 rfl rfl 0 (by decide) (hts _ q23) (fun _ h9 => h9) rfl hin rfl (by decide +kernel) rfl rfl (Nat.le_of_ble_eq_true rfl) dX1_init_129 (fun H locs hP hD hS => ?_)
      have hP : va_P D vwCl [(h, .inr (0, [.int (nI x), .ref y1, .int 0, .ref y3, .ref y4, .ref y5, .int 0, .ref y7, .int 0, .int 0, .ref y10, .ref y11, .ref y12, .ref y13, .ref y14, .ref y15, .ref y16, .ref y17])), (y1, .inl (k1, 14, .inl (nF (fun _ => 0)))), (y3, .inl (k3, 14, .inl (nF (fun _ => 0)))), (y4, .inl (k4, 16, .inl (nF (fun _ => 0)))), (y5, .inl (k5, 16, .inl (nF (fun _ => 0)))), (y7, .inl (k7, 200, .inl (nF (fun _ => 0)))), (y10, .inl (k10, 4, .inr (.inl (fun _ => 0)))), (y11, .inl (k11, 14, .inl (nF (fun _ => 0)))), (y12, .inl (k12, 14, .inl (nF (fun _ => 0)))), (y13, .inl (k13, 14, .inl (nF (fun _ => 0)))), (y14, .inl (k14, 14, .inl (lF (fun _ => 1)))), (y15, .inl (k15, 14, .inl (nF (fun _ => 0)))), (y16, .inl (k16, 14, .inl (nF (fun _ => 0)))), (y17, .inl (k17, 14, .inl (lF (fun _ => 1))))] H := hP
      have hD : va_D A [(h, .inr (0, [.int (nI x), .ref y1, .int 0, .ref y3, .ref y4, .ref y5, .int 0, .ref y7, .int 0, .int 0, .ref y10, .ref y11, .ref y12, .ref y13, .ref y14, .ref y15, .ref y16, .ref y17])), (y1, .inl (k1, 14, .inl (nF (fun _ => 0)))), (y3, .inl (k3, 14, .inl (nF (fun _ => 0)))), (y4, .inl (k4, 16, .inl (nF (fun _ => 0)))), (y5, .inl (k5, 16, .inl (nF (fun _ => 0)))), (y7, .inl (k7, 200, .inl (nF (fun _ => 0)))), (y10, .inl (k10, 4, .inr (.inl (fun _ => 0)))), (y11, .inl (k11, 14, .inl (nF (fun _ => 0)))), (y12, .inl (k12, 14, .inl (nF (fun _ => 0)))), (y13, .inl (k13, 14, .inl (nF (fun _ => 0)))), (y14, .inl (k14, 14, .inl (lF (fun _ => 1)))), (y15, .inl (k15, 14, .inl (nF (fun _ => 0)))), (y16, .inl (k16, 14, .inl (nF (fun _ => 0)))), (y17, .inl (k17, 14, .inl (lF (fun _ => 1))))] := hD
      have ew : cw_ (nI x) = x := by unfold cw_; rw [if_neg (nI_pos hx31), nI_clamp hx31, if_neg (by omega)]
      exact W.vret hx hb hr (fun t ht hW => ⟨⟨(adP h y1 y3 y4 y5 y7 y10 y11 y12 y13 y14 y15 y16 y17, kcP k1 k3 k4 k5 k7 k10 k11 k12 k13 k14 k15 k16 k17), rfl, rfl, by rw [ht, ew]; exact hP, va_K.moved hW.alike hK, by rw [ew]; exact hD⟩, hS.F ht⟩) hS.2.2 dX1_init_132 hlk
    · refine lv_bipush (v := nI 12) hx hb dX1_init_123 (by decide) ?_
      refine lv_goto (tgt := 129) hx hb dX1_init_125 (by decide) ?_
      refine va_putF (D := D) (ci := 0) (v := .int (nI 12)) (ty := .int) (C := RX1) (T := TX1) (N := 18) hx hb hts in_X1 tyX1 tyX1_ok nmX1 hown hK hP hD hS 0 rfl rfl 0 (by decide) (hts _ q23) (fun _ h9 => h9) rfl hin rfl (by decide +kernel) rfl rfl (Nat.le_of_ble_eq_true rfl) dX1_init_129 (fun H locs hP hD hS => ?_)
      have hP : va_P D vwCl [(h, .inr (0, [.int (nI 12), .ref y1, .int 0, .ref y3, .ref y4, .ref y5, .int 0, .ref y7, .int 0, .int 0, .ref y10, .ref y11, .ref y12, .ref y13, .ref y14, .ref y15, .ref y16, .ref y17])), (y1, .inl (k1, 14, .inl (nF (fun _ => 0)))), (y3, .inl (k3, 14, .inl (nF (fun _ => 0)))), (y4, .inl (k4, 16, .inl (nF (fun _ => 0)))), (y5, .inl (k5, 16, .inl (nF (fun _ => 0)))), (y7, .inl (k7, 200, .inl (nF (fun _ => 0)))), (y10, .inl (k10, 4, .inr (.inl (fun _ => 0)))), (y11, .inl (k11, 14, .inl (nF (fun _ => 0)))), (y12, .inl (k12, 14, .inl (nF (fun _ => 0)))), (y13, .inl (k13, 14, .inl (nF (fun _ => 0)))), (y14, .inl (k14, 14, .inl (lF (fun _ => 1)))), (y15, .inl (k15, 14, .inl (nF (fun _ => 0)))), (y16, .inl (k16, 14, .inl (nF (fun _ => 0)))), (y17, .inl (k17, 14, .inl (lF (fun _ => 1))))] H := hP
      have hD : va_D A [(h, .inr (0, [.int (nI 12), .ref y1, .int 0, .ref y3, .ref y4, .ref y5, .int 0, .ref y7, .int 0, .int 0, .ref y10, .ref y11, .ref y12, .ref y13, .ref y14, .ref y15, .ref y16, .ref y17])), (y1, .inl (k1, 14, .inl (nF (fun _ => 0)))), (y3, .inl (k3, 14, .inl (nF (fun _ => 0)))), (y4, .inl (k4, 16, .inl (nF (fun _ => 0)))), (y5, .inl (k5, 16, .inl (nF (fun _ => 0)))), (y7, .inl (k7, 200, .inl (nF (fun _ => 0)))), (y10, .inl (k10, 4, .inr (.inl (fun _ => 0)))), (y11, .inl (k11, 14, .inl (nF (fun _ => 0)))), (y12, .inl (k12, 14, .inl (nF (fun _ => 0)))), (y13, .inl (k13, 14, .inl (nF (fun _ => 0)))), (y14, .inl (k14, 14, .inl (lF (fun _ => 1)))), (y15, .inl (k15, 14, .inl (nF (fun _ => 0)))), (y16, .inl (k16, 14, .inl (nF (fun _ => 0)))), (y17, .inl (k17, 14, .inl (lF (fun _ => 1))))] := hD
      have ew : cw_ (nI x) = 12 := by unfold cw_; rw [if_neg (nI_pos hx31), nI_clamp hx31, if_pos (by omega)]
      exact W.vret hx hb hr (fun t ht hW => ⟨⟨(adP h y1 y3 y4 y5 y7 y10 y11 y12 y13 y14 y15 y16 y17, kcP k1 k3 k4 k5 k7 k10 k11 k12 k13 k14 k15 k16 k17), rfl, rfl, by rw [ht, ew]; exact hP, va_K.moved hW.alike hK, by rw [ew]; exact hD⟩, hS.F ht⟩) hS.2.2 dX1_init_132 hlk
  · refine lv_iconst (v := nI 0) hx hb dX1_init_113 (by decide) ?_
    refine lv_goto (tgt := 129) hx hb dX1_init_114 (by decide) ?_
    refine va_putF (D := D) (ci := 0) (v := .int (nI 0)) (ty := .int) (C := RX1) (T := TX1) (N := 18) hx hb hts in_X1 tyX1 tyX1_ok nmX1 hown hK hP hD hS 0 rfl rfl 0 (by decide) (hts _ q23) (fun _ h9 => h9) rfl hin rfl (by decide +kernel) rfl rfl (Nat.le_of_ble_eq_true rfl) dX1_init_129 (fun H locs hP hD hS => ?_)
    have hP : va_P D vwCl [(h, .inr (0, [.int (nI 0), .ref y1, .int 0, .ref y3, .ref y4, .ref y5, .int 0, .ref y7, .int 0, .int 0, .ref y10, .ref y11, .ref y12, .ref y13, .ref y14, .ref y15, .ref y16, .ref y17])), (y1, .inl (k1, 14, .inl (nF (fun _ => 0)))), (y3, .inl (k3, 14, .inl (nF (fun _ => 0)))), (y4, .inl (k4, 16, .inl (nF (fun _ => 0)))), (y5, .inl (k5, 16, .inl (nF (fun _ => 0)))), (y7, .inl (k7, 200, .inl (nF (fun _ => 0)))), (y10, .inl (k10, 4, .inr (.inl (fun _ => 0)))), (y11, .inl (k11, 14, .inl (nF (fun _ => 0)))), (y12, .inl (k12, 14, .inl (nF (fun _ => 0)))), (y13, .inl (k13, 14, .inl (nF (fun _ => 0)))), (y14, .inl (k14, 14, .inl (lF (fun _ => 1)))), (y15, .inl (k15, 14, .inl (nF (fun _ => 0)))), (y16, .inl (k16, 14, .inl (nF (fun _ => 0)))), (y17, .inl (k17, 14, .inl (lF (fun _ => 1))))] H := hP
    have hD : va_D A [(h, .inr (0, [.int (nI 0), .ref y1, .int 0, .ref y3, .ref y4, .ref y5, .int 0, .ref y7, .int 0, .int 0, .ref y10, .ref y11, .ref y12, .ref y13, .ref y14, .ref y15, .ref y16, .ref y17])), (y1, .inl (k1, 14, .inl (nF (fun _ => 0)))), (y3, .inl (k3, 14, .inl (nF (fun _ => 0)))), (y4, .inl (k4, 16, .inl (nF (fun _ => 0)))), (y5, .inl (k5, 16, .inl (nF (fun _ => 0)))), (y7, .inl (k7, 200, .inl (nF (fun _ => 0)))), (y10, .inl (k10, 4, .inr (.inl (fun _ => 0)))), (y11, .inl (k11, 14, .inl (nF (fun _ => 0)))), (y12, .inl (k12, 14, .inl (nF (fun _ => 0)))), (y13, .inl (k13, 14, .inl (nF (fun _ => 0)))), (y14, .inl (k14, 14, .inl (lF (fun _ => 1)))), (y15, .inl (k15, 14, .inl (nF (fun _ => 0)))), (y16, .inl (k16, 14, .inl (nF (fun _ => 0)))), (y17, .inl (k17, 14, .inl (lF (fun _ => 1))))] := hD
    have ew : cw_ v = 0 := if_pos (Int32.not_le.mp cv)
    exact W.vret hx hb hr (fun t ht hW => ⟨⟨(adP h y1 y3 y4 y5 y7 y10 y11 y12 y13 y14 y15 y16 y17, kcP k1 k3 k4 k5 k7 k10 k11 k12 k13 k14 k15 k16 k17), rfl, rfl, by rw [ht, ew]; exact hP, va_K.moved hW.alike hK, by rw [ew]; exact hD⟩, hS.F ht⟩) hS.2.2 dX1_init_132 hlk
set_option maxHeartbeats 4000000 in
theorem mM_init (l : Launch) (D : va_G) (h sz : Nat) (v : Int32) : Met l yX2_init (ws_ yX2_init cX2_init 2 none) ({ frames := 1, cells := 4, slots := 3044, locals := 12 } : Room) (va_Pc [.ref h, .int v] (cP D [] [(h, .inr (1, [.int 0, .int 0, .null, .int 0, .null, .null, .null]))] sz)) (va_Qv (fun u : (Nat → Nat) × (Nat → ClassId) => u.1 0 = h) (fun u t => cB D (tyM u.2) [(h, .inr (1, [.int 0, .int 0, .null, .int 0, .null, .null, .null]))] sz (mdW u.1 u.2 (cw_ v) 0 (fun _ => 0) 0 (fun _ => 0) (fun _ => 0) (fun _ => 0)) t) (va_A [(h, .inr (1, [.int 0, .int 0, .null, .int 0, .null, .null, .null]))] sz)) 4 3044 (va_A [(h, .inr (1, [.int 0, .int 0, .null, .int 0, .null, .null, .null]))] sz) := by
  refine Met.ofW (cc := cX2_init) (maxL := 2) (ret := none) (by decide) rfl ?_
  intro p e s m args below meth c s₁ B hml hv
  obtain ⟨rfl, hsz, hP, hK, hD0⟩ := hv
  have hx := B.exec
  have hb := B.bytes
  have hr := B.returns
  have hts := atoms_spec (ws := ws_ yX2_init cX2_init 2 none) B.pre
  have hts : ∀ w ∈ lw_all, w.before _ s = true := fun w h => hts w (List.mem_cons_of_mem _ h)
  have hown : s.vm.findClass RX2 = some m.cls := findClass_of_methodNamed B.named
  have hlk := B.notSynchronized
  have hin : meth.name = "<init>" := (name_of_methodNamed B.named B.method).1
  subst hsz
  have hD := hD0.self (sz := s.heap.size)
  generalize hAe : va_A [(h, .inr (1, [.int 0, .int 0, .null, .int 0, .null, .null, .null]))] s.heap.size = A at hD ⊢
  have hA : ∀ q : Nat, s.heap.size ≤ q → A q := fun q h => by rw [← hAe]; exact Or.inr h
  have hS : va_S A s.heap s.heap [] := va_S.rf
  unfold cB
  rw [hAe]
  have hl := lv_entry ([.ref h, .int v]) (n := 2) (Nat.le_of_ble_eq_true rfl)
  rw [lg_entry_eq]
  generalize (lg_sl ([.ref h, .int v]) ++ List.replicate (2 - (lg_sl ([.ref h, .int v])).length) Slot.unset).toArray = ls at hl ⊢
  have hl : lv_has ls 2 [(0, .ref h), (1, .int v)] := hl
  refine lv_aload_n hx hb dX2_init_0 rfl (lv_at hl 0 rfl) ?_
  refine W.objInit hx hb hown (hts _ q189) (hts _ q21) (hts _ q22) rfl (by rw [hml]; exact hl.1) rfl dX2_init_1 (Nat.le_of_ble_eq_true rfl) (Nat.le_of_ble_eq_true rfl) ?_
  refine W.eq (g2 := F0 m 4 ls []) rfl ?_
  refine lv_aload_n hx hb dX2_init_4 rfl (lv_at hl 0 rfl) ?_
  refine lv_bipush (v := 14) hx hb dX2_init_5 (by decide) ?_
  refine va_newa (atype := .int) (ty := .int) (a0 := (14, .inl (nF (fun _ => 0)))) hx hb (hts _ q212) rfl hK hP hD hS hA (fun cA => z_n 14 cA _ rfl) (by decide) (by decide) (by decide) (Nat.le_of_ble_eq_true rfl) (Nat.le_of_ble_eq_true rfl) dX2_init_7 (fun y2 k2 H hK hP hD hS => ?_)
  have hP : va_P D vwCl [(h, .inr (1, [.int 0, .int 0, .null, .int 0, .null, .null, .null])), (y2, .inl (k2, 14, .inl (nF (fun _ => 0))))] H := hP
  have hD : va_D A [(h, .inr (1, [.int 0, .int 0, .null, .int 0, .null, .null, .null])), (y2, .inl (k2, 14, .inl (nF (fun _ => 0))))] := hD
  have hK : va_K D vwCl [(k2, .int)] s := hK
  refine W.widen (k := 1) (n := 14) (by decide) (by decide) ?_
  refine va_put (D := D) (ci := 1) (v := .ref y2) (ty := .array .int) (C := RX2) (T := TX2) (N := 7) hx hb hts in_X2 tyX2 tyX2_ok nmX2 hown hK hP hD hS 0 rfl rfl 2 (by decide) (hts _ q192) (fun _ h9 => h9) rfl (by decide +kernel) rfl rfl (Nat.le_of_ble_eq_true rfl) dX2_init_9 (fun H locs hP hD hS => ?_)
  have hP : va_P D vwCl [(h, .inr (1, [.int 0, .int 0, .ref y2, .int 0, .null, .null, .null])), (y2, .inl (k2, 14, .inl (nF (fun _ => 0))))] H := hP
  have hD : va_D A [(h, .inr (1, [.int 0, .int 0, .ref y2, .int 0, .null, .null, .null])), (y2, .inl (k2, 14, .inl (nF (fun _ => 0))))] := hD
  refine lv_aload_n hx hb dX2_init_12 rfl (lv_at hl 0 rfl) ?_
  refine lv_sipush (v := 201) hx hb dX2_init_13 (by decide) ?_
  refine va_newa (atype := .int) (ty := .int) (a0 := (201, .inl (nF (fun _ => 0)))) hx hb (hts _ q212) rfl hK hP hD hS hA (fun cA => z_n 201 cA _ rfl) (by decide) (by decide) (by decide) (Nat.le_of_ble_eq_true rfl) (Nat.le_of_ble_eq_true rfl) dX2_init_16 (fun y4 k4 H hK hP hD hS => ?_)
  have hP : va_P D vwCl [(h, .inr (1, [.int 0, .int 0, .ref y2, .int 0, .null, .null, .null])), (y2, .inl (k2, 14, .inl (nF (fun _ => 0)))), (y4, .inl (k4, 201, .inl (nF (fun _ => 0))))] H := hP
  have hD : va_D A [(h, .inr (1, [.int 0, .int 0, .ref y2, .int 0, .null, .null, .null])), (y2, .inl (k2, 14, .inl (nF (fun _ => 0)))), (y4, .inl (k4, 201, .inl (nF (fun _ => 0))))] := hD
  have hK : va_K D vwCl [(k2, .int), (k4, .int)] s := hK
  refine W.widen (k := 2) (n := 215) (by decide) (by decide) ?_
  refine va_put (D := D) (ci := 1) (v := .ref y4) (ty := .array .int) (C := RX2) (T := TX2) (N := 7) hx hb hts in_X2 tyX2 tyX2_ok nmX2 hown hK hP hD hS 0 rfl rfl 4 (by decide) (hts _ q194) (fun _ h9 => h9) rfl (by decide +kernel) rfl rfl (Nat.le_of_ble_eq_true rfl) dX2_init_18 (fun H locs hP hD hS => ?_)
  have hP : va_P D vwCl [(h, .inr (1, [.int 0, .int 0, .ref y2, .int 0, .ref y4, .null, .null])), (y2, .inl (k2, 14, .inl (nF (fun _ => 0)))), (y4, .inl (k4, 201, .inl (nF (fun _ => 0))))] H := hP
  have hD : va_D A [(h, .inr (1, [.int 0, .int 0, .ref y2, .int 0, .ref y4, .null, .null])), (y2, .inl (k2, 14, .inl (nF (fun _ => 0)))), (y4, .inl (k4, 201, .inl (nF (fun _ => 0))))] := hD
  refine lv_aload_n hx hb dX2_init_21 rfl (lv_at hl 0 rfl) ?_
  refine lv_sipush (v := 2814) hx hb dX2_init_22 (by decide) ?_
  refine va_newa (atype := .boolean) (ty := .boolean) (a0 := (2814, .inl (nF (fun _ => 0)))) hx hb (hts _ q80) rfl hK hP hD hS hA (fun cA => z_n 2814 cA _ rfl) (by decide) (by decide) (by decide) (Nat.le_of_ble_eq_true rfl) (Nat.le_of_ble_eq_true rfl) dX2_init_25 (fun y5 k5 H hK hP hD hS => ?_)
  have hP : va_P D vwCl [(h, .inr (1, [.int 0, .int 0, .ref y2, .int 0, .ref y4, .null, .null])), (y2, .inl (k2, 14, .inl (nF (fun _ => 0)))), (y4, .inl (k4, 201, .inl (nF (fun _ => 0)))), (y5, .inl (k5, 2814, .inl (nF (fun _ => 0))))] H := hP
  have hD : va_D A [(h, .inr (1, [.int 0, .int 0, .ref y2, .int 0, .ref y4, .null, .null])), (y2, .inl (k2, 14, .inl (nF (fun _ => 0)))), (y4, .inl (k4, 201, .inl (nF (fun _ => 0)))), (y5, .inl (k5, 2814, .inl (nF (fun _ => 0))))] := hD
  have hK : va_K D vwCl [(k2, .int), (k4, .int), (k5, .boolean)] s := hK
  refine W.widen (k := 3) (n := 3029) (by decide) (by decide) ?_
  refine va_put (D := D) (ci := 1) (v := .ref y5) (ty := .array .boolean) (C := RX2) (T := TX2) (N := 7) hx hb hts in_X2 tyX2 tyX2_ok nmX2 hown hK hP hD hS 0 rfl rfl 5 (by decide) (hts _ q195) (fun _ h9 => h9) rfl (by decide +kernel) rfl rfl (Nat.le_of_ble_eq_true rfl) dX2_init_27 (fun H locs hP hD hS => ?_)
  have hP : va_P D vwCl [(h, .inr (1, [.int 0, .int 0, .ref y2, .int 0, .ref y4, .ref y5, .null])), (y2, .inl (k2, 14, .inl (nF (fun _ => 0)))), (y4, .inl (k4, 201, .inl (nF (fun _ => 0)))), (y5, .inl (k5, 2814, .inl (nF (fun _ => 0))))] H := hP
  have hD : va_D A [(h, .inr (1, [.int 0, .int 0, .ref y2, .int 0, .ref y4, .ref y5, .null])), (y2, .inl (k2, 14, .inl (nF (fun _ => 0)))), (y4, .inl (k4, 201, .inl (nF (fun _ => 0)))), (y5, .inl (k5, 2814, .inl (nF (fun _ => 0))))] := hD
  refine lv_aload_n hx hb dX2_init_30 rfl (lv_at hl 0 rfl) ?_
  refine lv_bipush (v := 15) hx hb dX2_init_31 (by decide) ?_
  refine va_newa (atype := .int) (ty := .int) (a0 := (15, .inl (nF (fun _ => 0)))) hx hb (hts _ q212) rfl hK hP hD hS hA (fun cA => z_n 15 cA _ rfl) (by decide) (by decide) (by decide) (Nat.le_of_ble_eq_true rfl) (Nat.le_of_ble_eq_true rfl) dX2_init_33 (fun y6 k6 H hK hP hD hS => ?_)
  have hP : va_P D vwCl [(h, .inr (1, [.int 0, .int 0, .ref y2, .int 0, .ref y4, .ref y5, .null])), (y2, .inl (k2, 14, .inl (nF (fun _ => 0)))), (y4, .inl (k4, 201, .inl (nF (fun _ => 0)))), (y5, .inl (k5, 2814, .inl (nF (fun _ => 0)))), (y6, .inl (k6, 15, .inl (nF (fun _ => 0))))] H := hP
  have hD : va_D A [(h, .inr (1, [.int 0, .int 0, .ref y2, .int 0, .ref y4, .ref y5, .null])), (y2, .inl (k2, 14, .inl (nF (fun _ => 0)))), (y4, .inl (k4, 201, .inl (nF (fun _ => 0)))), (y5, .inl (k5, 2814, .inl (nF (fun _ => 0)))), (y6, .inl (k6, 15, .inl (nF (fun _ => 0))))] := hD
  have hK : va_K D vwCl [(k2, .int), (k4, .int), (k5, .boolean), (k6, .int)] s := hK
  refine W.widen (k := 4) (n := 3044) (by decide) (by decide) ?_
  refine va_put (D := D) (ci := 1) (v := .ref y6) (ty := .array .int) (C := RX2) (T := TX2) (N := 7) hx hb hts in_X2 tyX2 tyX2_ok nmX2 hown hK hP hD hS 0 rfl rfl 6 (by decide) (hts _ q196) (fun _ h9 => h9) rfl (by decide +kernel) rfl rfl (Nat.le_of_ble_eq_true rfl) dX2_init_35 (fun H locs hP hD hS => ?_)
  have hP : va_P D vwCl [(h, .inr (1, [.int 0, .int 0, .ref y2, .int 0, .ref y4, .ref y5, .ref y6])), (y2, .inl (k2, 14, .inl (nF (fun _ => 0)))), (y4, .inl (k4, 201, .inl (nF (fun _ => 0)))), (y5, .inl (k5, 2814, .inl (nF (fun _ => 0)))), (y6, .inl (k6, 15, .inl (nF (fun _ => 0))))] H := hP
  have hD : va_D A [(h, .inr (1, [.int 0, .int 0, .ref y2, .int 0, .ref y4, .ref y5, .ref y6])), (y2, .inl (k2, 14, .inl (nF (fun _ => 0)))), (y4, .inl (k4, 201, .inl (nF (fun _ => 0)))), (y5, .inl (k5, 2814, .inl (nF (fun _ => 0)))), (y6, .inl (k6, 15, .inl (nF (fun _ => 0))))] := hD
  refine lv_aload_n hx hb dX2_init_38 rfl (lv_at hl 0 rfl) ?_
  refine lv_iload_n hx hb dX2_init_39 rfl (lv_at hl 1 rfl) ?_
  refine lv_if_ge (tgt := 47) hx hb dX2_init_40 (by decide) (fun cv => ?_) (fun cv => ?_)
  · obtain ⟨x, hx31, rfl⟩ := nI_of (Int32.not_lt.mpr cv)
    refine lv_iload_n hx hb dX2_init_47 rfl (lv_at hl 1 rfl) ?_
    refine lv_bipush (v := nI 12) hx hb dX2_init_48 (by decide) ?_
    refine mn_icmp_le (tgt := 58) hx hb hx31 (by decide) dX2_init_50 (by decide) (fun c2 => ?_) (fun c2 => ?_)
    · refine lv_iload_n hx hb dX2_init_58 rfl (lv_at hl 1 rfl) ?_
      refine va_put (D := D) (ci := 1) (v := .int (nI x)) (ty := .int) (C := RX2) (T := TX2) (N := 7) hx hb hts in_X2 tyX2 tyX2_ok nmX2 hown hK hP hD hS 0 rfl rfl 0 (by decide) (hts _ q190) (fun _ h9 => h9) rfl (by decide +kernel) rfl rfl (Nat.le_of_ble_eq_true rfl) dX2_init_59 (fun H locs hP hD hS => ?_)
      have hP : va_P D vwCl [(h, .inr (1, [.int (nI x), .int 0, .ref y2, .int 0, .ref y4, .ref y5, .ref y6])), (y2, .inl (k2, 14, .inl (nF (fun _ => 0)))), (y4, .inl (k4, 201, .inl (nF (fun _ => 0)))), (y5, .inl (k5, 2814, .inl (nF (fun _ => 0)))), (y6, .inl (k6, 15, .inl (nF (fun _ => 0))))] H := hP
      have hD : va_D A [(h, .inr (1, [.int (nI x), .int 0, .ref y2, .int 0, .ref y4, .ref y5, .ref y6])), (y2, .inl (k2, 14, .inl (nF (fun _ => 0)))), (y4, .inl (k4, 201, .inl (nF (fun _ => 0)))), (y5, .inl (k5, 2814, .inl (nF (fun _ => 0)))), (y6, .inl (k6, 15, .inl (nF (fun _ => 0))))] := hD
      have ew : cw_ (nI x) = x := by unfold cw_; rw [if_neg (nI_pos hx31), nI_clamp hx31, if_neg (by omega)]
      exact W.vret hx hb hr (fun t ht hW => ⟨⟨(adM h y2 y4 y5 y6, kcM k2 k4 k5 k6), rfl, rfl, by rw [ht, ew]; exact hP, va_K.moved hW.alike hK, by rw [ew]; exact hD⟩, hS.F ht⟩) hS.2.2 dX2_init_62 hlk
    · refine lv_bipush (v := nI 12) hx hb dX2_init_53 (by decide) ?_
      refine lv_goto (tgt := 59) hx hb dX2_init_55 (by decide) ?_
      refine va_put (D := D) (ci := 1) (v := .int (nI 12)) (ty := .int) (C := RX2) (T := TX2) (N := 7) hx hb hts in_X2 tyX2 tyX2_ok nmX2 hown hK hP hD hS 0 rfl rfl 0 (by decide) (hts _ q190) (fun _ h9 => h9) rfl (by decide +kernel) rfl rfl (Nat.le_of_ble_eq_true rfl) dX2_init_59 (fun H locs hP hD hS => ?_)
      have hP : va_P D vwCl [(h, .inr (1, [.int (nI 12), .int 0, .ref y2, .int 0, .ref y4, .ref y5, .ref y6])), (y2, .inl (k2, 14, .inl (nF (fun _ => 0)))), (y4, .inl (k4, 201, .inl (nF (fun _ => 0)))), (y5, .inl (k5, 2814, .inl (nF (fun _ => 0)))), (y6, .inl (k6, 15, .inl (nF (fun _ => 0))))] H := hP
      have hD : va_D A [(h, .inr (1, [.int (nI 12), .int 0, .ref y2, .int 0, .ref y4, .ref y5, .ref y6])), (y2, .inl (k2, 14, .inl (nF (fun _ => 0)))), (y4, .inl (k4, 201, .inl (nF (fun _ => 0)))), (y5, .inl (k5, 2814, .inl (nF (fun _ => 0)))), (y6, .inl (k6, 15, .inl (nF (fun _ => 0))))] := hD
      have ew : cw_ (nI x) = 12 := by unfold cw_; rw [if_neg (nI_pos hx31), nI_clamp hx31, if_pos (by omega)]
      exact W.vret hx hb hr (fun t ht hW => ⟨⟨(adM h y2 y4 y5 y6, kcM k2 k4 k5 k6), rfl, rfl, by rw [ht, ew]; exact hP, va_K.moved hW.alike hK, by rw [ew]; exact hD⟩, hS.F ht⟩) hS.2.2 dX2_init_62 hlk
  · refine lv_iconst (v := nI 0) hx hb dX2_init_43 (by decide) ?_
    refine lv_goto (tgt := 59) hx hb dX2_init_44 (by decide) ?_
    refine va_put (D := D) (ci := 1) (v := .int (nI 0)) (ty := .int) (C := RX2) (T := TX2) (N := 7) hx hb hts in_X2 tyX2 tyX2_ok nmX2 hown hK hP hD hS 0 rfl rfl 0 (by decide) (hts _ q190) (fun _ h9 => h9) rfl (by decide +kernel) rfl rfl (Nat.le_of_ble_eq_true rfl) dX2_init_59 (fun H locs hP hD hS => ?_)
    have hP : va_P D vwCl [(h, .inr (1, [.int (nI 0), .int 0, .ref y2, .int 0, .ref y4, .ref y5, .ref y6])), (y2, .inl (k2, 14, .inl (nF (fun _ => 0)))), (y4, .inl (k4, 201, .inl (nF (fun _ => 0)))), (y5, .inl (k5, 2814, .inl (nF (fun _ => 0)))), (y6, .inl (k6, 15, .inl (nF (fun _ => 0))))] H := hP
    have hD : va_D A [(h, .inr (1, [.int (nI 0), .int 0, .ref y2, .int 0, .ref y4, .ref y5, .ref y6])), (y2, .inl (k2, 14, .inl (nF (fun _ => 0)))), (y4, .inl (k4, 201, .inl (nF (fun _ => 0)))), (y5, .inl (k5, 2814, .inl (nF (fun _ => 0)))), (y6, .inl (k6, 15, .inl (nF (fun _ => 0))))] := hD
    have ew : cw_ v = 0 := if_pos (Int32.not_le.mp cv)
    exact W.vret hx hb hr (fun t ht hW => ⟨⟨(adM h y2 y4 y5 y6, kcM k2 k4 k5 k6), rfl, rfl, by rw [ht, ew]; exact hP, va_K.moved hW.alike hK, by rw [ew]; exact hD⟩, hS.F ht⟩) hS.2.2 dX2_init_62 hlk
def cl_ (L : Nat) (xs : Nat → Int32) : Int32 := if 0 < L then xs 0 else 0
set_option maxHeartbeats 4000000 in
theorem mL_cell (l : Launch) (b L sz : Nat) (xs : Nat → Int32) (hL : L ≤ 129) : Met l yX0_cell (ws_ yX0_cell cX0_cell 2 (some .int)) (rm_ 0 0) (va_Pc [.ref b, .int (nI 0)] (fun U => U.heap.size = sz ∧ va_X b L xs U U.heap ∧ b < sz)) (va_Qi (fun r (_ : Unit) => r = cl_ L xs) (fun _ _ => True) (va_A [] sz)) 0 0 (va_A [] sz) := by
  refine Met.ofW (cc := cX0_cell) (maxL := 2) (ret := (some .int)) (by decide) rfl ?_
  intro p e s m args below meth c s₁ B hml hv
  obtain ⟨rfl, hsz, hX, hbl⟩ := hv
  have hx := B.exec
  have hb := B.bytes
  have hr := B.returns
  have hlk := B.notSynchronized
  subst hsz
  have hbA : ¬ va_A [] s.heap.size b := by
    intro h
    rcases h with ⟨k, q, h⟩ | h
    · simp at h
    · exact absurd hbl (by omega)
  have hS : va_S (va_A [] s.heap.size) s.heap s.heap [] := va_S.rf
  have hl := lv_entry ([.ref b, .int (nI 0)]) (n := 2) (Nat.le_of_ble_eq_true rfl)
  rw [lg_entry_eq]
  generalize (lg_sl ([.ref b, .int (nI 0)]) ++ List.replicate (2 - (lg_sl ([.ref b, .int (nI 0)])).length) Slot.unset).toArray = ls at hl ⊢
  have hl : lv_has ls 2 [(0, .ref b), (1, .int (nI 0))] := hl
  refine lv_iload_n hx hb dX0_cell_0 rfl (lv_at hl 1 rfl) ?_
  refine lv_aload_n hx hb dX0_cell_1 rfl (lv_at hl 0 rfl) ?_
  refine va_slen hx hb hX hbl hbA hS dX0_cell_2 ?_
  refine mi_eq (y := nI L) rfl ?_
  refine mn_icmp_ge (tgt := 12) hx hb (by decide) (by omega) dX0_cell_3 (by decide) (fun c3 => ?_) (fun c3 => ?_)
  · refine lv_iconst (v := 0) hx hb dX0_cell_12 (by decide) ?_
    exact W.iret hx hb hr (fun t ht hW => ⟨⟨0, (), rfl, (if_neg (by omega)).symm, trivial⟩, hS.F ht⟩) hS.2.2 dX0_cell_13 hlk
  · refine lv_aload_n hx hb dX0_cell_6 rfl (lv_at hl 0 rfl) ?_
    refine lv_iload_n hx hb dX0_cell_7 rfl (lv_at hl 1 rfl) ?_
    refine va_sld hx hb hX hbl hbA hS (vp_in_nI c3 (by omega)) dX0_cell_8 ?_
    refine lv_goto (tgt := 13) hx hb dX0_cell_9 (by decide) ?_
    exact W.iret hx hb hr (fun t ht hW => ⟨⟨_, (), rfl, by rw [nI_clamp (by decide)]; exact (if_pos c3).symm, trivial⟩, hS.F ht⟩) hS.2.2 dX0_cell_13 hlk
end
section
set_option maxRecDepth 100000
/-- two worlds side by side -/
def tX (D : va_G) (t1 t2 : List (ClassId × FieldType)) (A : Nat → Prop) (s : State) (H : Heap) (locs : List Loc) (w1 w2 : va_W) : Prop := va_K D vwCl t1 s ∧ va_K D vwCl t2 s ∧ va_P D vwCl w1 H ∧ va_P D vwCl w2 H ∧ va_D A w1 ∧ va_D A w2 ∧ (∀ (i j : Nat) (p q : Nat × va_E), w1[i]? = some p → w2[j]? = some q → p.1 ≠ q.1) ∧ va_S A s.heap H locs
section TXX
variable {p : Program} {l : Launch} {e : Env} {R : Room} {s : State} {m : MethodId} {args : Array Value} {below : List Frame} {meth : Method} {c : Code} {H : Heap} {locs : List Loc} {cells slots : Nat} {Q : State → Prop} {cc : ByteArray} {pc nL : Nat} {ls : Array Slot} {rest : List Value} {own : String} {D : va_G} {t1 t2 : List (ClassId × FieldType)} {A : Nat → Prop} {w0 w2 : va_W}
theorem tX.symm (X : tX D t1 t2 A s H locs w0 w2) : tX D t2 t1 A s H locs w2 w0 := by
  obtain ⟨a1, a2, a3, a4, a5, a6, a7, a8⟩ := X
  exact ⟨a2, a1, a4, a3, a6, a5, fun i j p q h1 h2 e => a7 j i q p h2 h1 e.symm, a8⟩
theorem tX.one (X : tX D t1 t2 A s H locs w0 w2) : wX D t1 A s H locs w0 := ⟨X.1, X.2.2.1, X.2.2.2.2.1, X.2.2.2.2.2.2.2⟩
theorem tX.after {t1' : List (ClassId × FieldType)} {H1 : Heap} {locs1 : List Loc} {w1 : va_W} (X : tX D t1 t2 A s H locs w0 w2) (hA : ∀ q : Nat, s.heap.size ≤ q → A q) (hK : va_K D vwCl t1' s) (hP : va_P D vwCl w1 H1) (hD : va_D (va_A w0 H.size) w1) (hk : ∀ q : Nat, q < H.size → ¬ va_A w0 H.size q → H1[q]? = H[q]?) (hS : va_S A s.heap H1 locs1) : tX D t1' t2 A s H1 locs1 w1 w2 := by
  have hF := X.one.free hA
  obtain ⟨a1, a2, a3, a4, a5, a6, a7, a8⟩ := X
  have key : ∀ (j : Nat) (q : Nat × va_E), w2[j]? = some q → q.1 < H.size ∧ ¬ va_A w0 H.size q.1 := by
    intro j q hq
    have hlt := (a4 j q hq).lt
    refine ⟨hlt, fun h => ?_⟩
    rcases h with ⟨k, e1, h⟩ | h
    · exact a7 k j _ q h hq rfl
    · omega
  refine ⟨hK, a2, hP, a4.kept (fun j q hq => hk q.1 (key j q hq).1 (key j q hq).2), hD.weaken (fun k q _ h => hF q.1 h), a6, fun i j p q h1 h2 h3 => ?_, hS⟩
  exact (key j q h2).2 (by rw [← h3]; exact hD.2 i p h1)
theorem tX_app (hK1 : va_K D vwCl t1 s) (hK2 : va_K D vwCl t2 s) (hP : va_P D vwCl (w0 ++ w2) H) (hD : va_D A (w0 ++ w2)) (hS : va_S A s.heap H locs) : tX D t1 t2 A s H locs w0 w2 := by
  have l1 : ∀ (k : Nat) (q : Nat × va_E), w0[k]? = some q → (w0 ++ w2)[k]? = some q := by
    intro k q h
    rw [List.getElem?_append_left (List.getElem?_eq_some_iff.mp h).1]
    exact h
  have l2 : ∀ (k : Nat) (q : Nat × va_E), w2[k]? = some q → (w0 ++ w2)[w0.length + k]? = some q := by
    intro k q h
    rw [List.getElem?_append_right (by omega), Nat.add_sub_cancel_left]
    exact h
  refine ⟨hK1, hK2, fun k q h => hP k q (l1 k q h), fun k q h => hP _ q (l2 k q h), ⟨fun i j p q h1 h2 e => hD.1 i j p q (l1 i p h1) (l1 j q h2) e, fun k q h => hD.2 k q (l1 k q h)⟩, ⟨fun i j p q h1 h2 e => by have := hD.1 _ _ p q (l2 i p h1) (l2 j q h2) e; omega, fun k q h => hD.2 _ q (l2 k q h)⟩, fun i j p q h1 h2 e => ?_, hS⟩
  have h3 := hD.1 _ _ p q (l1 i p h1) (l2 j q h2) e
  have h4 := (List.getElem?_eq_some_iff.mp h1).1
  omega
theorem tI_call {y : MethodName} {b : ByteArray} {nL1 idx ci h n : Nat} {ret : Option FieldType} {rm : Room} {As : List Value} {post : Int32 → va_W → Prop} {C : String} {T : u_T} {N : Nat} {fs : List Value} {st : List Value}
    (S : CallFix p m c cc nL s args lw_all own) (X : tX D t1 t2 A s H locs w0 w2) (hA : ∀ q : Nat, s.heap.size ≤ q → A q) (hM : cI l D t1 y b nL1 ret rm (.ref h :: As) w0 post) (hG : GoodIn lw_all (wsV own idx C y (ws_ y b nL1 ret))) (hc0 : rm.cells = 0) (hs0 : rm.slots = 0)
    (hd : y.cls = C ∧ y.cls ≠ "java/lang/invoke/MethodHandle" ∧ y.cls ≠ "java/lang/invoke/VarHandle" ∧ (parseMethodDescriptor y.desc).map (fun d => d.parameters.length) = some n) (hR : rm.frames + 1 ≤ R.frames ∧ 8 + (nL1 + 11) + rm.locals ≤ R.locals)
    (hcl : vwCl[ci]? = some (C, T, N)) (he : w0[0]? = some (h, .inr (ci, fs))) (hls : ls.size = nL) (hn : As.length = n) (hst : st = As.reverse ++ .ref h :: rest) (hrest : (rest.map fun v => v.category).sum ≤ 8) (hdg : decode cc pc = .ok (.invokevirtual idx, 3)) (hcs : cells ≤ R.cells ∧ slots ≤ R.slots)
    (kk : ∀ (r : Int32) (w1 : va_W) (H1 : Heap) (locs1 : List Loc), post r w1 → tX D t1 t2 A s H1 locs1 w1 w2 → W p l e R s m args below meth c H1 locs1 cells slots Q (F0 m (pc + 3) ls (.int r :: rest))) : W p l e R s m args below meth c H locs cells slots Q (F0 m pc ls st) := by
  have X1 := X.one
  have hF := X1.free hA
  refine va_calli (va_runV (As := As) (rest := rest) S (hM H.size) (cwV n S.2.2.2.2 hG rfl hc0 hs0 hd hR) ⟨cP_blind, va_recv X1.1 X1.2.1 hcl he, X1.pre _⟩ rfl hn hls hst (lv_room hrest) hdg hcs) X1.2.2.2 (fun q _ h => hF q h) hF (fun r u t H1 locs1 ht hvm hp hB hz hk hS1 => ?_)
  obtain ⟨hP1, hK1, hD1⟩ := hB
  rw [ht] at hP1
  exact kk r u H1 locs1 hp (X.after hA X1.1 hP1 hD1 hk hS1)
theorem tV_call {y : MethodName} {b : ByteArray} {nL1 idx ci h n : Nat} {rm : Room} {As : List Value} {post : va_W → Prop} {C : String} {T : u_T} {N : Nat} {fs : List Value} {st : List Value}
    (S : CallFix p m c cc nL s args lw_all own) (X : tX D t1 t2 A s H locs w0 w2) (hA : ∀ q : Nat, s.heap.size ≤ q → A q) (hM : cV l D t1 y b nL1 rm (.ref h :: As) w0 post) (hG : GoodIn lw_all (wsV own idx C y (ws_ y b nL1 none))) (hc0 : rm.cells = 0) (hs0 : rm.slots = 0)
    (hd : y.cls = C ∧ y.cls ≠ "java/lang/invoke/MethodHandle" ∧ y.cls ≠ "java/lang/invoke/VarHandle" ∧ (parseMethodDescriptor y.desc).map (fun d => d.parameters.length) = some n) (hR : rm.frames + 1 ≤ R.frames ∧ 8 + (nL1 + 11) + rm.locals ≤ R.locals)
    (hcl : vwCl[ci]? = some (C, T, N)) (he : w0[0]? = some (h, .inr (ci, fs))) (hls : ls.size = nL) (hn : As.length = n) (hst : st = As.reverse ++ .ref h :: rest) (hrest : (rest.map fun v => v.category).sum ≤ 8) (hdg : decode cc pc = .ok (.invokevirtual idx, 3)) (hcs : cells ≤ R.cells ∧ slots ≤ R.slots)
    (kk : ∀ (w1 : va_W) (H1 : Heap) (locs1 : List Loc), post w1 → tX D t1 t2 A s H1 locs1 w1 w2 → W p l e R s m args below meth c H1 locs1 cells slots Q (F0 m (pc + 3) ls rest)) : W p l e R s m args below meth c H locs cells slots Q (F0 m pc ls st) := by
  have X1 := X.one
  have hF := X1.free hA
  refine va_callv (va_runV (As := As) (rest := rest) S (hM H.size) (cwV n S.2.2.2.2 hG rfl hc0 hs0 hd hR) ⟨cP_blind, va_recv X1.1 X1.2.1 hcl he, X1.pre _⟩ rfl hn hls hst (lv_room hrest) hdg hcs) X1.2.2.2 (fun q _ h => hF q h) hF (fun u t H1 locs1 ht hvm hp hB hz hk hS1 => ?_)
  obtain ⟨hP1, hK1, hD1⟩ := hB
  rw [ht] at hP1
  exact kk u H1 locs1 hp (X.after hA X1.1 hP1 hD1 hk hS1)
end TXX
theorem pm_R.head {a : Nat → Nat} {kc : Nat → ClassId} {w : Nat} {tk : Nat → Nat} {n : Nat} {fc : Nat → Nat} {ct : Nat} {w0 : va_W} (h : pm_R a kc w tk n fc ct w0) : ∃ fs, w0[0]? = some (a 0, .inr (0, fs)) := by
  obtain ⟨sc, ot, ow, oc, jd, ta, vl, vb, me, sn, sv, sm, ss, rfl, hI⟩ := h
  exact ⟨_, rfl⟩
theorem md_R.head {a : Nat → Nat} {kc : Nat → ClassId} {w : Nat} {tk : Nat → Nat} {n : Nat} {fc : Nat → Nat} {ct : Nat} {w0 : va_W} (h : md_R a kc w tk n fc ct w0) : ∃ fs, w0[0]? = some (a 0, .inr (1, fs)) := by
  obtain ⟨fd, hd, st, rfl, hI⟩ := h
  exact ⟨_, rfl⟩
/-- both stand for the same window, formula and events -/
def bo_ (aP : Nat → Nat) (kP : Nat → ClassId) (aM : Nat → Nat) (kM : Nat → ClassId) (w : Nat) (w1 w2 : va_W) : Prop := ∃ tk n fc ct, pm_R aP kP w tk n fc ct w1 ∧ md_R aM kM w tk n fc ct w2
section JNN
variable {aP : Nat → Nat} {kP : Nat → ClassId} {aM : Nat → Nat} {kM : Nat → ClassId} {w : Nat} {w1 w2 : va_W} {tk : Nat → Nat} {n : Nat} {fc : Nat → Nat} {ct : Nat} {r1 r2 : Int32}
theorem jn_same {v : Int32} (h1 : pm_R aP kP w tk n fc ct w1 ∧ r1 = v) (h2 : md_R aM kM w tk n fc ct w2 ∧ r2 = v) : r1 = r2 ∧ bo_ aP kP aM kM w w1 w2 := ⟨h1.2.trans h2.2.symm, tk, n, fc, ct, h1.1, h2.1⟩
theorem nI_sm {x t : Nat} (hx : x ≤ 1000) (ht : t ≤ 1000) (h : nI x = nI t) : x = t := (nI_eq (by omega) (by omega)).mp h
theorem jn_feed {v : Int32} (h1 : (∃ t, fd_ v tk n t ∧ r1 = nI (n + 1) ∧ pm_R aP kP w (va_up tk n t) (n + 1) fc ct w1) ∨ ((∀ t, ¬ fd_ v tk n t) ∧ r1 = -1 ∧ pm_R aP kP w tk n fc ct w1)) (h2 : (∃ t, fd_ v tk n t ∧ r2 = nI (n + 1) ∧ md_R aM kM w (va_up tk n t) (n + 1) fc ct w2) ∨ ((∀ t, ¬ fd_ v tk n t) ∧ r2 = -1 ∧ md_R aM kM w tk n fc ct w2)) : r1 = r2 ∧ bo_ aP kP aM kM w w1 w2 := by
  rcases h1 with ⟨t, a1, a2, a3⟩ | ⟨a1, a2, a3⟩
  · rcases h2 with ⟨t', b1, b2, b3⟩ | ⟨b1, b2, b3⟩
    · have e : t = t' := nI_sm (by have := a1.2.1; omega) (by have := b1.2.1; omega) (a1.1.symm.trans b1.1)
      subst e
      exact ⟨a2.trans b2.symm, _, _, _, _, a3, b3⟩
    · exact absurd a1 (b1 t)
  · rcases h2 with ⟨t', b1, b2, b3⟩ | ⟨b1, b2, b3⟩
    · exact absurd b1 (a1 t')
    · exact ⟨a2.trans b2.symm, _, _, _, _, a3, b3⟩
theorem jn_back (h1 : (n = 0 ∧ r1 = -1 ∧ pm_R aP kP w tk n fc ct w1) ∨ (0 < n ∧ r1 = nI (tk (n - 1)) ∧ pm_R aP kP w tk (n - 1) fc ct w1)) (h2 : (n = 0 ∧ r2 = -1 ∧ md_R aM kM w tk n fc ct w2) ∨ (0 < n ∧ r2 = nI (tk (n - 1)) ∧ md_R aM kM w tk (n - 1) fc ct w2)) : r1 = r2 ∧ bo_ aP kP aM kM w w1 w2 := by
  rcases h1 with ⟨a1, a2, a3⟩ | ⟨a1, a2, a3⟩
  · rcases h2 with ⟨b1, b2, b3⟩ | ⟨b1, b2, b3⟩
    · exact ⟨a2.trans b2.symm, _, _, _, _, a3, b3⟩
    · omega
  · rcases h2 with ⟨b1, b2, b3⟩ | ⟨b1, b2, b3⟩
    · omega
    · exact ⟨a2.trans b2.symm, _, _, _, _, a3, b3⟩
theorem jn_undo (h1 : (ct = 0 ∧ r1 = -1 ∧ pm_R aP kP w tk n fc ct w1) ∨ (0 < ct ∧ r1 = nI (ct - 1) ∧ pm_R aP kP w tk n fc (ct - 1) w1)) (h2 : (ct = 0 ∧ r2 = -1 ∧ md_R aM kM w tk n fc ct w2) ∨ (0 < ct ∧ r2 = nI (ct - 1) ∧ md_R aM kM w tk n fc (ct - 1) w2)) : r1 = r2 ∧ bo_ aP kP aM kM w w1 w2 := by
  rcases h1 with ⟨a1, a2, a3⟩ | ⟨a1, a2, a3⟩
  · rcases h2 with ⟨b1, b2, b3⟩ | ⟨b1, b2, b3⟩
    · exact ⟨a2.trans b2.symm, _, _, _, _, a3, b3⟩
    · omega
  · rcases h2 with ⟨b1, b2, b3⟩ | ⟨b1, b2, b3⟩
    · omega
    · exact ⟨a2.trans b2.symm, _, _, _, _, a3, b3⟩
theorem jn_event {v : Int32} (h1 : (∃ t, v = nI t ∧ t ≤ 15 ∧ ct < 200 ∧ r1 = nI ct ∧ pm_R aP kP w tk n (va_up fc ct t) (ct + 1) w1) ∨ ((∃ t, v = nI t ∧ t ≤ 15) ∧ 200 ≤ ct ∧ r1 = -2 ∧ pm_R aP kP w tk n fc ct w1) ∨ ((∀ t, ¬ (v = nI t ∧ t ≤ 15)) ∧ r1 = -1 ∧ pm_R aP kP w tk n fc ct w1)) (h2 : (∃ t, v = nI t ∧ t ≤ 15 ∧ ct < 200 ∧ r2 = nI ct ∧ md_R aM kM w tk n (va_up fc ct t) (ct + 1) w2) ∨ ((∃ t, v = nI t ∧ t ≤ 15) ∧ 200 ≤ ct ∧ r2 = -2 ∧ md_R aM kM w tk n fc ct w2) ∨ ((∀ t, ¬ (v = nI t ∧ t ≤ 15)) ∧ r2 = -1 ∧ md_R aM kM w tk n fc ct w2)) : r1 = r2 ∧ bo_ aP kP aM kM w w1 w2 := by
  rcases h1 with ⟨t, a1, a2, a3, a4, a5⟩ | ⟨⟨t, a0, a1⟩, a2, a3, a4⟩ | ⟨a1, a2, a3⟩
  · rcases h2 with ⟨t', b1, b2, b3, b4, b5⟩ | ⟨⟨t', b0, b1⟩, b2, b3, b4⟩ | ⟨b1, b2, b3⟩
    · have e : t = t' := nI_sm (by omega) (by omega) (a1.symm.trans b1)
      subst e
      exact ⟨a4.trans b4.symm, _, _, _, _, a5, b5⟩
    · omega
    · exact absurd ⟨a1, a2⟩ (b1 t)
  · rcases h2 with ⟨t', b1, b2, b3, b4, b5⟩ | ⟨⟨t', b0, b1⟩, b2, b3, b4⟩ | ⟨b1, b2, b3⟩
    · omega
    · exact ⟨a3.trans b3.symm, _, _, _, _, a4, b4⟩
    · exact absurd ⟨a0, a1⟩ (b1 t)
  · rcases h2 with ⟨t', b1, b2, b3, b4, b5⟩ | ⟨⟨t', b0, b1⟩, b2, b3, b4⟩ | ⟨b1, b2, b3⟩
    · exact absurd ⟨b1, b2⟩ (a1 t')
    · exact absurd ⟨b0, b1⟩ (a1 t')
    · exact ⟨a2.trans b2.symm, _, _, _, _, a3, b3⟩
end JNN
theorem lw_gt {L i : Nat} (hL : L ≤ 129) (hi : i ≤ 1000) : nI L - nI 2 < nI i ↔ L < i + 2 := by
  rw [Int32.lt_iff_toInt_lt, pk_sub_toInt (by omega) (by decide), nI_toInt (by omega)]
  omega
end
section
set_option maxRecDepth 100000
/-! THE CLAIM OUT OF ONE WALK OF THE LAW'S BODY. Your part is whole_start (and what it stands on); all else here is the same for every law, but numbers. -/
def R_law : String := "PastMonitorLaw"
def lw_P (b : Addr) (xs : List Int32) (args : Array Value) (s : State) : Prop := args = #[.ref b] ∧ s.IntsAt b xs ∧ xs.length ≤ 129 ∧ (Jvm.Cond.and given_1 narrow_1).before args s = true
def lw_Q (_ : Array Value) (s : State) (o : Outcome) (t : State) : Prop := o = .returned (some (.int 1)) ∧ Framed s o t [] 600000 7290000
def lw_Z (below : List Frame) (a : Array Value) (s : State) : State → Prop := fun t => ∃ o, t.status = .running ∧ Ended t below o ∧ lw_Q a s o t
/-- the law's own end, with 1 on the stack, nothing written that was there before, its room as the claim has it -/
theorem lw_ret {p : Program} {l : Launch} {e : Env} {s : State} {m : MethodId} {below : List Frame} {meth : Method} {c : Code} {b : Nat} (hx : p.tables.exec = Jvm.exec) (hb : c.code = code) (hr : meth.sig.returnType = ret) (hlocks : meth.locks = false) {pc : Nat} {H : Heap} {ls : Array Slot} (hdg : decode code pc = .ok (.ireturn, 1)) : W p l e room_1 s m #[Value.ref b] below meth c H [] 600000 7290000 (lw_Z below #[Value.ref b] s) (F0 m pc ls [.int 1]) := by
  intro T hT X
  obtain ⟨fs, hret, hrun, hended, hW, hframe⟩ := X.leave (v := some (.int 1)) (hlocks := hlocks) (fun h => by rw [hr] at h; cases h)
  have hmeth' : T.vm.method? m = some meth := X.method'
  refine ⟨T.setFrames fs, ?_, .returned (some (.int 1)), hrun, hended, rfl, ⟨_, rfl⟩, hW, hframe⟩
  jvm_step X.here [X.here.top, hx, hb, hdg, hmeth', hr, ret, narrow_b1]
  (try refine ⟨rfl, ?_⟩); (try refine ⟨rfl, ?_⟩)
  first | (intro acts; rw [hret _ acts rfl rfl rfl]) | rw [hret _ _ rfl rfl rfl]
  exact Steps.refl _
/-- what holds at the law's entry: the machine, the code, the tables' words (any of lw_tbl by 'hts w (by decide +kernel)'), the script of L ints xs at the cell b, what the Statement gives of the start (any of its parts by flat_of_before) -/
def lw_At (p : Program) (s : State) (m : MethodId) (meth : Method) (c : Code) (b L : Nat) (xs : Nat → Int32) : Prop :=
  p.tables.exec = Jvm.exec ∧ c.code = code ∧ meth.sig.returnType = ret ∧ c.maxLocals = 4 ∧ s.vm.findClass R_law = some m.cls ∧ (∀ w ∈ lw_tbl, w.before #[Value.ref b] s = true) ∧ va_X b L xs s s.heap ∧ b < s.heap.size ∧ meth.locks = false ∧ (Jvm.Cond.and given_1 narrow_1).before #[Value.ref b] s = true
section LWL
variable {p : Program} {e : Env} {s : State} {m : MethodId} {below : List Frame} {meth : Method} {c : Code} {b L : Nat} {xs : Nat → Int32}
theorem lw_ld {l : Launch} {R : Room} {args : Array Value} {H : Heap} {locs : List Loc} {cells slots : Nat} {Q : State → Prop} {cc : ByteArray} {pc : Nat} {ls : Array Slot} {rest : List Value} (hexec : p.tables.exec = Jvm.exec) (hb : c.code = cc) (hL : L ≤ 129) (hX : va_X b L xs s s.heap) (hbl : b < s.heap.size) (hS : va_S (fun q : Nat => s.heap.size ≤ q) s.heap H locs) {j : Nat} (hj : j < L) (hdg : decode cc pc = .ok (.iaload, 1)) (kk : W p l e R s m args below meth c H locs cells slots Q (F0 m (pc + 1) ls (.int (xs j) :: rest))) : W p l e R s m args below meth c H locs cells slots Q (F0 m pc ls (.int (nI j) :: .ref b :: rest)) := va_sld hexec hb hX hbl (Nat.not_le.mpr hbl) hS (vp_in_nI hj (by omega)) hdg (by rw [nI_clamp (by omega)]; exact kk)
set_option maxHeartbeats 4000000 in
theorem law_loop (l : Launch) (hL : L ≤ 129) (C0 : lw_At p s m meth c b L xs) {D : va_G} {aP aM : Nat → Nat} {kP kM : Nat → ClassId} {w : Nat} :
    ∀ (d i : Nat) (wP wM : va_W) (H : Heap) (locs : List Loc) (ls : Array Slot), 200 - i < d → i ≤ 200 → bo_ aP kP aM kM w wP wM → tX D (tyP kP) (tyM kM) (fun q : Nat => s.heap.size ≤ q) s H locs wP wM → lv_has ls 4 [(0, .ref b), (1, .ref (aP 0)), (2, .ref (aM 0)), (3, .int (nI i))] → W p l e room_1 s m #[Value.ref b] below meth c H locs 600000 7290000 (lw_Z below #[Value.ref b] s) (F0 m 28 ls []) := by
  obtain ⟨hx, hb, hr, hml, hown, hts0, hX, hbl, hlocks, hgv⟩ := id C0
  have hts : ∀ w ∈ lw_all, w.before #[Value.ref b] s = true := fun w h => hts0 w (lw_all_tbl h)
  have S : CallFix p m c cL_law 4 s #[Value.ref b] lw_all R_law := ⟨hx, hb, hml, hown, hts⟩
  have hA : ∀ q : Nat, s.heap.size ≤ q → (fun q : Nat => s.heap.size ≤ q) q := fun _ h => h
  intro d
  induction d with
  | zero =>
    intro i wP wM H locs ls hd
    omega
  | succ d ih =>
    intro i wP wM H locs ls hd hi hbo X hl
    have hS := X.2.2.2.2.2.2.2
    refine lv_iload_n hx hb dL_law_28 rfl (lv_at hl 3 rfl) ?_
    refine lv_aload_n hx hb dL_law_29 rfl (lv_at hl 0 rfl) ?_
    refine va_slen hx hb hX hbl (Nat.not_le.mpr hbl) hS dL_law_30 ?_
    refine lv_iconst (v := nI 2) hx hb dL_law_31 (by decide) ?_
    refine lv_isub hx hb dL_law_32 ?_
    refine mi_eq (y := nI L - nI 2) rfl ?_
    refine lv_icmp_gt (tgt := 365) hx hb dL_law_33 (by decide) (fun c33 => ?_) (fun c33 => ?_)
    · refine lv_iconst (v := 1) hx hb dL_law_365 (by decide) ?_
      exact va_forget (fun q hq => hS.2.2 q hq) (lw_ret hx hb hr hlocks dL_law_366)
    · have hi2 : i + 2 ≤ L := by
        have := mt (lw_gt hL (by omega)).mpr c33
        omega
      have nxt : ∀ (wP wM : va_W) (H : Heap) (locs : List Loc) (ls : Array Slot), bo_ aP kP aM kM w wP wM → tX D (tyP kP) (tyM kM) (fun q : Nat => s.heap.size ≤ q) s H locs wP wM → lv_has ls 4 [(0, .ref b), (1, .ref (aP 0)), (2, .ref (aM 0)), (3, .int (nI i))] → W p l e room_1 s m #[Value.ref b] below meth c H locs 600000 7290000 (lw_Z below #[Value.ref b] s) (F0 m 359 ls []) := by
        intro wP wM H locs ls hbo X hl
        refine lv_iinc (v := nI (i + 2)) (lv' := [(3, .int (nI (i + 2))), (0, .ref b), (1, .ref (aP 0)), (2, .ref (aM 0))]) hx hb dL_law_359 hl (k := 3) rfl (nI_add i 2) (by decide) rfl (fun ls hl => ?_)
        refine lv_goto (tgt := 28) hx hb dL_law_362 (by decide) ?_
        exact ih (i + 2) wP wM H locs ls (by omega) (by omega) hbo X (lv_sub hl [1, 2, 3, 0] rfl)
      obtain ⟨tk, n, fc, ct, hRP, hRM⟩ := id hbo
      obtain ⟨fsP, heP⟩ := hRP.head
      obtain ⟨fsM, heM⟩ := hRM.head
      refine lv_aload_n hx hb dL_law_36 rfl (lv_at hl 0 rfl) ?_
      refine lv_iload_n hx hb dL_law_37 rfl (lv_at hl 3 rfl) ?_
      refine lw_ld hx hb hL hX hbl hS (by omega) dL_law_38 ?_
      refine lv_bipush (v := nI 15) hx hb dL_law_39 (by decide) ?_
      refine lv_iand hx hb dL_law_41 ?_
      obtain ⟨j, hj, ej⟩ := pk_andE (xs i) (m := nI 15) 4 (by decide)
      refine mi_eq (y := nI j) ej ?_
      have hc : j = 0 ∨ j = 1 ∨ j = 2 ∨ j = 3 ∨ j = 4 ∨ j = 5 ∨ j = 6 ∨ j = 7 ∨ j = 8 ∨ j = 9 ∨ j = 10 ∨ j = 11 ∨ j = 12 ∨ j = 13 ∨ j = 14 ∨ j = 15 := by omega
      rcases hc with rfl | rfl | rfl | rfl | rfl | rfl | rfl | rfl | rfl | rfl | rfl | rfl | rfl | rfl | rfl | rfl
      · refine lv_tableIn (tgt := 116) hx hb dL_law_42 (by decide) (by decide) rfl (by decide) ?_
        refine lv_aload_n hx hb dL_law_116 rfl (lv_at hl 1 rfl) ?_
        refine lv_aload_n hx hb dL_law_117 rfl (lv_at hl 0 rfl) ?_
        refine lv_iload_n hx hb dL_law_118 rfl (lv_at hl 3 rfl) ?_
        refine lv_iconst (v := nI 1) hx hb dL_law_119 (by decide) ?_
        refine mn_iadd hx hb dL_law_120 ?_
        refine lw_ld hx hb hL hX hbl hS (by omega) dL_law_121 ?_
        refine tI_call (n := 1) (As := [.int (xs (i + 1))]) (rest := []) S X hA (rP_feed l D aP kP (xs (i + 1)) hRP) (lw_V q82 q83 q84 q13 q85) rfl rfl (by decide +kernel) ⟨Nat.le_of_ble_eq_true rfl, Nat.le_of_ble_eq_true rfl⟩ rfl heP hl.1 rfl rfl (Nat.le_of_ble_eq_true rfl) dL_law_122 ⟨Nat.le_refl _, Nat.le_refl _⟩ (fun r1 w1 H locs hq1 X => ?_)
        refine lv_aload_n hx hb dL_law_125 rfl (lv_at hl 2 rfl) ?_
        refine lv_aload_n hx hb dL_law_126 rfl (lv_at hl 0 rfl) ?_
        refine lv_iload_n hx hb dL_law_127 rfl (lv_at hl 3 rfl) ?_
        refine lv_iconst (v := nI 1) hx hb dL_law_128 (by decide) ?_
        refine mn_iadd hx hb dL_law_129 ?_
        refine lw_ld hx hb hL hX hbl X.2.2.2.2.2.2.2 (by omega) dL_law_130 ?_
        refine tI_call (n := 1) (As := [.int (xs (i + 1))]) (rest := [.int r1]) S X.symm hA (rM_feed l D aM kM (xs (i + 1)) hRM) (lw_V q213 q214 q215 q14 q216) rfl rfl (by decide +kernel) ⟨Nat.le_of_ble_eq_true rfl, Nat.le_of_ble_eq_true rfl⟩ rfl heM hl.1 rfl rfl (Nat.le_of_ble_eq_true rfl) dL_law_131 ⟨Nat.le_refl _, Nat.le_refl _⟩ (fun r2 w2 H locs hq2 X => ?_)
        obtain ⟨hee, hbo⟩ := jn_feed hq1 hq2
        refine lv_icmp_eq (tgt := 359) hx hb dL_law_134 (by decide) (fun _ => ?_) (fun cq => absurd hee cq)
        exact nxt w1 w2 H locs ls hbo X.symm hl
      · refine lv_tableIn (tgt := 139) hx hb dL_law_42 (by decide) (by decide) rfl (by decide) ?_
        refine lv_aload_n hx hb dL_law_139 rfl (lv_at hl 1 rfl) ?_
        refine tI_call (n := 0) (As := []) (rest := []) S X hA (rP_back l D aP kP hRP) (lw_V q97 q98 q99 q13 q100) rfl rfl (by decide +kernel) ⟨Nat.le_of_ble_eq_true rfl, Nat.le_of_ble_eq_true rfl⟩ rfl heP hl.1 rfl rfl (Nat.le_of_ble_eq_true rfl) dL_law_140 ⟨Nat.le_refl _, Nat.le_refl _⟩ (fun r1 w1 H locs hq1 X => ?_)
        refine lv_aload_n hx hb dL_law_143 rfl (lv_at hl 2 rfl) ?_
        refine tI_call (n := 0) (As := []) (rest := [.int r1]) S X.symm hA (rM_back l D aM kM hRM) (lw_V q221 q222 q223 q14 q224) rfl rfl (by decide +kernel) ⟨Nat.le_of_ble_eq_true rfl, Nat.le_of_ble_eq_true rfl⟩ rfl heM hl.1 rfl rfl (Nat.le_of_ble_eq_true rfl) dL_law_144 ⟨Nat.le_refl _, Nat.le_refl _⟩ (fun r2 w2 H locs hq2 X => ?_)
        obtain ⟨hee, hbo⟩ := jn_back hq1 hq2
        refine lv_icmp_eq (tgt := 359) hx hb dL_law_147 (by decide) (fun _ => ?_) (fun cq => absurd hee cq)
        exact nxt w1 w2 H locs ls hbo X.symm hl
      · refine lv_tableIn (tgt := 152) hx hb dL_law_42 (by decide) (by decide) rfl (by decide) ?_
        refine lv_aload_n hx hb dL_law_152 rfl (lv_at hl 1 rfl) ?_
        refine tI_call (n := 0) (As := []) (rest := []) S X hA (rP_complete l D aP kP hRP) (lw_V q101 q87 q88 q13 q89) rfl rfl (by decide +kernel) ⟨Nat.le_of_ble_eq_true rfl, Nat.le_of_ble_eq_true rfl⟩ rfl heP hl.1 rfl rfl (Nat.le_of_ble_eq_true rfl) dL_law_153 ⟨Nat.le_refl _, Nat.le_refl _⟩ (fun r1 w1 H locs hq1 X => ?_)
        refine lv_aload_n hx hb dL_law_156 rfl (lv_at hl 2 rfl) ?_
        refine tI_call (n := 0) (As := []) (rest := [.int r1]) S X.symm hA (rM_complete l D aM kM hRM) (lw_V q225 q218 q219 q14 q220) rfl rfl (by decide +kernel) ⟨Nat.le_of_ble_eq_true rfl, Nat.le_of_ble_eq_true rfl⟩ rfl heM hl.1 rfl rfl (Nat.le_of_ble_eq_true rfl) dL_law_157 ⟨Nat.le_refl _, Nat.le_refl _⟩ (fun r2 w2 H locs hq2 X => ?_)
        obtain ⟨hee, hbo⟩ := jn_same hq1 hq2
        refine lv_icmp_eq (tgt := 359) hx hb dL_law_160 (by decide) (fun _ => ?_) (fun cq => absurd hee cq)
        exact nxt w1 w2 H locs ls hbo X.symm hl
      · refine lv_tableIn (tgt := 165) hx hb dL_law_42 (by decide) (by decide) rfl (by decide) ?_
        refine lv_aload_n hx hb dL_law_165 rfl (lv_at hl 1 rfl) ?_
        refine tI_call (n := 0) (As := []) (rest := []) S X hA (rP_window l D aP kP hRP) (lw_V q102 q103 q104 q13 q105) rfl rfl (by decide +kernel) ⟨Nat.le_of_ble_eq_true rfl, Nat.le_of_ble_eq_true rfl⟩ rfl heP hl.1 rfl rfl (Nat.le_of_ble_eq_true rfl) dL_law_166 ⟨Nat.le_refl _, Nat.le_refl _⟩ (fun r1 w1 H locs hq1 X => ?_)
        refine lv_aload_n hx hb dL_law_169 rfl (lv_at hl 2 rfl) ?_
        refine tI_call (n := 0) (As := []) (rest := [.int r1]) S X.symm hA (rM_window l D aM kM hRM) (lw_V q226 q227 q228 q14 q229) rfl rfl (by decide +kernel) ⟨Nat.le_of_ble_eq_true rfl, Nat.le_of_ble_eq_true rfl⟩ rfl heM hl.1 rfl rfl (Nat.le_of_ble_eq_true rfl) dL_law_170 ⟨Nat.le_refl _, Nat.le_refl _⟩ (fun r2 w2 H locs hq2 X => ?_)
        obtain ⟨hee, hbo⟩ := jn_same hq1 hq2
        refine lv_icmp_eq (tgt := 359) hx hb dL_law_173 (by decide) (fun _ => ?_) (fun cq => absurd hee cq)
        exact nxt w1 w2 H locs ls hbo X.symm hl
      · refine lv_tableIn (tgt := 178) hx hb dL_law_42 (by decide) (by decide) rfl (by decide) ?_
        refine lv_aload_n hx hb dL_law_178 rfl (lv_at hl 1 rfl) ?_
        refine lv_aload_n hx hb dL_law_179 rfl (lv_at hl 0 rfl) ?_
        refine lv_iload_n hx hb dL_law_180 rfl (lv_at hl 3 rfl) ?_
        refine lv_iconst (v := nI 1) hx hb dL_law_181 (by decide) ?_
        refine mn_iadd hx hb dL_law_182 ?_
        refine lw_ld hx hb hL hX hbl hS (by omega) dL_law_183 ?_
        refine tI_call (n := 1) (As := [.int (xs (i + 1))]) (rest := []) S X hA (rP_event l D aP kP (xs (i + 1)) hRP) (lw_V q106 q107 q108 q13 q109) rfl rfl (by decide +kernel) ⟨Nat.le_of_ble_eq_true rfl, Nat.le_of_ble_eq_true rfl⟩ rfl heP hl.1 rfl rfl (Nat.le_of_ble_eq_true rfl) dL_law_184 ⟨Nat.le_refl _, Nat.le_refl _⟩ (fun r1 w1 H locs hq1 X => ?_)
        refine lv_aload_n hx hb dL_law_187 rfl (lv_at hl 2 rfl) ?_
        refine lv_aload_n hx hb dL_law_188 rfl (lv_at hl 0 rfl) ?_
        refine lv_iload_n hx hb dL_law_189 rfl (lv_at hl 3 rfl) ?_
        refine lv_iconst (v := nI 1) hx hb dL_law_190 (by decide) ?_
        refine mn_iadd hx hb dL_law_191 ?_
        refine lw_ld hx hb hL hX hbl X.2.2.2.2.2.2.2 (by omega) dL_law_192 ?_
        refine tI_call (n := 1) (As := [.int (xs (i + 1))]) (rest := [.int r1]) S X.symm hA (rM_event l D aM kM (xs (i + 1)) hRM) (lw_V q230 q231 q232 q14 q233) rfl rfl (by decide +kernel) ⟨Nat.le_of_ble_eq_true rfl, Nat.le_of_ble_eq_true rfl⟩ rfl heM hl.1 rfl rfl (Nat.le_of_ble_eq_true rfl) dL_law_193 ⟨Nat.le_refl _, Nat.le_refl _⟩ (fun r2 w2 H locs hq2 X => ?_)
        obtain ⟨hee, hbo⟩ := jn_event hq1 hq2
        refine lv_icmp_eq (tgt := 359) hx hb dL_law_196 (by decide) (fun _ => ?_) (fun cq => absurd hee cq)
        exact nxt w1 w2 H locs ls hbo X.symm hl
      · refine lv_tableIn (tgt := 201) hx hb dL_law_42 (by decide) (by decide) rfl (by decide) ?_
        refine lv_aload_n hx hb dL_law_201 rfl (lv_at hl 1 rfl) ?_
        refine tI_call (n := 0) (As := []) (rest := []) S X hA (rP_undo l D aP kP hRP) (lw_V q110 q111 q112 q13 q113) rfl rfl (by decide +kernel) ⟨Nat.le_of_ble_eq_true rfl, Nat.le_of_ble_eq_true rfl⟩ rfl heP hl.1 rfl rfl (Nat.le_of_ble_eq_true rfl) dL_law_202 ⟨Nat.le_refl _, Nat.le_refl _⟩ (fun r1 w1 H locs hq1 X => ?_)
        refine lv_aload_n hx hb dL_law_205 rfl (lv_at hl 2 rfl) ?_
        refine tI_call (n := 0) (As := []) (rest := [.int r1]) S X.symm hA (rM_undo l D aM kM hRM) (lw_V q234 q235 q236 q14 q237) rfl rfl (by decide +kernel) ⟨Nat.le_of_ble_eq_true rfl, Nat.le_of_ble_eq_true rfl⟩ rfl heM hl.1 rfl rfl (Nat.le_of_ble_eq_true rfl) dL_law_206 ⟨Nat.le_refl _, Nat.le_refl _⟩ (fun r2 w2 H locs hq2 X => ?_)
        obtain ⟨hee, hbo⟩ := jn_undo hq1 hq2
        refine lv_icmp_eq (tgt := 359) hx hb dL_law_209 (by decide) (fun _ => ?_) (fun cq => absurd hee cq)
        exact nxt w1 w2 H locs ls hbo X.symm hl
      · refine lv_tableIn (tgt := 214) hx hb dL_law_42 (by decide) (by decide) rfl (by decide) ?_
        refine lv_aload_n hx hb dL_law_214 rfl (lv_at hl 1 rfl) ?_
        refine tV_call (n := 0) (As := []) (rest := []) S X hA (rP_restart l D aP kP hRP) (lw_V q114 q115 q116 q13 q117) rfl rfl (by decide +kernel) ⟨Nat.le_of_ble_eq_true rfl, Nat.le_of_ble_eq_true rfl⟩ rfl heP hl.1 rfl rfl (Nat.le_of_ble_eq_true rfl) dL_law_215 ⟨Nat.le_refl _, Nat.le_refl _⟩ (fun w1 H locs hq1 X => ?_)
        refine lv_aload_n hx hb dL_law_218 rfl (lv_at hl 2 rfl) ?_
        refine tV_call (n := 0) (As := []) (rest := []) S X.symm hA (rM_restart l D aM kM hRM) (lw_V q238 q239 q240 q14 q241) rfl rfl (by decide +kernel) ⟨Nat.le_of_ble_eq_true rfl, Nat.le_of_ble_eq_true rfl⟩ rfl heM hl.1 rfl rfl (Nat.le_of_ble_eq_true rfl) dL_law_219 ⟨Nat.le_refl _, Nat.le_refl _⟩ (fun w2 H locs hq2 X => ?_)
        refine lv_goto (tgt := 359) hx hb dL_law_222 (by decide) ?_
        exact nxt w1 w2 H locs ls ⟨_, _, _, _, hq1, hq2⟩ X.symm hl
      · refine lv_tableIn (tgt := 225) hx hb dL_law_42 (by decide) (by decide) rfl (by decide) ?_
        refine lv_aload_n hx hb dL_law_225 rfl (lv_at hl 1 rfl) ?_
        refine tI_call (n := 0) (As := []) (rest := []) S X hA (rP_events l D aP kP hRP) (lw_V q118 q119 q120 q13 q121) rfl rfl (by decide +kernel) ⟨Nat.le_of_ble_eq_true rfl, Nat.le_of_ble_eq_true rfl⟩ rfl heP hl.1 rfl rfl (Nat.le_of_ble_eq_true rfl) dL_law_226 ⟨Nat.le_refl _, Nat.le_refl _⟩ (fun r1 w1 H locs hq1 X => ?_)
        refine lv_aload_n hx hb dL_law_229 rfl (lv_at hl 2 rfl) ?_
        refine tI_call (n := 0) (As := []) (rest := [.int r1]) S X.symm hA (rM_events l D aM kM hRM) (lw_V q242 q243 q244 q14 q245) rfl rfl (by decide +kernel) ⟨Nat.le_of_ble_eq_true rfl, Nat.le_of_ble_eq_true rfl⟩ rfl heM hl.1 rfl rfl (Nat.le_of_ble_eq_true rfl) dL_law_230 ⟨Nat.le_refl _, Nat.le_refl _⟩ (fun r2 w2 H locs hq2 X => ?_)
        obtain ⟨hee, hbo⟩ := jn_same hq1 hq2
        refine lv_icmp_eq (tgt := 359) hx hb dL_law_233 (by decide) (fun _ => ?_) (fun cq => absurd hee cq)
        exact nxt w1 w2 H locs ls hbo X.symm hl
      · refine lv_tableIn (tgt := 238) hx hb dL_law_42 (by decide) (by decide) rfl (by decide) ?_
        refine lv_aload_n hx hb dL_law_238 rfl (lv_at hl 1 rfl) ?_
        refine tI_call (n := 0) (As := []) (rest := []) S X hA (mP_now l D aP kP hRP) (lw_V q122 q123 q124 q13 q125) rfl rfl (by decide +kernel) ⟨Nat.le_of_ble_eq_true rfl, Nat.le_of_ble_eq_true rfl⟩ rfl heP hl.1 rfl rfl (Nat.le_of_ble_eq_true rfl) dL_law_239 ⟨Nat.le_refl _, Nat.le_refl _⟩ (fun r1 w1 H locs hq1 X => ?_)
        refine lv_aload_n hx hb dL_law_242 rfl (lv_at hl 2 rfl) ?_
        refine tI_call (n := 0) (As := []) (rest := [.int r1]) S X.symm hA (mM_now l D aM kM hRM) (lw_V q246 q247 q248 q14 q249) rfl rfl (by decide +kernel) ⟨Nat.le_of_ble_eq_true rfl, Nat.le_of_ble_eq_true rfl⟩ rfl heM hl.1 rfl rfl (Nat.le_of_ble_eq_true rfl) dL_law_243 ⟨Nat.le_refl _, Nat.le_refl _⟩ (fun r2 w2 H locs hq2 X => ?_)
        obtain ⟨hee, hbo⟩ := jn_same hq1 hq2
        refine lv_icmp_eq (tgt := 359) hx hb dL_law_246 (by decide) (fun _ => ?_) (fun cq => absurd hee cq)
        exact nxt w1 w2 H locs ls hbo X.symm hl
      · refine lv_tableIn (tgt := 251) hx hb dL_law_42 (by decide) (by decide) rfl (by decide) ?_
        refine lv_aload_n hx hb dL_law_251 rfl (lv_at hl 1 rfl) ?_
        refine lv_aload_n hx hb dL_law_252 rfl (lv_at hl 0 rfl) ?_
        refine lv_iload_n hx hb dL_law_253 rfl (lv_at hl 3 rfl) ?_
        refine lv_iconst (v := nI 1) hx hb dL_law_254 (by decide) ?_
        refine mn_iadd hx hb dL_law_255 ?_
        refine lw_ld hx hb hL hX hbl hS (by omega) dL_law_256 ?_
        refine tI_call (n := 1) (As := [.int (xs (i + 1))]) (rest := []) S X hA (mP_at l D aP kP (xs (i + 1)) hRP) (lw_V q155 q127 q128 q13 q129) rfl rfl (by decide +kernel) ⟨Nat.le_of_ble_eq_true rfl, Nat.le_of_ble_eq_true rfl⟩ rfl heP hl.1 rfl rfl (Nat.le_of_ble_eq_true rfl) dL_law_257 ⟨Nat.le_refl _, Nat.le_refl _⟩ (fun r1 w1 H locs hq1 X => ?_)
        refine lv_aload_n hx hb dL_law_260 rfl (lv_at hl 2 rfl) ?_
        refine lv_aload_n hx hb dL_law_261 rfl (lv_at hl 0 rfl) ?_
        refine lv_iload_n hx hb dL_law_262 rfl (lv_at hl 3 rfl) ?_
        refine lv_iconst (v := nI 1) hx hb dL_law_263 (by decide) ?_
        refine mn_iadd hx hb dL_law_264 ?_
        refine lw_ld hx hb hL hX hbl X.2.2.2.2.2.2.2 (by omega) dL_law_265 ?_
        refine tI_call (n := 1) (As := [.int (xs (i + 1))]) (rest := [.int r1]) S X.symm hA (mM_at l D aM kM (xs (i + 1)) hRM) (lw_V q270 q251 q252 q14 q253) rfl rfl (by decide +kernel) ⟨Nat.le_of_ble_eq_true rfl, Nat.le_of_ble_eq_true rfl⟩ rfl heM hl.1 rfl rfl (Nat.le_of_ble_eq_true rfl) dL_law_266 ⟨Nat.le_refl _, Nat.le_refl _⟩ (fun r2 w2 H locs hq2 X => ?_)
        obtain ⟨hee, hbo⟩ := jn_same hq1 hq2
        refine lv_icmp_eq (tgt := 359) hx hb dL_law_269 (by decide) (fun _ => ?_) (fun cq => absurd hee cq)
        exact nxt w1 w2 H locs ls hbo X.symm hl
      · refine lv_tableIn (tgt := 274) hx hb dL_law_42 (by decide) (by decide) rfl (by decide) ?_
        refine lv_aload_n hx hb dL_law_274 rfl (lv_at hl 1 rfl) ?_
        refine tI_call (n := 0) (As := []) (rest := []) S X hA (mP_count l D aP kP hRP) (lw_V q156 q157 q158 q13 q159) rfl rfl (by decide +kernel) ⟨Nat.le_of_ble_eq_true rfl, Nat.le_of_ble_eq_true rfl⟩ rfl heP hl.1 rfl rfl (Nat.le_of_ble_eq_true rfl) dL_law_275 ⟨Nat.le_refl _, Nat.le_refl _⟩ (fun r1 w1 H locs hq1 X => ?_)
        refine lv_aload_n hx hb dL_law_278 rfl (lv_at hl 2 rfl) ?_
        refine tI_call (n := 0) (As := []) (rest := [.int r1]) S X.symm hA (mM_count l D aM kM hRM) (lw_V q271 q272 q273 q14 q274) rfl rfl (by decide +kernel) ⟨Nat.le_of_ble_eq_true rfl, Nat.le_of_ble_eq_true rfl⟩ rfl heM hl.1 rfl rfl (Nat.le_of_ble_eq_true rfl) dL_law_279 ⟨Nat.le_refl _, Nat.le_refl _⟩ (fun r2 w2 H locs hq2 X => ?_)
        obtain ⟨hee, hbo⟩ := jn_same hq1 hq2
        refine lv_icmp_eq (tgt := 359) hx hb dL_law_282 (by decide) (fun _ => ?_) (fun cq => absurd hee cq)
        exact nxt w1 w2 H locs ls hbo X.symm hl
      · refine lv_tableIn (tgt := 287) hx hb dL_law_42 (by decide) (by decide) rfl (by decide) ?_
        refine lv_aload_n hx hb dL_law_287 rfl (lv_at hl 1 rfl) ?_
        refine lv_aload_n hx hb dL_law_288 rfl (lv_at hl 0 rfl) ?_
        refine lv_iload_n hx hb dL_law_289 rfl (lv_at hl 3 rfl) ?_
        refine lv_iconst (v := nI 1) hx hb dL_law_290 (by decide) ?_
        refine mn_iadd hx hb dL_law_291 ?_
        refine lw_ld hx hb hL hX hbl hS (by omega) dL_law_292 ?_
        refine tI_call (n := 1) (As := [.int (xs (i + 1))]) (rest := []) S X hA (mP_violation l D aP kP (xs (i + 1)) hRP) (lw_V q160 q161 q162 q13 q163) rfl rfl (by decide +kernel) ⟨Nat.le_of_ble_eq_true rfl, Nat.le_of_ble_eq_true rfl⟩ rfl heP hl.1 rfl rfl (Nat.le_of_ble_eq_true rfl) dL_law_293 ⟨Nat.le_refl _, Nat.le_refl _⟩ (fun r1 w1 H locs hq1 X => ?_)
        refine lv_aload_n hx hb dL_law_296 rfl (lv_at hl 2 rfl) ?_
        refine lv_aload_n hx hb dL_law_297 rfl (lv_at hl 0 rfl) ?_
        refine lv_iload_n hx hb dL_law_298 rfl (lv_at hl 3 rfl) ?_
        refine lv_iconst (v := nI 1) hx hb dL_law_299 (by decide) ?_
        refine mn_iadd hx hb dL_law_300 ?_
        refine lw_ld hx hb hL hX hbl X.2.2.2.2.2.2.2 (by omega) dL_law_301 ?_
        refine tI_call (n := 1) (As := [.int (xs (i + 1))]) (rest := [.int r1]) S X.symm hA (mM_violation l D aM kM (xs (i + 1)) hRM) (lw_V q275 q276 q277 q14 q278) rfl rfl (by decide +kernel) ⟨Nat.le_of_ble_eq_true rfl, Nat.le_of_ble_eq_true rfl⟩ rfl heM hl.1 rfl rfl (Nat.le_of_ble_eq_true rfl) dL_law_302 ⟨Nat.le_refl _, Nat.le_refl _⟩ (fun r2 w2 H locs hq2 X => ?_)
        obtain ⟨hee, hbo⟩ := jn_same hq1 hq2
        refine lv_icmp_eq (tgt := 359) hx hb dL_law_305 (by decide) (fun _ => ?_) (fun cq => absurd hee cq)
        exact nxt w1 w2 H locs ls hbo X.symm hl
      · refine lv_tableIn (tgt := 310) hx hb dL_law_42 (by decide) (by decide) rfl (by decide) ?_
        refine lv_aload_n hx hb dL_law_310 rfl (lv_at hl 1 rfl) ?_
        refine tI_call (n := 0) (As := []) (rest := []) S X hA (mP_streak l D aP kP hRP) (lw_V q164 q165 q166 q13 q167) rfl rfl (by decide +kernel) ⟨Nat.le_of_ble_eq_true rfl, Nat.le_of_ble_eq_true rfl⟩ rfl heP hl.1 rfl rfl (Nat.le_of_ble_eq_true rfl) dL_law_311 ⟨Nat.le_refl _, Nat.le_refl _⟩ (fun r1 w1 H locs hq1 X => ?_)
        refine lv_aload_n hx hb dL_law_314 rfl (lv_at hl 2 rfl) ?_
        refine tI_call (n := 0) (As := []) (rest := [.int r1]) S X.symm hA (mM_streak l D aM kM hRM) (lw_V q279 q280 q281 q14 q282) rfl rfl (by decide +kernel) ⟨Nat.le_of_ble_eq_true rfl, Nat.le_of_ble_eq_true rfl⟩ rfl heM hl.1 rfl rfl (Nat.le_of_ble_eq_true rfl) dL_law_315 ⟨Nat.le_refl _, Nat.le_refl _⟩ (fun r2 w2 H locs hq2 X => ?_)
        obtain ⟨hee, hbo⟩ := jn_same hq1 hq2
        refine lv_icmp_eq (tgt := 359) hx hb dL_law_318 (by decide) (fun _ => ?_) (fun cq => absurd hee cq)
        exact nxt w1 w2 H locs ls hbo X.symm hl
      · refine lv_tableIn (tgt := 323) hx hb dL_law_42 (by decide) (by decide) rfl (by decide) ?_
        refine lv_aload_n hx hb dL_law_323 rfl (lv_at hl 1 rfl) ?_
        refine lv_aload_n hx hb dL_law_324 rfl (lv_at hl 0 rfl) ?_
        refine lv_iload_n hx hb dL_law_325 rfl (lv_at hl 3 rfl) ?_
        refine lv_iconst (v := nI 1) hx hb dL_law_326 (by decide) ?_
        refine mn_iadd hx hb dL_law_327 ?_
        refine lw_ld hx hb hL hX hbl hS (by omega) dL_law_328 ?_
        refine tI_call (n := 1) (As := [.int (xs (i + 1))]) (rest := []) S X hA (mP_wouldHold l D aP kP (xs (i + 1)) hRP) (lw_V q168 q169 q170 q13 q171) rfl rfl (by decide +kernel) ⟨Nat.le_of_ble_eq_true rfl, Nat.le_of_ble_eq_true rfl⟩ rfl heP hl.1 rfl rfl (Nat.le_of_ble_eq_true rfl) dL_law_329 ⟨Nat.le_refl _, Nat.le_refl _⟩ (fun r1 w1 H locs hq1 X => ?_)
        refine lv_aload_n hx hb dL_law_332 rfl (lv_at hl 2 rfl) ?_
        refine lv_aload_n hx hb dL_law_333 rfl (lv_at hl 0 rfl) ?_
        refine lv_iload_n hx hb dL_law_334 rfl (lv_at hl 3 rfl) ?_
        refine lv_iconst (v := nI 1) hx hb dL_law_335 (by decide) ?_
        refine mn_iadd hx hb dL_law_336 ?_
        refine lw_ld hx hb hL hX hbl X.2.2.2.2.2.2.2 (by omega) dL_law_337 ?_
        refine tI_call (n := 1) (As := [.int (xs (i + 1))]) (rest := [.int r1]) S X.symm hA (mM_wouldHold l D aM kM (xs (i + 1)) hRM) (lw_V q283 q284 q285 q14 q286) rfl rfl (by decide +kernel) ⟨Nat.le_of_ble_eq_true rfl, Nat.le_of_ble_eq_true rfl⟩ rfl heM hl.1 rfl rfl (Nat.le_of_ble_eq_true rfl) dL_law_338 ⟨Nat.le_refl _, Nat.le_refl _⟩ (fun r2 w2 H locs hq2 X => ?_)
        obtain ⟨hee, hbo⟩ := jn_same hq1 hq2
        refine lv_icmp_eq (tgt := 359) hx hb dL_law_341 (by decide) (fun _ => ?_) (fun cq => absurd hee cq)
        exact nxt w1 w2 H locs ls hbo X.symm hl
      · refine lv_tableIn (tgt := 346) hx hb dL_law_42 (by decide) (by decide) rfl (by decide) ?_
        refine lv_aload_n hx hb dL_law_346 rfl (lv_at hl 1 rfl) ?_
        refine tI_call (n := 0) (As := []) (rest := []) S X hA (mP_allowed l D aP kP hRP) (lw_V q176 q177 q178 q13 q179) rfl rfl (by decide +kernel) ⟨Nat.le_of_ble_eq_true rfl, Nat.le_of_ble_eq_true rfl⟩ rfl heP hl.1 rfl rfl (Nat.le_of_ble_eq_true rfl) dL_law_347 ⟨Nat.le_refl _, Nat.le_refl _⟩ (fun r1 w1 H locs hq1 X => ?_)
        refine lv_aload_n hx hb dL_law_350 rfl (lv_at hl 2 rfl) ?_
        refine tI_call (n := 0) (As := []) (rest := [.int r1]) S X.symm hA (mM_allowed l D aM kM hRM) (lw_V q287 q288 q289 q14 q290) rfl rfl (by decide +kernel) ⟨Nat.le_of_ble_eq_true rfl, Nat.le_of_ble_eq_true rfl⟩ rfl heM hl.1 rfl rfl (Nat.le_of_ble_eq_true rfl) dL_law_351 ⟨Nat.le_refl _, Nat.le_refl _⟩ (fun r2 w2 H locs hq2 X => ?_)
        obtain ⟨hee, hbo⟩ := jn_same hq1 hq2
        refine lv_icmp_eq (tgt := 359) hx hb dL_law_354 (by decide) (fun _ => ?_) (fun cq => absurd hee cq)
        exact nxt w1 w2 H locs ls hbo X.symm hl
      · refine lv_tableOut (tgt := 359) hx hb dL_law_42 (by decide) (by decide) ?_
        exact nxt wP wM H locs ls hbo X hl
end LWL
end
section
set_option maxRecDepth 100000
set_option maxHeartbeats 4000000 in
theorem cl_call {p : Program} {l : Launch} {e : Env} {R : Room} {s : State} {m : MethodId} {args : Array Value} {below : List Frame} {meth : Method} {c : Code} {H : Heap} {locs : List Loc} {cells slots : Nat} {Q : State → Prop} {cc : ByteArray} {pc nL : Nat} {ls : Array Slot} {rest : List Value} {D : va_G} {ws : va_W} {b L : Nat} {xs : Nat → Int32} (hL : L ≤ 129)
    (S : CallFix p m c cc nL s args lw_all R_law) (hX : va_X b L xs s s.heap) (hbl : b < s.heap.size) (hP : va_P D vwCl ws H) (hS : va_S (fun q : Nat => s.heap.size ≤ q) s.heap H locs) (hR : 1 ≤ R.frames ∧ 21 ≤ R.locals) (hcs : cells ≤ R.cells ∧ slots ≤ R.slots) (hls : ls.size = nL) (hrest : (rest.map fun v => v.category).sum ≤ 8) (hdg : decode cc pc = .ok (.invokestatic 9, 3))
    (kk : ∀ (H1 : Heap) (locs1 : List Loc), va_P D vwCl ws H1 → va_S (fun q : Nat => s.heap.size ≤ q) s.heap H1 locs1 → W p l e R s m args below meth c H1 locs1 cells slots Q (F0 m (pc + 3) ls (.int (cl_ L xs) :: rest))) : W p l e R s m args below meth c H locs cells slots Q (F0 m pc ls (.int (nI 0) :: .ref b :: rest)) := by
  have hF : ∀ q, va_A [] H.size q → (fun q : Nat => s.heap.size ≤ q) q := by
    intro q h
    rcases h with ⟨k, e1, h⟩ | h
    · simp at h
    · exact Nat.le_trans hS.1 h
  have hXH : va_X b L xs s H := hX.kept (hS.2.1 b hbl (Nat.not_le.mpr hbl))
  refine va_calli (va_runS (As := [.ref b, .int (nI 0)]) (rest := rest) S (mL_cell l b L H.size xs hL) (va_cwS 2 S.2.2.2.2 (lw_S q181 q182 q12 q183) rfl rfl rfl (by decide +kernel) hR) ⟨?_, ?_⟩ rfl rfl hls rfl (lv_room hrest) hdg hcs) hS (fun q _ h => hF q h) hF (fun r u t H1 locs1 ht hvm hp hB hz hk hS1 => ?_)
  · intro a U g mk q
    obtain ⟨q0, q1, q2, q3⟩ := q
    exact ⟨q0, q1, va_X.moved (u := U) (U := U.calling g mk a) (Vm.Alike.refl U.vm) q2, q3⟩
  · intro U hU hW
    exact ⟨rfl, by rw [hU], by rw [hU]; exact va_X.moved hW.alike hXH, Nat.lt_of_lt_of_le hbl hS.1⟩
  · subst hp
    refine kk H1 locs1 (hP.kept (fun k q hq => hk q.1 (hP k q hq).lt ?_)) hS1
    intro h
    rcases h with ⟨k1, e1, h⟩ | h
    · simp at h
    · exact absurd (hP k q hq).lt (by omega)
set_option maxHeartbeats 4000000 in
/-- THE LAW, from its entry -/
theorem whole_start {p : Program} {e : Env} {s : State} {m : MethodId} {below : List Frame} {meth : Method} {c : Code} (l : Launch) {b L : Nat} {xs : Nat → Int32} (hL : L ≤ 129) (C0 : lw_At p s m meth c b L xs) : W p l e room_1 s m #[Value.ref b] below meth c s.heap [] 0 0 (lw_Z below #[Value.ref b] s) (entryFrame m ([Value.ref b] : List Value).toArray 4) := by
  obtain ⟨hx, hb, hr, hml, hown, hts0, hX, hbl, hlocks, hgv⟩ := id C0
  have hts : ∀ w ∈ lw_all, w.before #[Value.ref b] s = true := fun w h => hts0 w (lw_all_tbl h)
  have S : CallFix p m c cL_law 4 s #[Value.ref b] lw_all R_law := ⟨hx, hb, hml, hown, hts⟩
  have hA : ∀ q : Nat, s.heap.size ≤ q → (fun q : Nat => s.heap.size ≤ q) q := fun _ h => h
  obtain ⟨c0, iS0, hKn0⟩ := u_known (C := RX1) (T := TX1) (N := 18) (n := 18) hts0 (fun w h => lw_all_tbl (in_X1 w h)) (hts _ q16)
  obtain ⟨c1, iS1, hKn1⟩ := u_known (C := RX2) (T := TX2) (N := 7) (n := 7) hts0 (fun w h => lw_all_tbl (in_X2 w h)) (hts _ q185)
  obtain ⟨D, hKc⟩ : ∃ D : va_G, ∀ (k : Nat) (q : vw_C), vwCl[k]? = some q → u_Kn s q.1 q.2.1 q.2.2 (D.1 k) (D.2 k) := by
    refine ⟨(fun k => if k = 0 then c0 else c1, fun k => if k = 0 then iS0 else iS1), ?_⟩
    intro k q hq
    match k, hq with
    | 0, hq => cases hq; exact hKn0
    | 1, hq => cases hq; exact hKn1
    | k + 2, hq => simp [vwCl] at hq
  have hS : va_S (fun q : Nat => s.heap.size ≤ q) s.heap s.heap [] := va_S.rf
  have hK : va_K D vwCl [] s := ⟨hKc, fun k q h => by simp at h⟩
  have hP : va_P D vwCl [] s.heap := fun k q h => by simp at h
  have hD : va_D (fun q : Nat => s.heap.size ≤ q) [] := ⟨fun i j p q h => by simp at h, fun k q h => by simp at h⟩
  have hl := lv_entry ([.ref b]) (n := 4) (Nat.le_of_ble_eq_true rfl)
  rw [lg_entry_eq]
  generalize (lg_sl ([.ref b]) ++ List.replicate (4 - (lg_sl ([.ref b])).length) Slot.unset).toArray = ls at hl ⊢
  have hl : lv_has ls 4 [(0, .ref b)] := hl
  refine va_new (D := D) (ci := 0) (fs := [.int 0, .null, .int 0, .null, .null, .null, .int 0, .null, .int 0, .int 0, .null, .null, .null, .null, .null, .null, .null, .null]) (C := RX1) (T := TX1) (N := 18) hx hb hts in_X1 tyX1 tyX1_ok hown (hts _ q15) (hts _ q16) (hts _ q13) hK hP hD hS hA rfl (fun j hj => by
    match j, hj with
    | 0, _ => rfl
    | 1, _ => rfl
    | 2, _ => rfl
    | 3, _ => rfl
    | 4, _ => rfl
    | 5, _ => rfl
    | 6, _ => rfl
    | 7, _ => rfl
    | 8, _ => rfl
    | 9, _ => rfl
    | 10, _ => rfl
    | 11, _ => rfl
    | 12, _ => rfl
    | 13, _ => rfl
    | 14, _ => rfl
    | 15, _ => rfl
    | 16, _ => rfl
    | 17, _ => rfl
    | j + 18, hj => exact absurd hj (by omega)) (Nat.le_of_ble_eq_true rfl) (Nat.le_of_ble_eq_true rfl) dL_law_0 (fun y0 H hP hD hS => ?_)
  have hP : va_P D vwCl [(y0, .inr (0, [.int 0, .null, .int 0, .null, .null, .null, .int 0, .null, .int 0, .int 0, .null, .null, .null, .null, .null, .null, .null, .null]))] H := hP
  have hD : va_D (fun q : Nat => s.heap.size ≤ q) [(y0, .inr (0, [.int 0, .null, .int 0, .null, .null, .null, .int 0, .null, .int 0, .int 0, .null, .null, .null, .null, .null, .null, .null, .null]))] := hD
  refine W.widen (k := 1) (n := 18) (by decide) (by decide) ?_
  refine lv_dup hx hb dL_law_3 rfl ?_
  refine lv_aload_n hx hb dL_law_4 rfl (lv_at hl 0 rfl) ?_
  refine lv_iconst (v := nI 0) hx hb dL_law_5 (by decide) ?_
  refine cl_call hL S hX hbl hP hS ⟨Nat.le_of_ble_eq_true rfl, Nat.le_of_ble_eq_true rfl⟩ ⟨Nat.le_of_ble_eq_true rfl, Nat.le_of_ble_eq_true rfl⟩ hl.1 (Nat.le_of_ble_eq_true rfl) dL_law_6 (fun H locs hP hS => ?_)
  have X0 : wX D [] (fun q : Nat => s.heap.size ≤ q) s H locs [(y0, .inr (0, [.int 0, .null, .int 0, .null, .null, .null, .int 0, .null, .int 0, .int 0, .null, .null, .null, .null, .null, .null, .null, .null]))] := ⟨hK, hP, hD, hS⟩
  have hF := X0.free hA
  refine va_callv (va_runI (As := [.int (cl_ L xs)]) (rest := [.ref y0]) S (mP_init l D y0 H.size (cl_ L xs)) (cwI 1 hts (lw_meth q19) rfl rfl rfl (hts _ q13) (hts _ q17) (hts _ q18) rfl (by decide +kernel) ⟨Nat.le_of_ble_eq_true rfl, Nat.le_of_ble_eq_true rfl⟩) ⟨cP_blind, X0.pre _⟩ rfl rfl hl.1 rfl (lv_room (Nat.le_of_ble_eq_true rfl)) dL_law_9 ⟨Nat.le_of_ble_eq_true rfl, Nat.le_of_ble_eq_true rfl⟩) hS (fun q _ h => hF q h) hF (fun u t H1 locs ht hvm hw hB hz1 hk1 hS => ?_)
  obtain ⟨aP, kP⟩ := u
  have hw : aP 0 = y0 := hw
  obtain ⟨hP1, hK1, hD1⟩ := hB
  rw [ht] at hP1
  have hKP := va_K.moved hvm.symm hK1
  have hDP := hD1.weaken (fun k q _ h => hF q.1 h)
  generalize H1 = H at hP1 hS ⊢
  subst hw
  refine W.widen (k := 14) (n := 380) (by decide) (by decide) ?_
  refine lv_astore_n (lv' := [(1, .ref (aP 0)), (0, .ref b)]) hx hb dL_law_12 rfl hl (by decide) rfl (fun ls hl => ?_)
  refine va_new (D := D) (ci := 1) (fs := [.int 0, .int 0, .null, .int 0, .null, .null, .null]) (C := RX2) (T := TX2) (N := 7) hx hb hts in_X2 tyX2 tyX2_ok hown (hts _ q184) (hts _ q185) (hts _ q14) hKP hP1 hDP hS hA rfl (fun j hj => by
    match j, hj with
    | 0, _ => rfl
    | 1, _ => rfl
    | 2, _ => rfl
    | 3, _ => rfl
    | 4, _ => rfl
    | 5, _ => rfl
    | 6, _ => rfl
    | j + 7, hj => exact absurd hj (by omega)) (Nat.le_of_ble_eq_true rfl) (Nat.le_of_ble_eq_true rfl) dL_law_13 (fun y1 H hP hD hS => ?_)
  refine W.widen (k := 15) (n := 387) (by decide) (by decide) ?_
  refine lv_dup hx hb dL_law_16 rfl ?_
  refine lv_aload_n hx hb dL_law_17 rfl (lv_at hl 1 rfl) ?_
  refine lv_iconst (v := nI 0) hx hb dL_law_18 (by decide) ?_
  refine cl_call hL S hX hbl hP hS ⟨Nat.le_of_ble_eq_true rfl, Nat.le_of_ble_eq_true rfl⟩ ⟨Nat.le_of_ble_eq_true rfl, Nat.le_of_ble_eq_true rfl⟩ hl.1 (Nat.le_of_ble_eq_true rfl) dL_law_19 (fun H locs hP hS => ?_)
  have X2 : tX D (tyP kP) [] (fun q : Nat => s.heap.size ≤ q) s H locs (pmW aP kP (cw_ (cl_ L xs)) (fun _ => 0) 0 (fun _ => 0) (fun _ => 0) (fun _ => 0) 0 (fun _ => 0) 0 0 (fun _ => 0) (fun _ => 0) (fun _ => 0) (fun _ => 0) (fun _ => 1) (fun _ => 0) (fun _ => 0) (fun _ => 1)) [(y1, .inr (1, [.int 0, .int 0, .null, .int 0, .null, .null, .null]))] := tX_app hKP hK hP hD hS
  have X3 := X2.symm
  have X4 := X3.one
  have hF := X4.free hA
  refine va_callv (va_runI (As := [.int (cl_ L xs)]) (rest := [.ref y1]) S (mM_init l D y1 H.size (cl_ L xs)) (cwI 1 hts (lw_meth q188) rfl rfl rfl (hts _ q14) (hts _ q186) (hts _ q187) rfl (by decide +kernel) ⟨Nat.le_of_ble_eq_true rfl, Nat.le_of_ble_eq_true rfl⟩) ⟨cP_blind, X4.pre _⟩ rfl rfl hl.1 rfl (lv_room (Nat.le_of_ble_eq_true rfl)) dL_law_22 ⟨Nat.le_of_ble_eq_true rfl, Nat.le_of_ble_eq_true rfl⟩) hS (fun q _ h => hF q h) hF (fun u t H1 locs ht hvm hw hB hz1 hk1 hS => ?_)
  obtain ⟨aM, kM⟩ := u
  have hw : aM 0 = y1 := hw
  obtain ⟨hP1, hK1, hD1⟩ := hB
  rw [ht] at hP1
  have X5 := (X3.after hA (va_K.moved hvm.symm hK1) hP1 hD1 hk1 hS).symm
  subst hw
  refine W.widen (k := 600000) (n := 7290000) (by decide) (by decide) ?_
  refine lv_astore_n (lv' := [(2, .ref (aM 0)), (1, .ref (aP 0)), (0, .ref b)]) hx hb dL_law_25 rfl hl (by decide) rfl (fun ls hl => ?_)
  refine lv_iconst (v := nI 1) hx hb dL_law_26 (by decide) ?_
  refine lv_istore_n (lv' := [(3, .int (nI 1)), (2, .ref (aM 0)), (1, .ref (aP 0)), (0, .ref b)]) hx hb dL_law_27 rfl hl (by decide) rfl (fun ls hl => ?_)
  have hb0 : bo_ aP kP aM kM (cw_ (cl_ L xs)) (pmW aP kP (cw_ (cl_ L xs)) (fun _ => 0) 0 (fun _ => 0) (fun _ => 0) (fun _ => 0) 0 (fun _ => 0) 0 0 (fun _ => 0) (fun _ => 0) (fun _ => 0) (fun _ => 0) (fun _ => 1) (fun _ => 0) (fun _ => 0) (fun _ => 1)) (mdW aM kM (cw_ (cl_ L xs)) 0 (fun _ => 0) 0 (fun _ => 0) (fun _ => 0) (fun _ => 0)) := ⟨(fun _ => 0), 0, (fun _ => 0), 0, ⟨_, _, _, _, _, _, _, _, _, _, _, _, _, rfl, cw_le _, Nat.zero_le _, fun _ => Nat.zero_le _, fun j hj => absurd hj (by omega), Nat.zero_le _, fun _ => Nat.zero_le _, Nat.le_refl _, fun q => absurd q (by omega)⟩, ⟨_, _, _, rfl, ⟨cw_le _, Nat.zero_le _, fun _ => Nat.zero_le _, fun j hj => absurd hj (by omega), Nat.zero_le _, fun _ => Nat.zero_le _, fun _ _ => Nat.zero_lt_two⟩, fun u hu => absurd hu (by omega)⟩⟩
  exact law_loop l hL C0 201 1 _ _ _ _ ls (by omega) (by omega) hb0 X5 (lv_sub hl [3, 2, 1, 0] rfl)
set_option maxHeartbeats 4000000 in
theorem lw_walk (l : Launch) (b : Addr) (xs : List Int32) : MetFree l x (headSpec (Jvm.Cond.code x code maxLocals ret :: tables_1) room_1) (lw_P b xs) (fun _ _ _ _ _ => True) lw_Q := by
  refine MetFree.of_bodyS (code := code) (maxLocals := maxLocals) (ret := ret) (by decide) ?_ ?_
  · intro args s m h hn
    obtain ⟨meth, c, h1, h2, h3, h4, h5, h6, -, -⟩ := Cond.code_spec hn (atoms_spec (ws := Jvm.Cond.code x code maxLocals ret :: tables_1) h _ List.mem_cons_self)
    exact ⟨meth, c, h1, h2, h3, h4, h5, h6⟩
  · intro p e s m args below meth c s₁ B hml0 hP _
    obtain ⟨rfl, hx, hbd, hgv⟩ := hP
    obtain ⟨scr, harrAt, hlist, hof, hsmall⟩ := hx
    obtain ⟨hcb, hkn, -, -⟩ := State.arrayAt?_spec harrAt
    have hown : s.vm.findClass R_law = some m.cls := findClass_of_methodNamed B.named
    have hts0 : ∀ c ∈ (Jvm.Cond.code x code maxLocals ret :: tables_1), c.before #[Value.ref b] s = true := atoms_spec (ws := Jvm.Cond.code x code maxLocals ret :: tables_1) B.pre
    have hts : ∀ w ∈ lw_tbl, w.before #[Value.ref b] s = true := k2_hts_sels lw_privs (fun w hw => hts0 w (List.mem_cons_of_mem _ hw)) lw_privs_ok
    have hml : c.maxLocals = 4 := B.maxLocals_eq (hts0 _ List.mem_cons_self)
    have X₀ : Stand p l e room_1 s m #[Value.ref b] below meth c s₁ [] 0 0 := Stand.of_body B
    have hh0 : s₁.heap = s.heap := by rw [B.state]; rfl
    have hsz : scr.slots.size = xs.length := by rw [← Array.length_toList, hlist, List.length_map]
    have hval : ∀ j : Nat, j < xs.length → scr.slots[j]? = some (.int (xs.getD j 0)) := fun j hj => by
      rw [← Array.getElem?_toList, hlist]
      simp [hj]
    have hbl : b < s.heap.size := (Array.getElem?_eq_some_iff.mp hcb).1
    have hX : va_X b xs.length (fun j => xs.getD j 0) s s.heap := ⟨scr, hcb, hof, hkn, hsz, hval⟩
    have K : W p l e room_1 s m #[Value.ref b] below meth c s₁.heap [] 0 0 (lw_Z below #[Value.ref b] s) (entryFrame m ([Value.ref b] : List Value).toArray 4) := by
      rw [hh0]
      exact whole_start l hbd ⟨B.exec, B.bytes, B.returns, hml, hown, hts, hX, hbl, B.notSynchronized, hgv⟩
    obtain ⟨t, a1, o, b1, b2, b3⟩ := K s₁ rfl X₀
    exact ⟨t, o, a1, b1, b2, b3⟩
theorem lw_pre_spec {args : Array Value} {s : State} (h : (Jvm.Cond.and given_1 narrow_1).before args s = true) (hr : rest_1_c.before args s = true) : ∃ (b : Addr) (xs : List Int32), lw_P b xs args s := by
  have hs := flat_of_before _ h
  have hq := flat_of_before _ hr
  have hc : (Cond.count 1).before args s = true := hs _ (by decide +kernel)
  have harr : (Cond.arrayOf (.arg 0) .int).before args s = true := hs _ (by decide +kernel)
  have hle : (Cond.le (.length (.arg 0)) (.int 129)).before args s = true := hs _ (by decide +kernel)
  have hlen : (Cond.isInt (.length (.arg 0))).before args s = true := hq _ (by decide +kernel)
  have hall : (Cond.all (.arg 0) (.isInt (.elem (.arg 0) (.index 0)))).before args s = true := hq _ (by decide +kernel)
  obtain ⟨b, xs, hb, hx⟩ := State.ints_of_pre rfl harr hlen hall
  have hsm : xs.length < 2 ^ 31 := hx.choose_spec.2.2.2
  have hev : (Term.length (.arg 0)).eval args s none [] s = some (.int xs.length.toInt32) := hx.length_eval hb
  have hv := Cond.le_ints hev (show (Term.int 129).eval args s none [] s = some (.int 129) from rfl)
  have hd : xs.length.toInt32 ≤ 129 := by
    simpa [Cond.before, Cond.holds, hv] using hle
  have hN : xs.length ≤ 129 := (Int32.ofNat_le_ofNat hsm (by decide)).mp (show Int32.ofNat xs.length ≤ Int32.ofNat 129 from hd)
  exact ⟨b, xs, Cond.one_arg hc (show args[0]? = some (.ref b) from hb), hx, hN, h⟩
theorem lw_comes (l : Launch) : Comes l x (Jvm.Cond.code x code maxLocals ret :: tables_1) room_1 (fun tb e args s => Calls_1 tb e args s ∧ rest_1 tb e args s ∧ Pre_1 tb e args s)
    (fun _ _ args s o t => lw_Q args s o t) := by
  intro p e ha hc hk s m args below hf hfit hheap happ hpre
  obtain ⟨b, xs, hP⟩ := lw_pre_spec hpre.2.2 hpre.2.1
  obtain ⟨k, o, h1, h2, h3, hQ⟩ := lw_walk l b xs p e ha hc hk s m args below hf ((Spec.applies_iff_loose hf).mp happ).1 hP trivial
  exact ⟨k, o, h1, h2, h3, hQ⟩
theorem lw_frame {s t : State} {o : Outcome} {args : Array Value} (h : Framed s o t [] 600000 7290000) :
    Framed s o t (fieldLocs frame_1_writes args s ++ arrayLocs frame_1_arrays args s ++ staticLocs frame_1_statics s) 600000 7290000 := h
theorem lw_limb (L : Cond) (hL : ∀ (args : Array Value) (s t : State), L.after args s (.returned (some (.int 1))) t = true) :
    ArmFor flags0 classFile x code maxLocals ret World_1 tables_1 room_1 Calls_1 rest_1 Pre_1
      (fun tb e a s o t => postC L tb e a s o t ∧ Framed s o t (fieldLocs frame_1_writes a s ++ arrayLocs frame_1_arrays a s ++ staticLocs frame_1_statics s) 600000 7290000) := by
  intro l _ _ _ p e ha hc hk s m args below hf hfit hheap happ hpre
  obtain ⟨k, o, h1, h2, h3, rfl, hF⟩ := lw_comes l p e ha hc hk s m args below hf hfit hheap happ hpre
  exact ⟨k, _, h1, h2, h3, hL args s _, lw_frame hF⟩
theorem i_vc : Claimed_1_1 ∧ Claimed_1_2 := ⟨lw_limb limb_1_1 (fun args s t => by simp [limb_1_1, Cond.after, Cond.holds, Cond.value]), lw_limb limb_1_2 (fun args s t => Cond.after_iff.mpr (by
  first | (rw [show limb_1_2 = Cond.eq .result (.int 1) from rfl, Cond.eq_ints (x := 1) (y := 1) rfl rfl]; simp; done) | (simp [limb_1_2, Cond.value, Term.eval]; done)))⟩
end
