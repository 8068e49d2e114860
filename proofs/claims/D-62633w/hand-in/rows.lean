section
-- ===== PART A: goes FIRST, ahead of the names: the tables' words, and 'selects' of the private methods out of them =====
/-- a private method of a class that the tables say can be made, by its rows of tables_1 -/
def lw_okq (q : MethodName × Nat) : Prop := (q.1.cls ≠ "java/lang/invoke/MethodHandle" ∧ q.1.cls ≠ "java/lang/invoke/VarHandle") ∧ Cond.instantiable q.1.cls q.2 ∈ tables_1 ∧ Cond.privateMethod q.1 ∈ tables_1 ∧ Cond.instanceMethod q.1 ∈ tables_1
set_option maxRecDepth 100000
theorem lw_t1 {w : Cond} (h : w ∈ tables_1_1) : w ∈ tables_1 := List.mem_append_left _ h
theorem lw_t2 {w : Cond} (h : w ∈ tables_1_2) : w ∈ tables_1 := List.mem_append_right _ h
theorem lw_p0 : lw_okq (⟨"WindowedCalls", "clearBlock", "(I)V"⟩, 12) := ⟨⟨by decide +kernel, by decide +kernel⟩, lw_t1 (List.mem_of_getElem? (i := 4) rfl), lw_t1 (List.mem_of_getElem? (i := 64) rfl), lw_t1 (List.mem_of_getElem? (i := 65) rfl)⟩
theorem lw_p1 : lw_okq (⟨"WindowedCalls", "step", "()Z"⟩, 12) := ⟨⟨by decide +kernel, by decide +kernel⟩, lw_t1 (List.mem_of_getElem? (i := 4) rfl), lw_t1 (List.mem_of_getElem? (i := 75) rfl), lw_t1 (List.mem_of_getElem? (i := 76) rfl)⟩
theorem lw_p2 : lw_okq (⟨"WindowedCalls", "enter", "()V"⟩, 12) := ⟨⟨by decide +kernel, by decide +kernel⟩, lw_t1 (List.mem_of_getElem? (i := 4) rfl), lw_t1 (List.mem_of_getElem? (i := 79) rfl), lw_t1 (List.mem_of_getElem? (i := 80) rfl)⟩
theorem lw_p3 : lw_okq (⟨"WindowedCalls", "goBack", "()V"⟩, 12) := ⟨⟨by decide +kernel, by decide +kernel⟩, lw_t1 (List.mem_of_getElem? (i := 4) rfl), lw_t1 (List.mem_of_getElem? (i := 83) rfl), lw_t1 (List.mem_of_getElem? (i := 84) rfl)⟩
theorem lw_p4 : lw_okq (⟨"WindowedCalls", "leave", "()V"⟩, 12) := ⟨⟨by decide +kernel, by decide +kernel⟩, lw_t1 (List.mem_of_getElem? (i := 4) rfl), lw_t1 (List.mem_of_getElem? (i := 87) rfl), lw_t1 (List.mem_of_getElem? (i := 88) rfl)⟩
theorem lw_p5 : lw_okq (⟨"WindowedCalls", "get", "(I)I"⟩, 12) := ⟨⟨by decide +kernel, by decide +kernel⟩, lw_t1 (List.mem_of_getElem? (i := 4) rfl), lw_t1 (List.mem_of_getElem? (i := 91) rfl), lw_t1 (List.mem_of_getElem? (i := 92) rfl)⟩
theorem lw_p6 : lw_okq (⟨"WindowedCalls", "set", "(II)V"⟩, 12) := ⟨⟨by decide +kernel, by decide +kernel⟩, lw_t1 (List.mem_of_getElem? (i := 4) rfl), lw_t1 (List.mem_of_getElem? (i := 101) rfl), lw_t1 (List.mem_of_getElem? (i := 102) rfl)⟩
theorem lw_p7 : lw_okq (⟨"WindowedCalls", "registerOf", "(II)I"⟩, 12) := ⟨⟨by decide +kernel, by decide +kernel⟩, lw_t1 (List.mem_of_getElem? (i := 4) rfl), lw_t1 (List.mem_of_getElem? (i := 128) rfl), lw_t1 (List.mem_of_getElem? (i := 129) rfl)⟩
theorem lw_p8 : lw_okq (⟨"WindowedCallsModel", "step", "()V"⟩, 12) := ⟨⟨by decide +kernel, by decide +kernel⟩, lw_t1 (List.mem_of_getElem? (i := 148) rfl), lw_t1 (List.mem_of_getElem? (i := 207) rfl), lw_t1 (List.mem_of_getElem? (i := 208) rfl)⟩
theorem lw_p9 : lw_okq (⟨"WindowedCallsModel", "isRegister", "(I)Z"⟩, 12) := ⟨⟨by decide +kernel, by decide +kernel⟩, lw_t1 (List.mem_of_getElem? (i := 148) rfl), lw_t1 (List.mem_of_getElem? (i := 231) rfl), lw_t1 (List.mem_of_getElem? (i := 232) rfl)⟩
def lw_privs_1 : List (MethodName × Nat) := [(⟨"WindowedCalls", "clearBlock", "(I)V"⟩, 12), (⟨"WindowedCalls", "step", "()Z"⟩, 12), (⟨"WindowedCalls", "enter", "()V"⟩, 12), (⟨"WindowedCalls", "goBack", "()V"⟩, 12), (⟨"WindowedCalls", "leave", "()V"⟩, 12), (⟨"WindowedCalls", "get", "(I)I"⟩, 12), (⟨"WindowedCalls", "set", "(II)V"⟩, 12), (⟨"WindowedCalls", "registerOf", "(II)I"⟩, 12), (⟨"WindowedCallsModel", "step", "()V"⟩, 12), (⟨"WindowedCallsModel", "isRegister", "(I)Z"⟩, 12)]
theorem lw_r1 : ∀ q ∈ lw_privs_1, lw_okq q := List.forall_mem_cons.mpr ⟨lw_p0, List.forall_mem_cons.mpr ⟨lw_p1, List.forall_mem_cons.mpr ⟨lw_p2, List.forall_mem_cons.mpr ⟨lw_p3, List.forall_mem_cons.mpr ⟨lw_p4, List.forall_mem_cons.mpr ⟨lw_p5, List.forall_mem_cons.mpr ⟨lw_p6, List.forall_mem_cons.mpr ⟨lw_p7, List.forall_mem_cons.mpr ⟨lw_p8, List.forall_mem_cons.mpr ⟨lw_p9, fun _ h => absurd h List.not_mem_nil⟩⟩⟩⟩⟩⟩⟩⟩⟩⟩
def lw_privs : List (MethodName × Nat) := lw_privs_1
def lw_tbl : List Cond := k2_sels lw_privs ++ tables_1
theorem lw_privs_ok : ∀ q ∈ lw_privs, lw_okq q := lw_r1
-- ===== ONE list of words for every method: the tables' words that hold all through a run =====
def lw_all : List Cond := lw_tbl.filter goodWord
/-- a word of the tables by its place: claim/WORDS.tsv -/
theorem lw_w {w : Cond} (i : Nat) (h : lw_tbl[i]? = some w) (g : goodWord w = true) : w ∈ lw_all := List.mem_filter.mpr ⟨List.mem_of_getElem? h, g⟩
theorem lw_all_tbl {w : Cond} (h : w ∈ lw_all) : w ∈ lw_tbl := (List.mem_filter.mp h).1
theorem lw_self : GoodIn lw_all lw_all := fun w h => ⟨h, good_of_word (List.mem_filter.mp h).2⟩
/-- a class's field words, by their places -/
theorem lw_in (ws : List Cond) (ps : List Nat) (hp : ws = ps.filterMap (fun i => lw_tbl[i]?)) (hg : ws.all goodWord = true) : ∀ w ∈ ws, w ∈ lw_all := by
  intro w h
  have h1 := List.all_eq_true.mp hg w h
  rw [hp] at h
  obtain ⟨i, -, hi⟩ := List.mem_filterMap.mp h
  exact lw_w i hi h1
/-- the words of a contract for the method y with code b, L locals, answer r -/
abbrev ws_ (y : MethodName) (b : ByteArray) (L : Nat) (r : Option FieldType) : List Cond := Cond.code y b L r :: lw_all
theorem lw_meth {y : MethodName} {b : ByteArray} {L : Nat} {r : Option FieldType} (h : Cond.code y b L r ∈ lw_all) : GoodIn lw_all (ws_ y b L r) := by
  intro w hw
  rcases List.mem_cons.mp hw with e | e
  · rw [e]
    exact lw_self _ h
  · exact lw_self _ e
theorem lw_app {a c : List Cond} (ha : ∀ w ∈ a, w ∈ lw_all) (hc : GoodIn lw_all c) : GoodIn lw_all (a ++ c) := by
  intro w hw
  rcases List.mem_append.mp hw with e | e
  · exact lw_self w (ha w e)
  · exact hc w e
/-- what a call through an object asks: cwV n hts (lw_V ..) -/
theorem lw_V {own : String} {idx : Nat} {C : String} {y : MethodName} {b : ByteArray} {L : Nat} {r : Option FieldType} (h1 : Cond.methodLink own idx y ∈ lw_all) (h2 : Cond.instanceMethod y ∈ lw_all) (h3 : Cond.selects C y y ∈ lw_all) (h4 : Cond.initialized C ∈ lw_all) (h5 : Cond.code y b L r ∈ lw_all) : GoodIn lw_all (wsV own idx C y (ws_ y b L r)) := by
  refine lw_app ?_ (lw_meth h5)
  intro w hw
  simp only [List.mem_cons, List.not_mem_nil, or_false] at hw
  rcases hw with e | e | e | e
  · rw [e]; exact h1
  · rw [e]; exact h2
  · rw [e]; exact h3
  · rw [e]; exact h4
/-- what a static call asks: va_cwS n hts (lw_S ..) -/
theorem lw_S {own : String} {idx : Nat} {y : MethodName} {b : ByteArray} {L : Nat} {r : Option FieldType} (h1 : Cond.methodLink own idx y ∈ lw_all) (h2 : Cond.static y ∈ lw_all) (h3 : Cond.initialized y.cls ∈ lw_all) (h4 : Cond.code y b L r ∈ lw_all) : GoodIn lw_all (va_wsS own idx y (ws_ y b L r)) := by
  refine lw_app ?_ (lw_meth h4)
  intro w hw
  simp only [List.mem_cons, List.not_mem_nil, or_false] at hw
  rcases hw with e | e | e
  · rw [e]; exact h1
  · rw [e]; exact h2
  · rw [e]; exact h3
/-- the words of a contract for a method WITH HANDLERS (hh: its table) -/
abbrev wsW_ (y : MethodName) (b : ByteArray) (L : Nat) (r : Option FieldType) (hh : List (Nat × Nat × Nat × Nat)) : List Cond := Cond.codeWith y b L r hh :: lw_all
theorem lw_methW {y : MethodName} {b : ByteArray} {L : Nat} {r : Option FieldType} {hh : List (Nat × Nat × Nat × Nat)} (h : Cond.codeWith y b L r hh ∈ lw_all) : GoodIn lw_all (wsW_ y b L r hh) := by
  intro w hw
  rcases List.mem_cons.mp hw with e | e
  · rw [e]
    exact lw_self _ h
  · exact lw_self _ e
/-- any list of words by their places (lw_in), good -/
theorem lw_good {ws : List Cond} (h : ∀ w ∈ ws, w ∈ lw_all) : GoodIn lw_all ws := fun w hw => lw_self w (h w hw)
/-- what a call of a method with handlers asks: vx_cwVW n hts (lw_VW ..), vx_cwSW n hts (lw_SW ..) -/
theorem lw_VW {own : String} {idx : Nat} {C : String} {y : MethodName} {b : ByteArray} {L : Nat} {r : Option FieldType} {hh : List (Nat × Nat × Nat × Nat)} (h1 : Cond.methodLink own idx y ∈ lw_all) (h2 : Cond.instanceMethod y ∈ lw_all) (h3 : Cond.selects C y y ∈ lw_all) (h4 : Cond.initialized C ∈ lw_all) (h5 : Cond.codeWith y b L r hh ∈ lw_all) : GoodIn lw_all (wsV own idx C y (wsW_ y b L r hh)) := by
  refine lw_app ?_ (lw_methW h5)
  intro w hw
  simp only [List.mem_cons, List.not_mem_nil, or_false] at hw
  rcases hw with e | e | e | e
  · rw [e]; exact h1
  · rw [e]; exact h2
  · rw [e]; exact h3
  · rw [e]; exact h4
theorem lw_SW {own : String} {idx : Nat} {y : MethodName} {b : ByteArray} {L : Nat} {r : Option FieldType} {hh : List (Nat × Nat × Nat × Nat)} (h1 : Cond.methodLink own idx y ∈ lw_all) (h2 : Cond.static y ∈ lw_all) (h3 : Cond.initialized y.cls ∈ lw_all) (h4 : Cond.codeWith y b L r hh ∈ lw_all) : GoodIn lw_all (va_wsS own idx y (wsW_ y b L r hh)) := by
  refine lw_app ?_ (lw_methW h4)
  intro w hw
  simp only [List.mem_cons, List.not_mem_nil, or_false] at hw
  rcases hw with e | e | e
  · rw [e]; exact h1
  · rw [e]; exact h2
  · rw [e]; exact h3
/-- a word by its place in its run of the tables -/
theorem lw_at {r : List Cond} (hr : ∀ w ∈ r, w ∈ lw_tbl) {w : Cond} (i : Nat) (h : r[i]? = some w) : w ∈ lw_tbl := hr w (List.mem_of_getElem? h)
theorem lw_g {w : Cond} (h : w ∈ lw_tbl) (g : goodWord w = true) : w ∈ lw_all := List.mem_filter.mpr ⟨h, g⟩
theorem lw_ms : ∀ w ∈ k2_sels lw_privs, w ∈ lw_tbl := fun w h => show w ∈ k2_sels lw_privs ++ tables_1 from List.mem_append_left _ h
theorem lw_m1 : ∀ w ∈ tables_1_1, w ∈ lw_tbl := fun w h => show w ∈ k2_sels lw_privs ++ tables_1 from List.mem_append_right (k2_sels lw_privs) (show w ∈ tables_1 from List.mem_append_left _ h)
theorem lw_m2 : ∀ w ∈ tables_1_2, w ∈ lw_tbl := fun w h => show w ∈ k2_sels lw_privs ++ tables_1 from List.mem_append_right (k2_sels lw_privs) (show w ∈ tables_1 from List.mem_append_right _ h)
theorem qs0 : (Cond.selects "WindowedCalls" ⟨"WindowedCalls", "clearBlock", "(I)V"⟩ ⟨"WindowedCalls", "clearBlock", "(I)V"⟩) ∈ lw_all := lw_g (lw_at lw_ms 0 rfl) rfl
theorem qs1 : (Cond.selects "WindowedCalls" ⟨"WindowedCalls", "step", "()Z"⟩ ⟨"WindowedCalls", "step", "()Z"⟩) ∈ lw_all := lw_g (lw_at lw_ms 1 rfl) rfl
theorem qs2 : (Cond.selects "WindowedCalls" ⟨"WindowedCalls", "enter", "()V"⟩ ⟨"WindowedCalls", "enter", "()V"⟩) ∈ lw_all := lw_g (lw_at lw_ms 2 rfl) rfl
theorem qs3 : (Cond.selects "WindowedCalls" ⟨"WindowedCalls", "goBack", "()V"⟩ ⟨"WindowedCalls", "goBack", "()V"⟩) ∈ lw_all := lw_g (lw_at lw_ms 3 rfl) rfl
theorem qs4 : (Cond.selects "WindowedCalls" ⟨"WindowedCalls", "leave", "()V"⟩ ⟨"WindowedCalls", "leave", "()V"⟩) ∈ lw_all := lw_g (lw_at lw_ms 4 rfl) rfl
theorem qs5 : (Cond.selects "WindowedCalls" ⟨"WindowedCalls", "get", "(I)I"⟩ ⟨"WindowedCalls", "get", "(I)I"⟩) ∈ lw_all := lw_g (lw_at lw_ms 5 rfl) rfl
theorem qs6 : (Cond.selects "WindowedCalls" ⟨"WindowedCalls", "set", "(II)V"⟩ ⟨"WindowedCalls", "set", "(II)V"⟩) ∈ lw_all := lw_g (lw_at lw_ms 6 rfl) rfl
theorem qs7 : (Cond.selects "WindowedCalls" ⟨"WindowedCalls", "registerOf", "(II)I"⟩ ⟨"WindowedCalls", "registerOf", "(II)I"⟩) ∈ lw_all := lw_g (lw_at lw_ms 7 rfl) rfl
theorem qs8 : (Cond.selects "WindowedCallsModel" ⟨"WindowedCallsModel", "step", "()V"⟩ ⟨"WindowedCallsModel", "step", "()V"⟩) ∈ lw_all := lw_g (lw_at lw_ms 8 rfl) rfl
theorem qs9 : (Cond.selects "WindowedCallsModel" ⟨"WindowedCallsModel", "isRegister", "(I)Z"⟩ ⟨"WindowedCallsModel", "isRegister", "(I)Z"⟩) ∈ lw_all := lw_g (lw_at lw_ms 9 rfl) rfl
end
section
set_option maxRecDepth 100000
/-! java/lang/Object -/
def RJ0 : String := "java/lang/Object"
abbrev cJ0_init : ByteArray := object_method_1_code
def yJ0_init : MethodName := ⟨RJ0, "<init>", "()V"⟩
theorem dJ0_init_0 : decode cJ0_init 0 = .ok (.return_, 1) := by decide +kernel
theorem q19 : (Jvm.Cond.instanceMethod ({ cls := "java/lang/Object", name := "<init>", desc := "()V" } : Jvm.MethodName)) ∈ lw_all := lw_g (lw_at lw_m1 9 rfl) rfl
theorem q20 : (Jvm.Cond.code ({ cls := "java/lang/Object", name := "<init>", desc := "()V" } : Jvm.MethodName) object_method_1_code (1 : Nat) (Option.none : Option Jvm.ClassFile.FieldType)) ∈ lw_all := lw_g (lw_at lw_m1 10 rfl) rfl
theorem q58 : (Jvm.Cond.arrayClass Jvm.ClassFile.FieldType.byte) ∈ lw_all := lw_g (lw_at lw_m1 48 rfl) rfl
theorem q59 : (Jvm.Cond.arrayClass Jvm.ClassFile.FieldType.short) ∈ lw_all := lw_g (lw_at lw_m1 49 rfl) rfl
theorem q60 : (Jvm.Cond.arrayClass Jvm.ClassFile.FieldType.int) ∈ lw_all := lw_g (lw_at lw_m1 50 rfl) rfl
theorem q10 : (Jvm.Cond.initialized "WindowedCallsLaw") ∈ lw_all := lw_g (lw_at lw_m1 0 rfl) rfl
theorem q13 : (Jvm.Cond.classLink "WindowedCallsLaw" (7 : Nat) "WindowedCalls") ∈ lw_all := lw_g (lw_at lw_m1 3 rfl) rfl
theorem q15 : (Jvm.Cond.methodLink "WindowedCallsLaw" (9 : Nat) ({ cls := "WindowedCalls", name := "<init>", desc := "()V" } : Jvm.MethodName)) ∈ lw_all := lw_g (lw_at lw_m1 5 rfl) rfl
theorem q61 : (Jvm.Cond.methodLink "WindowedCallsLaw" (13 : Nat) ({ cls := "WindowedCalls", name := "emit", desc := "(III)I" } : Jvm.MethodName)) ∈ lw_all := lw_g (lw_at lw_m1 51 rfl) rfl
theorem q65 : (Jvm.Cond.methodLink "WindowedCallsLaw" (18 : Nat) ({ cls := "WindowedCalls", name := "drop", desc := "()I" } : Jvm.MethodName)) ∈ lw_all := lw_g (lw_at lw_m1 55 rfl) rfl
theorem q69 : (Jvm.Cond.methodLink "WindowedCallsLaw" (23 : Nat) ({ cls := "WindowedCalls", name := "restart", desc := "()V" } : Jvm.MethodName)) ∈ lw_all := lw_g (lw_at lw_m1 59 rfl) rfl
theorem q80 : (Jvm.Cond.methodLink "WindowedCallsLaw" (27 : Nat) ({ cls := "WindowedCalls", name := "run", desc := "(I)I" } : Jvm.MethodName)) ∈ lw_all := lw_g (lw_at lw_m1 70 rfl) rfl
theorem q114 : (Jvm.Cond.methodLink "WindowedCallsLaw" (32 : Nat) ({ cls := "WindowedCalls", name := "halted", desc := "()Z" } : Jvm.MethodName)) ∈ lw_all := lw_g (lw_at lw_m1 104 rfl) rfl
theorem q118 : (Jvm.Cond.methodLink "WindowedCallsLaw" (37 : Nat) ({ cls := "WindowedCalls", name := "position", desc := "()I" } : Jvm.MethodName)) ∈ lw_all := lw_g (lw_at lw_m1 108 rfl) rfl
theorem q122 : (Jvm.Cond.methodLink "WindowedCallsLaw" (41 : Nat) ({ cls := "WindowedCalls", name := "depth", desc := "()I" } : Jvm.MethodName)) ∈ lw_all := lw_g (lw_at lw_m1 112 rfl) rfl
theorem q126 : (Jvm.Cond.methodLink "WindowedCallsLaw" (45 : Nat) ({ cls := "WindowedCalls", name := "register", desc := "(I)I" } : Jvm.MethodName)) ∈ lw_all := lw_g (lw_at lw_m1 116 rfl) rfl
theorem q133 : (Jvm.Cond.methodLink "WindowedCallsLaw" (49 : Nat) ({ cls := "WindowedCalls", name := "below", desc := "(II)I" } : Jvm.MethodName)) ∈ lw_all := lw_g (lw_at lw_m1 123 rfl) rfl
theorem q141 : (Jvm.Cond.methodLink "WindowedCallsLaw" (54 : Nat) ({ cls := "WindowedCalls", name := "put", desc := "(II)Z" } : Jvm.MethodName)) ∈ lw_all := lw_g (lw_at lw_m1 131 rfl) rfl
theorem q145 : (Jvm.Cond.methodLink "WindowedCallsLaw" (59 : Nat) ({ cls := "WindowedCalls", name := "backTo", desc := "(I)I" } : Jvm.MethodName)) ∈ lw_all := lw_g (lw_at lw_m1 135 rfl) rfl
theorem q149 : (Jvm.Cond.methodLink "WindowedCallsLaw" (63 : Nat) ({ cls := "WindowedCalls", name := "digest", desc := "()I" } : Jvm.MethodName)) ∈ lw_all := lw_g (lw_at lw_m1 139 rfl) rfl
theorem q153 : (Jvm.Cond.methodLink "WindowedCallsLaw" (67 : Nat) ({ cls := "WindowedCalls", name := "done", desc := "()I" } : Jvm.MethodName)) ∈ lw_all := lw_g (lw_at lw_m1 143 rfl) rfl
theorem q157 : (Jvm.Cond.classLink "WindowedCallsLaw" (10 : Nat) "WindowedCallsModel") ∈ lw_all := lw_g (lw_at lw_m1 147 rfl) rfl
theorem q159 : (Jvm.Cond.methodLink "WindowedCallsLaw" (12 : Nat) ({ cls := "WindowedCallsModel", name := "<init>", desc := "()V" } : Jvm.MethodName)) ∈ lw_all := lw_g (lw_at lw_m1 149 rfl) rfl
theorem q200 : (Jvm.Cond.methodLink "WindowedCallsLaw" (17 : Nat) ({ cls := "WindowedCallsModel", name := "emit", desc := "(III)I" } : Jvm.MethodName)) ∈ lw_all := lw_g (lw_at lw_m1 190 rfl) rfl
theorem q204 : (Jvm.Cond.methodLink "WindowedCallsLaw" (22 : Nat) ({ cls := "WindowedCallsModel", name := "drop", desc := "()I" } : Jvm.MethodName)) ∈ lw_all := lw_g (lw_at lw_m1 194 rfl) rfl
theorem q208 : (Jvm.Cond.methodLink "WindowedCallsLaw" (26 : Nat) ({ cls := "WindowedCallsModel", name := "restart", desc := "()V" } : Jvm.MethodName)) ∈ lw_all := lw_g (lw_at lw_m1 198 rfl) rfl
theorem q212 : (Jvm.Cond.methodLink "WindowedCallsLaw" (31 : Nat) ({ cls := "WindowedCallsModel", name := "run", desc := "(I)I" } : Jvm.MethodName)) ∈ lw_all := lw_g (lw_at lw_m1 202 rfl) rfl
theorem q220 : (Jvm.Cond.methodLink "WindowedCallsLaw" (36 : Nat) ({ cls := "WindowedCallsModel", name := "halted", desc := "()Z" } : Jvm.MethodName)) ∈ lw_all := lw_g (lw_at lw_m1 210 rfl) rfl
theorem q224 : (Jvm.Cond.methodLink "WindowedCallsLaw" (40 : Nat) ({ cls := "WindowedCallsModel", name := "position", desc := "()I" } : Jvm.MethodName)) ∈ lw_all := lw_g (lw_at lw_m1 214 rfl) rfl
theorem q228 : (Jvm.Cond.methodLink "WindowedCallsLaw" (44 : Nat) ({ cls := "WindowedCallsModel", name := "depth", desc := "()I" } : Jvm.MethodName)) ∈ lw_all := lw_g (lw_at lw_m1 218 rfl) rfl
theorem q232 : (Jvm.Cond.methodLink "WindowedCallsLaw" (48 : Nat) ({ cls := "WindowedCallsModel", name := "register", desc := "(I)I" } : Jvm.MethodName)) ∈ lw_all := lw_g (lw_at lw_m1 222 rfl) rfl
theorem q244 : (Jvm.Cond.methodLink "WindowedCallsLaw" (53 : Nat) ({ cls := "WindowedCallsModel", name := "below", desc := "(II)I" } : Jvm.MethodName)) ∈ lw_all := lw_g (lw_at lw_m1 234 rfl) rfl
theorem q245 : (Jvm.Cond.methodLink "WindowedCallsLaw" (58 : Nat) ({ cls := "WindowedCallsModel", name := "put", desc := "(II)Z" } : Jvm.MethodName)) ∈ lw_all := lw_g (lw_at lw_m1 235 rfl) rfl
theorem q249 : (Jvm.Cond.methodLink "WindowedCallsLaw" (62 : Nat) ({ cls := "WindowedCallsModel", name := "backTo", desc := "(I)I" } : Jvm.MethodName)) ∈ lw_all := lw_g (lw_at lw_m1 239 rfl) rfl
theorem q253 : (Jvm.Cond.methodLink "WindowedCallsLaw" (66 : Nat) ({ cls := "WindowedCallsModel", name := "digest", desc := "()I" } : Jvm.MethodName)) ∈ lw_all := lw_g (lw_at lw_m2 3 rfl) rfl
theorem q257 : (Jvm.Cond.methodLink "WindowedCallsLaw" (70 : Nat) ({ cls := "WindowedCallsModel", name := "done", desc := "()I" } : Jvm.MethodName)) ∈ lw_all := lw_g (lw_at lw_m2 7 rfl) rfl
/-! WindowedCalls -/
def RX0 : String := "WindowedCalls"
def TX0 : u_T := fun k => match k with
  | 0 => ("WindowedCalls", "ops", "[B", true)
  | 1 => ("WindowedCalls", "regs", "[S", true)
  | 2 => ("WindowedCalls", "numbers", "[I", true)
  | 3 => ("WindowedCalls", "size", "I", false)
  | 4 => ("WindowedCalls", "at", "I", false)
  | 5 => ("WindowedCalls", "stopped", "Z", false)
  | 6 => ("WindowedCalls", "count", "I", false)
  | 7 => ("WindowedCalls", "call", "I", false)
  | 8 => ("WindowedCalls", "lowest", "I", false)
  | 9 => ("WindowedCalls", "ring", "[I", true)
  | 10 => ("WindowedCalls", "memory", "[I", true)
  | _ => ("WindowedCalls", "returns", "[B", true)
def tyX0 : Nat → FieldType := fun k => match k with
  | 0 => .array .byte
  | 1 => .array .short
  | 2 => .array .int
  | 3 => .int
  | 4 => .int
  | 5 => .boolean
  | 6 => .int
  | 7 => .int
  | 8 => .int
  | 9 => .array .int
  | 10 => .array .int
  | _ => .array .byte
abbrev wsX00 : List Cond := u_ws RX0 TX0 12
theorem nmX0 : ∀ a, a < 12 → ∀ b, b < 12 → a ≠ b → (TX0 a).2.1 ≠ (TX0 b).2.1 := by decide +kernel
theorem tyX0_ok : ∀ k, k < 12 → parseFieldDescriptor (TX0 k).2.2.1 = some (tyX0 k) := by decide +kernel
abbrev cX0_init : ByteArray := prog_1_method_1_code
def yX0_init : MethodName := ⟨RX0, "<init>", "()V"⟩
abbrev cX0_emit : ByteArray := prog_1_method_2_code
def yX0_emit : MethodName := ⟨RX0, "emit", "(III)I"⟩
abbrev cX0_drop : ByteArray := prog_1_method_3_code
def yX0_drop : MethodName := ⟨RX0, "drop", "()I"⟩
abbrev cX0_restart : ByteArray := prog_1_method_4_code
def yX0_restart : MethodName := ⟨RX0, "restart", "()V"⟩
abbrev cX0_clearBlock : ByteArray := prog_1_method_6_code
def yX0_clearBlock : MethodName := ⟨RX0, "clearBlock", "(I)V"⟩
abbrev cX0_placeOf : ByteArray := prog_1_method_5_code
def yX0_placeOf : MethodName := ⟨RX0, "placeOf", "(I)I"⟩
abbrev cX0_run : ByteArray := prog_1_method_13_code
def yX0_run : MethodName := ⟨RX0, "run", "(I)I"⟩
abbrev cX0_step : ByteArray := prog_1_method_14_code
def yX0_step : MethodName := ⟨RX0, "step", "()Z"⟩
abbrev cX0_enter : ByteArray := prog_1_method_7_code
def yX0_enter : MethodName := ⟨RX0, "enter", "()V"⟩
abbrev cX0_goBack : ByteArray := prog_1_method_16_code
def yX0_goBack : MethodName := ⟨RX0, "goBack", "()V"⟩
abbrev cX0_leave : ByteArray := prog_1_method_8_code
def yX0_leave : MethodName := ⟨RX0, "leave", "()V"⟩
abbrev cX0_get : ByteArray := prog_1_method_10_code
def yX0_get : MethodName := ⟨RX0, "get", "(I)I"⟩
abbrev cX0_cellOf : ByteArray := prog_1_method_9_code
def yX0_cellOf : MethodName := ⟨RX0, "cellOf", "(II)I"⟩
abbrev cX0_value : ByteArray := prog_1_method_15_code
def yX0_value : MethodName := ⟨RX0, "value", "(IIII)I"⟩
abbrev cX0_set : ByteArray := prog_1_method_11_code
def yX0_set : MethodName := ⟨RX0, "set", "(II)V"⟩
abbrev cX0_halted : ByteArray := prog_1_method_17_code
def yX0_halted : MethodName := ⟨RX0, "halted", "()Z"⟩
abbrev cX0_position : ByteArray := prog_1_method_18_code
def yX0_position : MethodName := ⟨RX0, "position", "()I"⟩
abbrev cX0_depth : ByteArray := prog_1_method_19_code
def yX0_depth : MethodName := ⟨RX0, "depth", "()I"⟩
abbrev cX0_register : ByteArray := prog_1_method_21_code
def yX0_register : MethodName := ⟨RX0, "register", "(I)I"⟩
abbrev cX0_isRegister : ByteArray := prog_1_method_20_code
def yX0_isRegister : MethodName := ⟨RX0, "isRegister", "(I)Z"⟩
abbrev cX0_below : ByteArray := prog_1_method_22_code
def yX0_below : MethodName := ⟨RX0, "below", "(II)I"⟩
abbrev cX0_registerOf : ByteArray := prog_1_method_12_code
def yX0_registerOf : MethodName := ⟨RX0, "registerOf", "(II)I"⟩
abbrev cX0_put : ByteArray := prog_1_method_23_code
def yX0_put : MethodName := ⟨RX0, "put", "(II)Z"⟩
abbrev cX0_backTo : ByteArray := prog_1_method_24_code
def yX0_backTo : MethodName := ⟨RX0, "backTo", "(I)I"⟩
abbrev cX0_digest : ByteArray := prog_1_method_25_code
def yX0_digest : MethodName := ⟨RX0, "digest", "()I"⟩
abbrev cX0_done : ByteArray := prog_1_method_26_code
def yX0_done : MethodName := ⟨RX0, "done", "()I"⟩
theorem q11 : (Jvm.Cond.initialized "WindowedCalls") ∈ lw_all := lw_g (lw_at lw_m1 1 rfl) rfl
theorem q14 : (Jvm.Cond.instantiable "WindowedCalls" (12 : Nat)) ∈ lw_all := lw_g (lw_at lw_m1 4 rfl) rfl
theorem q16 : (Jvm.Cond.instanceMethod ({ cls := "WindowedCalls", name := "<init>", desc := "()V" } : Jvm.MethodName)) ∈ lw_all := lw_g (lw_at lw_m1 6 rfl) rfl
theorem q17 : (Jvm.Cond.code ({ cls := "WindowedCalls", name := "<init>", desc := "()V" } : Jvm.MethodName) prog_1_method_1_code (1 : Nat) (Option.none : Option Jvm.ClassFile.FieldType)) ∈ lw_all := lw_g (lw_at lw_m1 7 rfl) rfl
theorem q18 : (Jvm.Cond.methodLink "WindowedCalls" (1 : Nat) ({ cls := "java/lang/Object", name := "<init>", desc := "()V" } : Jvm.MethodName)) ∈ lw_all := lw_g (lw_at lw_m1 8 rfl) rfl
theorem q21 : (Jvm.Cond.fieldLink "WindowedCalls" (7 : Nat) "WindowedCalls" "ops" "[B") ∈ lw_all := lw_g (lw_at lw_m1 11 rfl) rfl
theorem q22 : (Jvm.Cond.fieldLink "WindowedCalls" (13 : Nat) "WindowedCalls" "regs" "[S") ∈ lw_all := lw_g (lw_at lw_m1 12 rfl) rfl
theorem q23 : (Jvm.Cond.fieldLink "WindowedCalls" (17 : Nat) "WindowedCalls" "numbers" "[I") ∈ lw_all := lw_g (lw_at lw_m1 13 rfl) rfl
theorem q24 : (Jvm.Cond.fieldLink "WindowedCalls" (30 : Nat) "WindowedCalls" "size" "I") ∈ lw_all := lw_g (lw_at lw_m1 14 rfl) rfl
theorem q25 : (Jvm.Cond.fieldLink "WindowedCalls" (34 : Nat) "WindowedCalls" "at" "I") ∈ lw_all := lw_g (lw_at lw_m1 15 rfl) rfl
theorem q26 : (Jvm.Cond.fieldLink "WindowedCalls" (37 : Nat) "WindowedCalls" "stopped" "Z") ∈ lw_all := lw_g (lw_at lw_m1 16 rfl) rfl
theorem q27 : (Jvm.Cond.fieldLink "WindowedCalls" (41 : Nat) "WindowedCalls" "count" "I") ∈ lw_all := lw_g (lw_at lw_m1 17 rfl) rfl
theorem q28 : (Jvm.Cond.fieldLink "WindowedCalls" (44 : Nat) "WindowedCalls" "call" "I") ∈ lw_all := lw_g (lw_at lw_m1 18 rfl) rfl
theorem q29 : (Jvm.Cond.fieldLink "WindowedCalls" (47 : Nat) "WindowedCalls" "lowest" "I") ∈ lw_all := lw_g (lw_at lw_m1 19 rfl) rfl
theorem q30 : (Jvm.Cond.fieldLink "WindowedCalls" (21 : Nat) "WindowedCalls" "ring" "[I") ∈ lw_all := lw_g (lw_at lw_m1 20 rfl) rfl
theorem q31 : (Jvm.Cond.fieldLink "WindowedCalls" (24 : Nat) "WindowedCalls" "memory" "[I") ∈ lw_all := lw_g (lw_at lw_m1 21 rfl) rfl
theorem q32 : (Jvm.Cond.fieldLink "WindowedCalls" (27 : Nat) "WindowedCalls" "returns" "[B") ∈ lw_all := lw_g (lw_at lw_m1 22 rfl) rfl
theorem q33 : (Jvm.Cond.laysFinal "WindowedCalls" "WindowedCalls" "ops" "[B") ∈ lw_all := lw_g (lw_at lw_m1 23 rfl) rfl
theorem q34 : (Jvm.Cond.soleField "WindowedCalls" "ops") ∈ lw_all := lw_g (lw_at lw_m1 24 rfl) rfl
theorem q35 : (Jvm.Cond.laysFinal "WindowedCalls" "WindowedCalls" "regs" "[S") ∈ lw_all := lw_g (lw_at lw_m1 25 rfl) rfl
theorem q36 : (Jvm.Cond.soleField "WindowedCalls" "regs") ∈ lw_all := lw_g (lw_at lw_m1 26 rfl) rfl
theorem q37 : (Jvm.Cond.laysFinal "WindowedCalls" "WindowedCalls" "numbers" "[I") ∈ lw_all := lw_g (lw_at lw_m1 27 rfl) rfl
theorem q38 : (Jvm.Cond.soleField "WindowedCalls" "numbers") ∈ lw_all := lw_g (lw_at lw_m1 28 rfl) rfl
theorem q39 : (Jvm.Cond.lays "WindowedCalls" "WindowedCalls" "size" "I") ∈ lw_all := lw_g (lw_at lw_m1 29 rfl) rfl
theorem q40 : (Jvm.Cond.soleField "WindowedCalls" "size") ∈ lw_all := lw_g (lw_at lw_m1 30 rfl) rfl
theorem q41 : (Jvm.Cond.lays "WindowedCalls" "WindowedCalls" "at" "I") ∈ lw_all := lw_g (lw_at lw_m1 31 rfl) rfl
theorem q42 : (Jvm.Cond.soleField "WindowedCalls" "at") ∈ lw_all := lw_g (lw_at lw_m1 32 rfl) rfl
theorem q43 : (Jvm.Cond.lays "WindowedCalls" "WindowedCalls" "stopped" "Z") ∈ lw_all := lw_g (lw_at lw_m1 33 rfl) rfl
theorem q44 : (Jvm.Cond.soleField "WindowedCalls" "stopped") ∈ lw_all := lw_g (lw_at lw_m1 34 rfl) rfl
theorem q45 : (Jvm.Cond.lays "WindowedCalls" "WindowedCalls" "count" "I") ∈ lw_all := lw_g (lw_at lw_m1 35 rfl) rfl
theorem q46 : (Jvm.Cond.soleField "WindowedCalls" "count") ∈ lw_all := lw_g (lw_at lw_m1 36 rfl) rfl
theorem q47 : (Jvm.Cond.lays "WindowedCalls" "WindowedCalls" "call" "I") ∈ lw_all := lw_g (lw_at lw_m1 37 rfl) rfl
theorem q48 : (Jvm.Cond.soleField "WindowedCalls" "call") ∈ lw_all := lw_g (lw_at lw_m1 38 rfl) rfl
theorem q49 : (Jvm.Cond.lays "WindowedCalls" "WindowedCalls" "lowest" "I") ∈ lw_all := lw_g (lw_at lw_m1 39 rfl) rfl
theorem q50 : (Jvm.Cond.soleField "WindowedCalls" "lowest") ∈ lw_all := lw_g (lw_at lw_m1 40 rfl) rfl
theorem q51 : (Jvm.Cond.laysFinal "WindowedCalls" "WindowedCalls" "ring" "[I") ∈ lw_all := lw_g (lw_at lw_m1 41 rfl) rfl
theorem q52 : (Jvm.Cond.soleField "WindowedCalls" "ring") ∈ lw_all := lw_g (lw_at lw_m1 42 rfl) rfl
theorem q53 : (Jvm.Cond.laysFinal "WindowedCalls" "WindowedCalls" "memory" "[I") ∈ lw_all := lw_g (lw_at lw_m1 43 rfl) rfl
theorem q54 : (Jvm.Cond.soleField "WindowedCalls" "memory") ∈ lw_all := lw_g (lw_at lw_m1 44 rfl) rfl
theorem q55 : (Jvm.Cond.laysFinal "WindowedCalls" "WindowedCalls" "returns" "[B") ∈ lw_all := lw_g (lw_at lw_m1 45 rfl) rfl
theorem q56 : (Jvm.Cond.soleField "WindowedCalls" "returns") ∈ lw_all := lw_g (lw_at lw_m1 46 rfl) rfl
theorem q57 : (Jvm.Cond.superclass "WindowedCalls" "java/lang/Object") ∈ lw_all := lw_g (lw_at lw_m1 47 rfl) rfl
theorem q62 : (Jvm.Cond.instanceMethod ({ cls := "WindowedCalls", name := "emit", desc := "(III)I" } : Jvm.MethodName)) ∈ lw_all := lw_g (lw_at lw_m1 52 rfl) rfl
theorem q63 : (Jvm.Cond.selects "WindowedCalls" ({ cls := "WindowedCalls", name := "emit", desc := "(III)I" } : Jvm.MethodName) ({ cls := "WindowedCalls", name := "emit", desc := "(III)I" } : Jvm.MethodName)) ∈ lw_all := lw_g (lw_at lw_m1 53 rfl) rfl
theorem q64 : (Jvm.Cond.code ({ cls := "WindowedCalls", name := "emit", desc := "(III)I" } : Jvm.MethodName) prog_1_method_2_code (4 : Nat) (Option.some Jvm.ClassFile.FieldType.int)) ∈ lw_all := lw_g (lw_at lw_m1 54 rfl) rfl
theorem q66 : (Jvm.Cond.instanceMethod ({ cls := "WindowedCalls", name := "drop", desc := "()I" } : Jvm.MethodName)) ∈ lw_all := lw_g (lw_at lw_m1 56 rfl) rfl
theorem q67 : (Jvm.Cond.selects "WindowedCalls" ({ cls := "WindowedCalls", name := "drop", desc := "()I" } : Jvm.MethodName) ({ cls := "WindowedCalls", name := "drop", desc := "()I" } : Jvm.MethodName)) ∈ lw_all := lw_g (lw_at lw_m1 57 rfl) rfl
theorem q68 : (Jvm.Cond.code ({ cls := "WindowedCalls", name := "drop", desc := "()I" } : Jvm.MethodName) prog_1_method_3_code (1 : Nat) (Option.some Jvm.ClassFile.FieldType.int)) ∈ lw_all := lw_g (lw_at lw_m1 58 rfl) rfl
theorem q70 : (Jvm.Cond.instanceMethod ({ cls := "WindowedCalls", name := "restart", desc := "()V" } : Jvm.MethodName)) ∈ lw_all := lw_g (lw_at lw_m1 60 rfl) rfl
theorem q71 : (Jvm.Cond.selects "WindowedCalls" ({ cls := "WindowedCalls", name := "restart", desc := "()V" } : Jvm.MethodName) ({ cls := "WindowedCalls", name := "restart", desc := "()V" } : Jvm.MethodName)) ∈ lw_all := lw_g (lw_at lw_m1 61 rfl) rfl
theorem q72 : (Jvm.Cond.code ({ cls := "WindowedCalls", name := "restart", desc := "()V" } : Jvm.MethodName) prog_1_method_4_code (1 : Nat) (Option.none : Option Jvm.ClassFile.FieldType)) ∈ lw_all := lw_g (lw_at lw_m1 62 rfl) rfl
theorem q73 : (Jvm.Cond.methodLink "WindowedCalls" (50 : Nat) ({ cls := "WindowedCalls", name := "clearBlock", desc := "(I)V" } : Jvm.MethodName)) ∈ lw_all := lw_g (lw_at lw_m1 63 rfl) rfl
theorem q74 : (Jvm.Cond.privateMethod ({ cls := "WindowedCalls", name := "clearBlock", desc := "(I)V" } : Jvm.MethodName)) ∈ lw_tbl := lw_at lw_m1 64 rfl
theorem q75 : (Jvm.Cond.instanceMethod ({ cls := "WindowedCalls", name := "clearBlock", desc := "(I)V" } : Jvm.MethodName)) ∈ lw_all := lw_g (lw_at lw_m1 65 rfl) rfl
theorem q76 : (Jvm.Cond.code ({ cls := "WindowedCalls", name := "clearBlock", desc := "(I)V" } : Jvm.MethodName) prog_1_method_6_code (4 : Nat) (Option.none : Option Jvm.ClassFile.FieldType)) ∈ lw_all := lw_g (lw_at lw_m1 66 rfl) rfl
theorem q77 : (Jvm.Cond.methodLink "WindowedCalls" (54 : Nat) ({ cls := "WindowedCalls", name := "placeOf", desc := "(I)I" } : Jvm.MethodName)) ∈ lw_all := lw_g (lw_at lw_m1 67 rfl) rfl
theorem q78 : (Jvm.Cond.static ({ cls := "WindowedCalls", name := "placeOf", desc := "(I)I" } : Jvm.MethodName)) ∈ lw_all := lw_g (lw_at lw_m1 68 rfl) rfl
theorem q79 : (Jvm.Cond.code ({ cls := "WindowedCalls", name := "placeOf", desc := "(I)I" } : Jvm.MethodName) prog_1_method_5_code (1 : Nat) (Option.some Jvm.ClassFile.FieldType.int)) ∈ lw_all := lw_g (lw_at lw_m1 69 rfl) rfl
theorem q81 : (Jvm.Cond.instanceMethod ({ cls := "WindowedCalls", name := "run", desc := "(I)I" } : Jvm.MethodName)) ∈ lw_all := lw_g (lw_at lw_m1 71 rfl) rfl
theorem q82 : (Jvm.Cond.selects "WindowedCalls" ({ cls := "WindowedCalls", name := "run", desc := "(I)I" } : Jvm.MethodName) ({ cls := "WindowedCalls", name := "run", desc := "(I)I" } : Jvm.MethodName)) ∈ lw_all := lw_g (lw_at lw_m1 72 rfl) rfl
theorem q83 : (Jvm.Cond.code ({ cls := "WindowedCalls", name := "run", desc := "(I)I" } : Jvm.MethodName) prog_1_method_13_code (4 : Nat) (Option.some Jvm.ClassFile.FieldType.int)) ∈ lw_all := lw_g (lw_at lw_m1 73 rfl) rfl
theorem q84 : (Jvm.Cond.methodLink "WindowedCalls" (62 : Nat) ({ cls := "WindowedCalls", name := "step", desc := "()Z" } : Jvm.MethodName)) ∈ lw_all := lw_g (lw_at lw_m1 74 rfl) rfl
theorem q85 : (Jvm.Cond.privateMethod ({ cls := "WindowedCalls", name := "step", desc := "()Z" } : Jvm.MethodName)) ∈ lw_tbl := lw_at lw_m1 75 rfl
theorem q86 : (Jvm.Cond.instanceMethod ({ cls := "WindowedCalls", name := "step", desc := "()Z" } : Jvm.MethodName)) ∈ lw_all := lw_g (lw_at lw_m1 76 rfl) rfl
theorem q87 : (Jvm.Cond.code ({ cls := "WindowedCalls", name := "step", desc := "()Z" } : Jvm.MethodName) prog_1_method_14_code (9 : Nat) (Option.some Jvm.ClassFile.FieldType.boolean)) ∈ lw_all := lw_g (lw_at lw_m1 77 rfl) rfl
theorem q88 : (Jvm.Cond.methodLink "WindowedCalls" (66 : Nat) ({ cls := "WindowedCalls", name := "enter", desc := "()V" } : Jvm.MethodName)) ∈ lw_all := lw_g (lw_at lw_m1 78 rfl) rfl
theorem q89 : (Jvm.Cond.privateMethod ({ cls := "WindowedCalls", name := "enter", desc := "()V" } : Jvm.MethodName)) ∈ lw_tbl := lw_at lw_m1 79 rfl
theorem q90 : (Jvm.Cond.instanceMethod ({ cls := "WindowedCalls", name := "enter", desc := "()V" } : Jvm.MethodName)) ∈ lw_all := lw_g (lw_at lw_m1 80 rfl) rfl
theorem q91 : (Jvm.Cond.code ({ cls := "WindowedCalls", name := "enter", desc := "()V" } : Jvm.MethodName) prog_1_method_7_code (3 : Nat) (Option.none : Option Jvm.ClassFile.FieldType)) ∈ lw_all := lw_g (lw_at lw_m1 81 rfl) rfl
theorem q92 : (Jvm.Cond.methodLink "WindowedCalls" (69 : Nat) ({ cls := "WindowedCalls", name := "goBack", desc := "()V" } : Jvm.MethodName)) ∈ lw_all := lw_g (lw_at lw_m1 82 rfl) rfl
theorem q93 : (Jvm.Cond.privateMethod ({ cls := "WindowedCalls", name := "goBack", desc := "()V" } : Jvm.MethodName)) ∈ lw_tbl := lw_at lw_m1 83 rfl
theorem q94 : (Jvm.Cond.instanceMethod ({ cls := "WindowedCalls", name := "goBack", desc := "()V" } : Jvm.MethodName)) ∈ lw_all := lw_g (lw_at lw_m1 84 rfl) rfl
theorem q95 : (Jvm.Cond.code ({ cls := "WindowedCalls", name := "goBack", desc := "()V" } : Jvm.MethodName) prog_1_method_16_code (1 : Nat) (Option.none : Option Jvm.ClassFile.FieldType)) ∈ lw_all := lw_g (lw_at lw_m1 85 rfl) rfl
theorem q96 : (Jvm.Cond.methodLink "WindowedCalls" (83 : Nat) ({ cls := "WindowedCalls", name := "leave", desc := "()V" } : Jvm.MethodName)) ∈ lw_all := lw_g (lw_at lw_m1 86 rfl) rfl
theorem q97 : (Jvm.Cond.privateMethod ({ cls := "WindowedCalls", name := "leave", desc := "()V" } : Jvm.MethodName)) ∈ lw_tbl := lw_at lw_m1 87 rfl
theorem q98 : (Jvm.Cond.instanceMethod ({ cls := "WindowedCalls", name := "leave", desc := "()V" } : Jvm.MethodName)) ∈ lw_all := lw_g (lw_at lw_m1 88 rfl) rfl
theorem q99 : (Jvm.Cond.code ({ cls := "WindowedCalls", name := "leave", desc := "()V" } : Jvm.MethodName) prog_1_method_8_code (3 : Nat) (Option.none : Option Jvm.ClassFile.FieldType)) ∈ lw_all := lw_g (lw_at lw_m1 89 rfl) rfl
theorem q100 : (Jvm.Cond.methodLink "WindowedCalls" (72 : Nat) ({ cls := "WindowedCalls", name := "get", desc := "(I)I" } : Jvm.MethodName)) ∈ lw_all := lw_g (lw_at lw_m1 90 rfl) rfl
theorem q101 : (Jvm.Cond.privateMethod ({ cls := "WindowedCalls", name := "get", desc := "(I)I" } : Jvm.MethodName)) ∈ lw_tbl := lw_at lw_m1 91 rfl
theorem q102 : (Jvm.Cond.instanceMethod ({ cls := "WindowedCalls", name := "get", desc := "(I)I" } : Jvm.MethodName)) ∈ lw_all := lw_g (lw_at lw_m1 92 rfl) rfl
theorem q103 : (Jvm.Cond.code ({ cls := "WindowedCalls", name := "get", desc := "(I)I" } : Jvm.MethodName) prog_1_method_10_code (2 : Nat) (Option.some Jvm.ClassFile.FieldType.int)) ∈ lw_all := lw_g (lw_at lw_m1 93 rfl) rfl
theorem q104 : (Jvm.Cond.methodLink "WindowedCalls" (58 : Nat) ({ cls := "WindowedCalls", name := "cellOf", desc := "(II)I" } : Jvm.MethodName)) ∈ lw_all := lw_g (lw_at lw_m1 94 rfl) rfl
theorem q105 : (Jvm.Cond.static ({ cls := "WindowedCalls", name := "cellOf", desc := "(II)I" } : Jvm.MethodName)) ∈ lw_all := lw_g (lw_at lw_m1 95 rfl) rfl
theorem q106 : (Jvm.Cond.code ({ cls := "WindowedCalls", name := "cellOf", desc := "(II)I" } : Jvm.MethodName) prog_1_method_9_code (3 : Nat) (Option.some Jvm.ClassFile.FieldType.int)) ∈ lw_all := lw_g (lw_at lw_m1 96 rfl) rfl
theorem q107 : (Jvm.Cond.methodLink "WindowedCalls" (75 : Nat) ({ cls := "WindowedCalls", name := "value", desc := "(IIII)I" } : Jvm.MethodName)) ∈ lw_all := lw_g (lw_at lw_m1 97 rfl) rfl
theorem q108 : (Jvm.Cond.static ({ cls := "WindowedCalls", name := "value", desc := "(IIII)I" } : Jvm.MethodName)) ∈ lw_all := lw_g (lw_at lw_m1 98 rfl) rfl
theorem q109 : (Jvm.Cond.code ({ cls := "WindowedCalls", name := "value", desc := "(IIII)I" } : Jvm.MethodName) prog_1_method_15_code (4 : Nat) (Option.some Jvm.ClassFile.FieldType.int)) ∈ lw_all := lw_g (lw_at lw_m1 99 rfl) rfl
theorem q110 : (Jvm.Cond.methodLink "WindowedCalls" (79 : Nat) ({ cls := "WindowedCalls", name := "set", desc := "(II)V" } : Jvm.MethodName)) ∈ lw_all := lw_g (lw_at lw_m1 100 rfl) rfl
theorem q111 : (Jvm.Cond.privateMethod ({ cls := "WindowedCalls", name := "set", desc := "(II)V" } : Jvm.MethodName)) ∈ lw_tbl := lw_at lw_m1 101 rfl
theorem q112 : (Jvm.Cond.instanceMethod ({ cls := "WindowedCalls", name := "set", desc := "(II)V" } : Jvm.MethodName)) ∈ lw_all := lw_g (lw_at lw_m1 102 rfl) rfl
theorem q113 : (Jvm.Cond.code ({ cls := "WindowedCalls", name := "set", desc := "(II)V" } : Jvm.MethodName) prog_1_method_11_code (4 : Nat) (Option.none : Option Jvm.ClassFile.FieldType)) ∈ lw_all := lw_g (lw_at lw_m1 103 rfl) rfl
theorem q115 : (Jvm.Cond.instanceMethod ({ cls := "WindowedCalls", name := "halted", desc := "()Z" } : Jvm.MethodName)) ∈ lw_all := lw_g (lw_at lw_m1 105 rfl) rfl
theorem q116 : (Jvm.Cond.selects "WindowedCalls" ({ cls := "WindowedCalls", name := "halted", desc := "()Z" } : Jvm.MethodName) ({ cls := "WindowedCalls", name := "halted", desc := "()Z" } : Jvm.MethodName)) ∈ lw_all := lw_g (lw_at lw_m1 106 rfl) rfl
theorem q117 : (Jvm.Cond.code ({ cls := "WindowedCalls", name := "halted", desc := "()Z" } : Jvm.MethodName) prog_1_method_17_code (1 : Nat) (Option.some Jvm.ClassFile.FieldType.boolean)) ∈ lw_all := lw_g (lw_at lw_m1 107 rfl) rfl
theorem q119 : (Jvm.Cond.instanceMethod ({ cls := "WindowedCalls", name := "position", desc := "()I" } : Jvm.MethodName)) ∈ lw_all := lw_g (lw_at lw_m1 109 rfl) rfl
theorem q120 : (Jvm.Cond.selects "WindowedCalls" ({ cls := "WindowedCalls", name := "position", desc := "()I" } : Jvm.MethodName) ({ cls := "WindowedCalls", name := "position", desc := "()I" } : Jvm.MethodName)) ∈ lw_all := lw_g (lw_at lw_m1 110 rfl) rfl
theorem q121 : (Jvm.Cond.code ({ cls := "WindowedCalls", name := "position", desc := "()I" } : Jvm.MethodName) prog_1_method_18_code (1 : Nat) (Option.some Jvm.ClassFile.FieldType.int)) ∈ lw_all := lw_g (lw_at lw_m1 111 rfl) rfl
theorem q123 : (Jvm.Cond.instanceMethod ({ cls := "WindowedCalls", name := "depth", desc := "()I" } : Jvm.MethodName)) ∈ lw_all := lw_g (lw_at lw_m1 113 rfl) rfl
theorem q124 : (Jvm.Cond.selects "WindowedCalls" ({ cls := "WindowedCalls", name := "depth", desc := "()I" } : Jvm.MethodName) ({ cls := "WindowedCalls", name := "depth", desc := "()I" } : Jvm.MethodName)) ∈ lw_all := lw_g (lw_at lw_m1 114 rfl) rfl
theorem q125 : (Jvm.Cond.code ({ cls := "WindowedCalls", name := "depth", desc := "()I" } : Jvm.MethodName) prog_1_method_19_code (1 : Nat) (Option.some Jvm.ClassFile.FieldType.int)) ∈ lw_all := lw_g (lw_at lw_m1 115 rfl) rfl
theorem q127 : (Jvm.Cond.instanceMethod ({ cls := "WindowedCalls", name := "register", desc := "(I)I" } : Jvm.MethodName)) ∈ lw_all := lw_g (lw_at lw_m1 117 rfl) rfl
theorem q128 : (Jvm.Cond.selects "WindowedCalls" ({ cls := "WindowedCalls", name := "register", desc := "(I)I" } : Jvm.MethodName) ({ cls := "WindowedCalls", name := "register", desc := "(I)I" } : Jvm.MethodName)) ∈ lw_all := lw_g (lw_at lw_m1 118 rfl) rfl
theorem q129 : (Jvm.Cond.code ({ cls := "WindowedCalls", name := "register", desc := "(I)I" } : Jvm.MethodName) prog_1_method_21_code (2 : Nat) (Option.some Jvm.ClassFile.FieldType.int)) ∈ lw_all := lw_g (lw_at lw_m1 119 rfl) rfl
theorem q130 : (Jvm.Cond.methodLink "WindowedCalls" (86 : Nat) ({ cls := "WindowedCalls", name := "isRegister", desc := "(I)Z" } : Jvm.MethodName)) ∈ lw_all := lw_g (lw_at lw_m1 120 rfl) rfl
theorem q131 : (Jvm.Cond.static ({ cls := "WindowedCalls", name := "isRegister", desc := "(I)Z" } : Jvm.MethodName)) ∈ lw_all := lw_g (lw_at lw_m1 121 rfl) rfl
theorem q132 : (Jvm.Cond.code ({ cls := "WindowedCalls", name := "isRegister", desc := "(I)Z" } : Jvm.MethodName) prog_1_method_20_code (1 : Nat) (Option.some Jvm.ClassFile.FieldType.boolean)) ∈ lw_all := lw_g (lw_at lw_m1 122 rfl) rfl
theorem q134 : (Jvm.Cond.instanceMethod ({ cls := "WindowedCalls", name := "below", desc := "(II)I" } : Jvm.MethodName)) ∈ lw_all := lw_g (lw_at lw_m1 124 rfl) rfl
theorem q135 : (Jvm.Cond.selects "WindowedCalls" ({ cls := "WindowedCalls", name := "below", desc := "(II)I" } : Jvm.MethodName) ({ cls := "WindowedCalls", name := "below", desc := "(II)I" } : Jvm.MethodName)) ∈ lw_all := lw_g (lw_at lw_m1 125 rfl) rfl
theorem q136 : (Jvm.Cond.code ({ cls := "WindowedCalls", name := "below", desc := "(II)I" } : Jvm.MethodName) prog_1_method_22_code (3 : Nat) (Option.some Jvm.ClassFile.FieldType.int)) ∈ lw_all := lw_g (lw_at lw_m1 126 rfl) rfl
theorem q137 : (Jvm.Cond.methodLink "WindowedCalls" (90 : Nat) ({ cls := "WindowedCalls", name := "registerOf", desc := "(II)I" } : Jvm.MethodName)) ∈ lw_all := lw_g (lw_at lw_m1 127 rfl) rfl
theorem q138 : (Jvm.Cond.privateMethod ({ cls := "WindowedCalls", name := "registerOf", desc := "(II)I" } : Jvm.MethodName)) ∈ lw_tbl := lw_at lw_m1 128 rfl
theorem q139 : (Jvm.Cond.instanceMethod ({ cls := "WindowedCalls", name := "registerOf", desc := "(II)I" } : Jvm.MethodName)) ∈ lw_all := lw_g (lw_at lw_m1 129 rfl) rfl
theorem q140 : (Jvm.Cond.code ({ cls := "WindowedCalls", name := "registerOf", desc := "(II)I" } : Jvm.MethodName) prog_1_method_12_code (4 : Nat) (Option.some Jvm.ClassFile.FieldType.int)) ∈ lw_all := lw_g (lw_at lw_m1 130 rfl) rfl
theorem q142 : (Jvm.Cond.instanceMethod ({ cls := "WindowedCalls", name := "put", desc := "(II)Z" } : Jvm.MethodName)) ∈ lw_all := lw_g (lw_at lw_m1 132 rfl) rfl
theorem q143 : (Jvm.Cond.selects "WindowedCalls" ({ cls := "WindowedCalls", name := "put", desc := "(II)Z" } : Jvm.MethodName) ({ cls := "WindowedCalls", name := "put", desc := "(II)Z" } : Jvm.MethodName)) ∈ lw_all := lw_g (lw_at lw_m1 133 rfl) rfl
theorem q144 : (Jvm.Cond.code ({ cls := "WindowedCalls", name := "put", desc := "(II)Z" } : Jvm.MethodName) prog_1_method_23_code (3 : Nat) (Option.some Jvm.ClassFile.FieldType.boolean)) ∈ lw_all := lw_g (lw_at lw_m1 134 rfl) rfl
theorem q146 : (Jvm.Cond.instanceMethod ({ cls := "WindowedCalls", name := "backTo", desc := "(I)I" } : Jvm.MethodName)) ∈ lw_all := lw_g (lw_at lw_m1 136 rfl) rfl
theorem q147 : (Jvm.Cond.selects "WindowedCalls" ({ cls := "WindowedCalls", name := "backTo", desc := "(I)I" } : Jvm.MethodName) ({ cls := "WindowedCalls", name := "backTo", desc := "(I)I" } : Jvm.MethodName)) ∈ lw_all := lw_g (lw_at lw_m1 137 rfl) rfl
theorem q148 : (Jvm.Cond.code ({ cls := "WindowedCalls", name := "backTo", desc := "(I)I" } : Jvm.MethodName) prog_1_method_24_code (2 : Nat) (Option.some Jvm.ClassFile.FieldType.int)) ∈ lw_all := lw_g (lw_at lw_m1 138 rfl) rfl
theorem q150 : (Jvm.Cond.instanceMethod ({ cls := "WindowedCalls", name := "digest", desc := "()I" } : Jvm.MethodName)) ∈ lw_all := lw_g (lw_at lw_m1 140 rfl) rfl
theorem q151 : (Jvm.Cond.selects "WindowedCalls" ({ cls := "WindowedCalls", name := "digest", desc := "()I" } : Jvm.MethodName) ({ cls := "WindowedCalls", name := "digest", desc := "()I" } : Jvm.MethodName)) ∈ lw_all := lw_g (lw_at lw_m1 141 rfl) rfl
theorem q152 : (Jvm.Cond.code ({ cls := "WindowedCalls", name := "digest", desc := "()I" } : Jvm.MethodName) prog_1_method_25_code (5 : Nat) (Option.some Jvm.ClassFile.FieldType.int)) ∈ lw_all := lw_g (lw_at lw_m1 142 rfl) rfl
theorem q154 : (Jvm.Cond.instanceMethod ({ cls := "WindowedCalls", name := "done", desc := "()I" } : Jvm.MethodName)) ∈ lw_all := lw_g (lw_at lw_m1 144 rfl) rfl
theorem q155 : (Jvm.Cond.selects "WindowedCalls" ({ cls := "WindowedCalls", name := "done", desc := "()I" } : Jvm.MethodName) ({ cls := "WindowedCalls", name := "done", desc := "()I" } : Jvm.MethodName)) ∈ lw_all := lw_g (lw_at lw_m1 145 rfl) rfl
theorem q156 : (Jvm.Cond.code ({ cls := "WindowedCalls", name := "done", desc := "()I" } : Jvm.MethodName) prog_1_method_26_code (1 : Nat) (Option.some Jvm.ClassFile.FieldType.int)) ∈ lw_all := lw_g (lw_at lw_m1 146 rfl) rfl
theorem in_X0 : ∀ w ∈ wsX00, w ∈ lw_all := lw_in wsX00 [33, 35, 37, 39, 41, 43, 45, 47, 49, 51, 53, 55] (by decide +kernel) (by decide +kernel)
/-! WindowedCallsModel -/
def RX1 : String := "WindowedCallsModel"
def TX1 : u_T := fun k => match k with
  | 0 => ("WindowedCallsModel", "size", "I", false)
  | 1 => ("WindowedCallsModel", "ops", "[I", false)
  | 2 => ("WindowedCallsModel", "as", "[I", false)
  | 3 => ("WindowedCallsModel", "bs", "[I", false)
  | 4 => ("WindowedCallsModel", "cs", "[I", false)
  | 5 => ("WindowedCallsModel", "ns", "[I", false)
  | 6 => ("WindowedCallsModel", "row", "[I", false)
  | 7 => ("WindowedCallsModel", "calls", "I", false)
  | 8 => ("WindowedCallsModel", "backs", "[I", false)
  | 9 => ("WindowedCallsModel", "at", "I", false)
  | 10 => ("WindowedCallsModel", "over", "Z", false)
  | _ => ("WindowedCallsModel", "carried", "I", false)
def tyX1 : Nat → FieldType := fun k => match k with
  | 0 => .int
  | 1 => .array .int
  | 2 => .array .int
  | 3 => .array .int
  | 4 => .array .int
  | 5 => .array .int
  | 6 => .array .int
  | 7 => .int
  | 8 => .array .int
  | 9 => .int
  | 10 => .boolean
  | _ => .int
abbrev wsX10 : List Cond := u_ws RX1 TX1 12
theorem nmX1 : ∀ a, a < 12 → ∀ b, b < 12 → a ≠ b → (TX1 a).2.1 ≠ (TX1 b).2.1 := by decide +kernel
theorem tyX1_ok : ∀ k, k < 12 → parseFieldDescriptor (TX1 k).2.2.1 = some (tyX1 k) := by decide +kernel
abbrev cX1_init : ByteArray := prog_3_method_1_code
def yX1_init : MethodName := ⟨RX1, "<init>", "()V"⟩
abbrev cX1_emit : ByteArray := prog_3_method_2_code
def yX1_emit : MethodName := ⟨RX1, "emit", "(III)I"⟩
abbrev cX1_drop : ByteArray := prog_3_method_3_code
def yX1_drop : MethodName := ⟨RX1, "drop", "()I"⟩
abbrev cX1_restart : ByteArray := prog_3_method_4_code
def yX1_restart : MethodName := ⟨RX1, "restart", "()V"⟩
abbrev cX1_run : ByteArray := prog_3_method_6_code
def yX1_run : MethodName := ⟨RX1, "run", "(I)I"⟩
abbrev cX1_step : ByteArray := prog_3_method_5_code
def yX1_step : MethodName := ⟨RX1, "step", "()V"⟩
abbrev cX1_halted : ByteArray := prog_3_method_7_code
def yX1_halted : MethodName := ⟨RX1, "halted", "()Z"⟩
abbrev cX1_position : ByteArray := prog_3_method_8_code
def yX1_position : MethodName := ⟨RX1, "position", "()I"⟩
abbrev cX1_depth : ByteArray := prog_3_method_9_code
def yX1_depth : MethodName := ⟨RX1, "depth", "()I"⟩
abbrev cX1_register : ByteArray := prog_3_method_11_code
def yX1_register : MethodName := ⟨RX1, "register", "(I)I"⟩
abbrev cX1_below : ByteArray := prog_3_method_12_code
def yX1_below : MethodName := ⟨RX1, "below", "(II)I"⟩
abbrev cX1_isRegister : ByteArray := prog_3_method_10_code
def yX1_isRegister : MethodName := ⟨RX1, "isRegister", "(I)Z"⟩
abbrev cX1_put : ByteArray := prog_3_method_13_code
def yX1_put : MethodName := ⟨RX1, "put", "(II)Z"⟩
abbrev cX1_backTo : ByteArray := prog_3_method_14_code
def yX1_backTo : MethodName := ⟨RX1, "backTo", "(I)I"⟩
abbrev cX1_digest : ByteArray := prog_3_method_15_code
def yX1_digest : MethodName := ⟨RX1, "digest", "()I"⟩
abbrev cX1_done : ByteArray := prog_3_method_16_code
def yX1_done : MethodName := ⟨RX1, "done", "()I"⟩
theorem q12 : (Jvm.Cond.initialized "WindowedCallsModel") ∈ lw_all := lw_g (lw_at lw_m1 2 rfl) rfl
theorem q158 : (Jvm.Cond.instantiable "WindowedCallsModel" (12 : Nat)) ∈ lw_all := lw_g (lw_at lw_m1 148 rfl) rfl
theorem q160 : (Jvm.Cond.instanceMethod ({ cls := "WindowedCallsModel", name := "<init>", desc := "()V" } : Jvm.MethodName)) ∈ lw_all := lw_g (lw_at lw_m1 150 rfl) rfl
theorem q161 : (Jvm.Cond.code ({ cls := "WindowedCallsModel", name := "<init>", desc := "()V" } : Jvm.MethodName) prog_3_method_1_code (1 : Nat) (Option.none : Option Jvm.ClassFile.FieldType)) ∈ lw_all := lw_g (lw_at lw_m1 151 rfl) rfl
theorem q162 : (Jvm.Cond.methodLink "WindowedCallsModel" (1 : Nat) ({ cls := "java/lang/Object", name := "<init>", desc := "()V" } : Jvm.MethodName)) ∈ lw_all := lw_g (lw_at lw_m1 152 rfl) rfl
theorem q163 : (Jvm.Cond.fieldLink "WindowedCallsModel" (31 : Nat) "WindowedCallsModel" "size" "I") ∈ lw_all := lw_g (lw_at lw_m1 153 rfl) rfl
theorem q164 : (Jvm.Cond.fieldLink "WindowedCallsModel" (7 : Nat) "WindowedCallsModel" "ops" "[I") ∈ lw_all := lw_g (lw_at lw_m1 154 rfl) rfl
theorem q165 : (Jvm.Cond.fieldLink "WindowedCallsModel" (13 : Nat) "WindowedCallsModel" "as" "[I") ∈ lw_all := lw_g (lw_at lw_m1 155 rfl) rfl
theorem q166 : (Jvm.Cond.fieldLink "WindowedCallsModel" (16 : Nat) "WindowedCallsModel" "bs" "[I") ∈ lw_all := lw_g (lw_at lw_m1 156 rfl) rfl
theorem q167 : (Jvm.Cond.fieldLink "WindowedCallsModel" (19 : Nat) "WindowedCallsModel" "cs" "[I") ∈ lw_all := lw_g (lw_at lw_m1 157 rfl) rfl
theorem q168 : (Jvm.Cond.fieldLink "WindowedCallsModel" (22 : Nat) "WindowedCallsModel" "ns" "[I") ∈ lw_all := lw_g (lw_at lw_m1 158 rfl) rfl
theorem q169 : (Jvm.Cond.fieldLink "WindowedCallsModel" (25 : Nat) "WindowedCallsModel" "row" "[I") ∈ lw_all := lw_g (lw_at lw_m1 159 rfl) rfl
theorem q170 : (Jvm.Cond.fieldLink "WindowedCallsModel" (35 : Nat) "WindowedCallsModel" "calls" "I") ∈ lw_all := lw_g (lw_at lw_m1 160 rfl) rfl
theorem q171 : (Jvm.Cond.fieldLink "WindowedCallsModel" (28 : Nat) "WindowedCallsModel" "backs" "[I") ∈ lw_all := lw_g (lw_at lw_m1 161 rfl) rfl
theorem q172 : (Jvm.Cond.fieldLink "WindowedCallsModel" (38 : Nat) "WindowedCallsModel" "at" "I") ∈ lw_all := lw_g (lw_at lw_m1 162 rfl) rfl
theorem q173 : (Jvm.Cond.fieldLink "WindowedCallsModel" (41 : Nat) "WindowedCallsModel" "over" "Z") ∈ lw_all := lw_g (lw_at lw_m1 163 rfl) rfl
theorem q174 : (Jvm.Cond.fieldLink "WindowedCallsModel" (45 : Nat) "WindowedCallsModel" "carried" "I") ∈ lw_all := lw_g (lw_at lw_m1 164 rfl) rfl
theorem q175 : (Jvm.Cond.lays "WindowedCallsModel" "WindowedCallsModel" "size" "I") ∈ lw_all := lw_g (lw_at lw_m1 165 rfl) rfl
theorem q176 : (Jvm.Cond.soleField "WindowedCallsModel" "size") ∈ lw_all := lw_g (lw_at lw_m1 166 rfl) rfl
theorem q177 : (Jvm.Cond.lays "WindowedCallsModel" "WindowedCallsModel" "ops" "[I") ∈ lw_all := lw_g (lw_at lw_m1 167 rfl) rfl
theorem q178 : (Jvm.Cond.soleField "WindowedCallsModel" "ops") ∈ lw_all := lw_g (lw_at lw_m1 168 rfl) rfl
theorem q179 : (Jvm.Cond.lays "WindowedCallsModel" "WindowedCallsModel" "as" "[I") ∈ lw_all := lw_g (lw_at lw_m1 169 rfl) rfl
theorem q180 : (Jvm.Cond.soleField "WindowedCallsModel" "as") ∈ lw_all := lw_g (lw_at lw_m1 170 rfl) rfl
theorem q181 : (Jvm.Cond.lays "WindowedCallsModel" "WindowedCallsModel" "bs" "[I") ∈ lw_all := lw_g (lw_at lw_m1 171 rfl) rfl
theorem q182 : (Jvm.Cond.soleField "WindowedCallsModel" "bs") ∈ lw_all := lw_g (lw_at lw_m1 172 rfl) rfl
theorem q183 : (Jvm.Cond.lays "WindowedCallsModel" "WindowedCallsModel" "cs" "[I") ∈ lw_all := lw_g (lw_at lw_m1 173 rfl) rfl
theorem q184 : (Jvm.Cond.soleField "WindowedCallsModel" "cs") ∈ lw_all := lw_g (lw_at lw_m1 174 rfl) rfl
theorem q185 : (Jvm.Cond.lays "WindowedCallsModel" "WindowedCallsModel" "ns" "[I") ∈ lw_all := lw_g (lw_at lw_m1 175 rfl) rfl
theorem q186 : (Jvm.Cond.soleField "WindowedCallsModel" "ns") ∈ lw_all := lw_g (lw_at lw_m1 176 rfl) rfl
theorem q187 : (Jvm.Cond.lays "WindowedCallsModel" "WindowedCallsModel" "row" "[I") ∈ lw_all := lw_g (lw_at lw_m1 177 rfl) rfl
theorem q188 : (Jvm.Cond.soleField "WindowedCallsModel" "row") ∈ lw_all := lw_g (lw_at lw_m1 178 rfl) rfl
theorem q189 : (Jvm.Cond.lays "WindowedCallsModel" "WindowedCallsModel" "calls" "I") ∈ lw_all := lw_g (lw_at lw_m1 179 rfl) rfl
theorem q190 : (Jvm.Cond.soleField "WindowedCallsModel" "calls") ∈ lw_all := lw_g (lw_at lw_m1 180 rfl) rfl
theorem q191 : (Jvm.Cond.lays "WindowedCallsModel" "WindowedCallsModel" "backs" "[I") ∈ lw_all := lw_g (lw_at lw_m1 181 rfl) rfl
theorem q192 : (Jvm.Cond.soleField "WindowedCallsModel" "backs") ∈ lw_all := lw_g (lw_at lw_m1 182 rfl) rfl
theorem q193 : (Jvm.Cond.lays "WindowedCallsModel" "WindowedCallsModel" "at" "I") ∈ lw_all := lw_g (lw_at lw_m1 183 rfl) rfl
theorem q194 : (Jvm.Cond.soleField "WindowedCallsModel" "at") ∈ lw_all := lw_g (lw_at lw_m1 184 rfl) rfl
theorem q195 : (Jvm.Cond.lays "WindowedCallsModel" "WindowedCallsModel" "over" "Z") ∈ lw_all := lw_g (lw_at lw_m1 185 rfl) rfl
theorem q196 : (Jvm.Cond.soleField "WindowedCallsModel" "over") ∈ lw_all := lw_g (lw_at lw_m1 186 rfl) rfl
theorem q197 : (Jvm.Cond.lays "WindowedCallsModel" "WindowedCallsModel" "carried" "I") ∈ lw_all := lw_g (lw_at lw_m1 187 rfl) rfl
theorem q198 : (Jvm.Cond.soleField "WindowedCallsModel" "carried") ∈ lw_all := lw_g (lw_at lw_m1 188 rfl) rfl
theorem q199 : (Jvm.Cond.superclass "WindowedCallsModel" "java/lang/Object") ∈ lw_all := lw_g (lw_at lw_m1 189 rfl) rfl
theorem q201 : (Jvm.Cond.instanceMethod ({ cls := "WindowedCallsModel", name := "emit", desc := "(III)I" } : Jvm.MethodName)) ∈ lw_all := lw_g (lw_at lw_m1 191 rfl) rfl
theorem q202 : (Jvm.Cond.selects "WindowedCallsModel" ({ cls := "WindowedCallsModel", name := "emit", desc := "(III)I" } : Jvm.MethodName) ({ cls := "WindowedCallsModel", name := "emit", desc := "(III)I" } : Jvm.MethodName)) ∈ lw_all := lw_g (lw_at lw_m1 192 rfl) rfl
theorem q203 : (Jvm.Cond.code ({ cls := "WindowedCallsModel", name := "emit", desc := "(III)I" } : Jvm.MethodName) prog_3_method_2_code (4 : Nat) (Option.some Jvm.ClassFile.FieldType.int)) ∈ lw_all := lw_g (lw_at lw_m1 193 rfl) rfl
theorem q205 : (Jvm.Cond.instanceMethod ({ cls := "WindowedCallsModel", name := "drop", desc := "()I" } : Jvm.MethodName)) ∈ lw_all := lw_g (lw_at lw_m1 195 rfl) rfl
theorem q206 : (Jvm.Cond.selects "WindowedCallsModel" ({ cls := "WindowedCallsModel", name := "drop", desc := "()I" } : Jvm.MethodName) ({ cls := "WindowedCallsModel", name := "drop", desc := "()I" } : Jvm.MethodName)) ∈ lw_all := lw_g (lw_at lw_m1 196 rfl) rfl
theorem q207 : (Jvm.Cond.code ({ cls := "WindowedCallsModel", name := "drop", desc := "()I" } : Jvm.MethodName) prog_3_method_3_code (1 : Nat) (Option.some Jvm.ClassFile.FieldType.int)) ∈ lw_all := lw_g (lw_at lw_m1 197 rfl) rfl
theorem q209 : (Jvm.Cond.instanceMethod ({ cls := "WindowedCallsModel", name := "restart", desc := "()V" } : Jvm.MethodName)) ∈ lw_all := lw_g (lw_at lw_m1 199 rfl) rfl
theorem q210 : (Jvm.Cond.selects "WindowedCallsModel" ({ cls := "WindowedCallsModel", name := "restart", desc := "()V" } : Jvm.MethodName) ({ cls := "WindowedCallsModel", name := "restart", desc := "()V" } : Jvm.MethodName)) ∈ lw_all := lw_g (lw_at lw_m1 200 rfl) rfl
theorem q211 : (Jvm.Cond.code ({ cls := "WindowedCallsModel", name := "restart", desc := "()V" } : Jvm.MethodName) prog_3_method_4_code (2 : Nat) (Option.none : Option Jvm.ClassFile.FieldType)) ∈ lw_all := lw_g (lw_at lw_m1 201 rfl) rfl
theorem q213 : (Jvm.Cond.instanceMethod ({ cls := "WindowedCallsModel", name := "run", desc := "(I)I" } : Jvm.MethodName)) ∈ lw_all := lw_g (lw_at lw_m1 203 rfl) rfl
theorem q214 : (Jvm.Cond.selects "WindowedCallsModel" ({ cls := "WindowedCallsModel", name := "run", desc := "(I)I" } : Jvm.MethodName) ({ cls := "WindowedCallsModel", name := "run", desc := "(I)I" } : Jvm.MethodName)) ∈ lw_all := lw_g (lw_at lw_m1 204 rfl) rfl
theorem q215 : (Jvm.Cond.code ({ cls := "WindowedCallsModel", name := "run", desc := "(I)I" } : Jvm.MethodName) prog_3_method_6_code (6 : Nat) (Option.some Jvm.ClassFile.FieldType.int)) ∈ lw_all := lw_g (lw_at lw_m1 205 rfl) rfl
theorem q216 : (Jvm.Cond.methodLink "WindowedCallsModel" (48 : Nat) ({ cls := "WindowedCallsModel", name := "step", desc := "()V" } : Jvm.MethodName)) ∈ lw_all := lw_g (lw_at lw_m1 206 rfl) rfl
theorem q217 : (Jvm.Cond.privateMethod ({ cls := "WindowedCallsModel", name := "step", desc := "()V" } : Jvm.MethodName)) ∈ lw_tbl := lw_at lw_m1 207 rfl
theorem q218 : (Jvm.Cond.instanceMethod ({ cls := "WindowedCallsModel", name := "step", desc := "()V" } : Jvm.MethodName)) ∈ lw_all := lw_g (lw_at lw_m1 208 rfl) rfl
theorem q219 : (Jvm.Cond.code ({ cls := "WindowedCallsModel", name := "step", desc := "()V" } : Jvm.MethodName) prog_3_method_5_code (9 : Nat) (Option.none : Option Jvm.ClassFile.FieldType)) ∈ lw_all := lw_g (lw_at lw_m1 209 rfl) rfl
theorem q221 : (Jvm.Cond.instanceMethod ({ cls := "WindowedCallsModel", name := "halted", desc := "()Z" } : Jvm.MethodName)) ∈ lw_all := lw_g (lw_at lw_m1 211 rfl) rfl
theorem q222 : (Jvm.Cond.selects "WindowedCallsModel" ({ cls := "WindowedCallsModel", name := "halted", desc := "()Z" } : Jvm.MethodName) ({ cls := "WindowedCallsModel", name := "halted", desc := "()Z" } : Jvm.MethodName)) ∈ lw_all := lw_g (lw_at lw_m1 212 rfl) rfl
theorem q223 : (Jvm.Cond.code ({ cls := "WindowedCallsModel", name := "halted", desc := "()Z" } : Jvm.MethodName) prog_3_method_7_code (1 : Nat) (Option.some Jvm.ClassFile.FieldType.boolean)) ∈ lw_all := lw_g (lw_at lw_m1 213 rfl) rfl
theorem q225 : (Jvm.Cond.instanceMethod ({ cls := "WindowedCallsModel", name := "position", desc := "()I" } : Jvm.MethodName)) ∈ lw_all := lw_g (lw_at lw_m1 215 rfl) rfl
theorem q226 : (Jvm.Cond.selects "WindowedCallsModel" ({ cls := "WindowedCallsModel", name := "position", desc := "()I" } : Jvm.MethodName) ({ cls := "WindowedCallsModel", name := "position", desc := "()I" } : Jvm.MethodName)) ∈ lw_all := lw_g (lw_at lw_m1 216 rfl) rfl
theorem q227 : (Jvm.Cond.code ({ cls := "WindowedCallsModel", name := "position", desc := "()I" } : Jvm.MethodName) prog_3_method_8_code (1 : Nat) (Option.some Jvm.ClassFile.FieldType.int)) ∈ lw_all := lw_g (lw_at lw_m1 217 rfl) rfl
theorem q229 : (Jvm.Cond.instanceMethod ({ cls := "WindowedCallsModel", name := "depth", desc := "()I" } : Jvm.MethodName)) ∈ lw_all := lw_g (lw_at lw_m1 219 rfl) rfl
theorem q230 : (Jvm.Cond.selects "WindowedCallsModel" ({ cls := "WindowedCallsModel", name := "depth", desc := "()I" } : Jvm.MethodName) ({ cls := "WindowedCallsModel", name := "depth", desc := "()I" } : Jvm.MethodName)) ∈ lw_all := lw_g (lw_at lw_m1 220 rfl) rfl
theorem q231 : (Jvm.Cond.code ({ cls := "WindowedCallsModel", name := "depth", desc := "()I" } : Jvm.MethodName) prog_3_method_9_code (1 : Nat) (Option.some Jvm.ClassFile.FieldType.int)) ∈ lw_all := lw_g (lw_at lw_m1 221 rfl) rfl
theorem q233 : (Jvm.Cond.instanceMethod ({ cls := "WindowedCallsModel", name := "register", desc := "(I)I" } : Jvm.MethodName)) ∈ lw_all := lw_g (lw_at lw_m1 223 rfl) rfl
theorem q234 : (Jvm.Cond.selects "WindowedCallsModel" ({ cls := "WindowedCallsModel", name := "register", desc := "(I)I" } : Jvm.MethodName) ({ cls := "WindowedCallsModel", name := "register", desc := "(I)I" } : Jvm.MethodName)) ∈ lw_all := lw_g (lw_at lw_m1 224 rfl) rfl
theorem q235 : (Jvm.Cond.code ({ cls := "WindowedCallsModel", name := "register", desc := "(I)I" } : Jvm.MethodName) prog_3_method_11_code (2 : Nat) (Option.some Jvm.ClassFile.FieldType.int)) ∈ lw_all := lw_g (lw_at lw_m1 225 rfl) rfl
theorem q236 : (Jvm.Cond.methodLink "WindowedCallsModel" (51 : Nat) ({ cls := "WindowedCallsModel", name := "below", desc := "(II)I" } : Jvm.MethodName)) ∈ lw_all := lw_g (lw_at lw_m1 226 rfl) rfl
theorem q237 : (Jvm.Cond.instanceMethod ({ cls := "WindowedCallsModel", name := "below", desc := "(II)I" } : Jvm.MethodName)) ∈ lw_all := lw_g (lw_at lw_m1 227 rfl) rfl
theorem q238 : (Jvm.Cond.selects "WindowedCallsModel" ({ cls := "WindowedCallsModel", name := "below", desc := "(II)I" } : Jvm.MethodName) ({ cls := "WindowedCallsModel", name := "below", desc := "(II)I" } : Jvm.MethodName)) ∈ lw_all := lw_g (lw_at lw_m1 228 rfl) rfl
theorem q239 : (Jvm.Cond.code ({ cls := "WindowedCallsModel", name := "below", desc := "(II)I" } : Jvm.MethodName) prog_3_method_12_code (3 : Nat) (Option.some Jvm.ClassFile.FieldType.int)) ∈ lw_all := lw_g (lw_at lw_m1 229 rfl) rfl
theorem q240 : (Jvm.Cond.methodLink "WindowedCallsModel" (55 : Nat) ({ cls := "WindowedCallsModel", name := "isRegister", desc := "(I)Z" } : Jvm.MethodName)) ∈ lw_all := lw_g (lw_at lw_m1 230 rfl) rfl
theorem q241 : (Jvm.Cond.privateMethod ({ cls := "WindowedCallsModel", name := "isRegister", desc := "(I)Z" } : Jvm.MethodName)) ∈ lw_tbl := lw_at lw_m1 231 rfl
theorem q242 : (Jvm.Cond.instanceMethod ({ cls := "WindowedCallsModel", name := "isRegister", desc := "(I)Z" } : Jvm.MethodName)) ∈ lw_all := lw_g (lw_at lw_m1 232 rfl) rfl
theorem q243 : (Jvm.Cond.code ({ cls := "WindowedCallsModel", name := "isRegister", desc := "(I)Z" } : Jvm.MethodName) prog_3_method_10_code (2 : Nat) (Option.some Jvm.ClassFile.FieldType.boolean)) ∈ lw_all := lw_g (lw_at lw_m1 233 rfl) rfl
theorem q246 : (Jvm.Cond.instanceMethod ({ cls := "WindowedCallsModel", name := "put", desc := "(II)Z" } : Jvm.MethodName)) ∈ lw_all := lw_g (lw_at lw_m1 236 rfl) rfl
theorem q247 : (Jvm.Cond.selects "WindowedCallsModel" ({ cls := "WindowedCallsModel", name := "put", desc := "(II)Z" } : Jvm.MethodName) ({ cls := "WindowedCallsModel", name := "put", desc := "(II)Z" } : Jvm.MethodName)) ∈ lw_all := lw_g (lw_at lw_m1 237 rfl) rfl
theorem q248 : (Jvm.Cond.code ({ cls := "WindowedCallsModel", name := "put", desc := "(II)Z" } : Jvm.MethodName) prog_3_method_13_code (3 : Nat) (Option.some Jvm.ClassFile.FieldType.boolean)) ∈ lw_all := lw_g (lw_at lw_m1 238 rfl) rfl
theorem q250 : (Jvm.Cond.instanceMethod ({ cls := "WindowedCallsModel", name := "backTo", desc := "(I)I" } : Jvm.MethodName)) ∈ lw_all := lw_g (lw_at lw_m2 0 rfl) rfl
theorem q251 : (Jvm.Cond.selects "WindowedCallsModel" ({ cls := "WindowedCallsModel", name := "backTo", desc := "(I)I" } : Jvm.MethodName) ({ cls := "WindowedCallsModel", name := "backTo", desc := "(I)I" } : Jvm.MethodName)) ∈ lw_all := lw_g (lw_at lw_m2 1 rfl) rfl
theorem q252 : (Jvm.Cond.code ({ cls := "WindowedCallsModel", name := "backTo", desc := "(I)I" } : Jvm.MethodName) prog_3_method_14_code (2 : Nat) (Option.some Jvm.ClassFile.FieldType.int)) ∈ lw_all := lw_g (lw_at lw_m2 2 rfl) rfl
theorem q254 : (Jvm.Cond.instanceMethod ({ cls := "WindowedCallsModel", name := "digest", desc := "()I" } : Jvm.MethodName)) ∈ lw_all := lw_g (lw_at lw_m2 4 rfl) rfl
theorem q255 : (Jvm.Cond.selects "WindowedCallsModel" ({ cls := "WindowedCallsModel", name := "digest", desc := "()I" } : Jvm.MethodName) ({ cls := "WindowedCallsModel", name := "digest", desc := "()I" } : Jvm.MethodName)) ∈ lw_all := lw_g (lw_at lw_m2 5 rfl) rfl
theorem q256 : (Jvm.Cond.code ({ cls := "WindowedCallsModel", name := "digest", desc := "()I" } : Jvm.MethodName) prog_3_method_15_code (4 : Nat) (Option.some Jvm.ClassFile.FieldType.int)) ∈ lw_all := lw_g (lw_at lw_m2 6 rfl) rfl
theorem q258 : (Jvm.Cond.instanceMethod ({ cls := "WindowedCallsModel", name := "done", desc := "()I" } : Jvm.MethodName)) ∈ lw_all := lw_g (lw_at lw_m2 8 rfl) rfl
theorem q259 : (Jvm.Cond.selects "WindowedCallsModel" ({ cls := "WindowedCallsModel", name := "done", desc := "()I" } : Jvm.MethodName) ({ cls := "WindowedCallsModel", name := "done", desc := "()I" } : Jvm.MethodName)) ∈ lw_all := lw_g (lw_at lw_m2 9 rfl) rfl
theorem q260 : (Jvm.Cond.code ({ cls := "WindowedCallsModel", name := "done", desc := "()I" } : Jvm.MethodName) prog_3_method_16_code (1 : Nat) (Option.some Jvm.ClassFile.FieldType.int)) ∈ lw_all := lw_g (lw_at lw_m2 10 rfl) rfl
theorem in_X1 : ∀ w ∈ wsX10, w ∈ lw_all := lw_in wsX10 [175, 177, 179, 181, 183, 185, 187, 189, 191, 193, 195, 197] (by decide +kernel) (by decide +kernel)
/-! the law's own entry -/
abbrev cL_law : ByteArray := code
end
section
set_option maxRecDepth 100000
theorem dX0_init_0 : decode cX0_init 0 = .ok (.aload_n 0, 1) := by decide +kernel
theorem dX0_init_1 : decode cX0_init 1 = .ok (.invokespecial 1, 3) := by decide +kernel
theorem dX0_init_4 : decode cX0_init 4 = .ok (.aload_n 0, 1) := by decide +kernel
theorem dX0_init_5 : decode cX0_init 5 = .ok (.bipush 24, 2) := by decide +kernel
theorem dX0_init_7 : decode cX0_init 7 = .ok (.newarray .byte, 2) := by decide +kernel
theorem dX0_init_9 : decode cX0_init 9 = .ok (.putfield 7, 3) := by decide +kernel
theorem dX0_init_12 : decode cX0_init 12 = .ok (.aload_n 0, 1) := by decide +kernel
theorem dX0_init_13 : decode cX0_init 13 = .ok (.bipush 24, 2) := by decide +kernel
theorem dX0_init_15 : decode cX0_init 15 = .ok (.newarray .short, 2) := by decide +kernel
theorem dX0_init_17 : decode cX0_init 17 = .ok (.putfield 13, 3) := by decide +kernel
theorem dX0_init_20 : decode cX0_init 20 = .ok (.aload_n 0, 1) := by decide +kernel
theorem dX0_init_21 : decode cX0_init 21 = .ok (.bipush 24, 2) := by decide +kernel
theorem dX0_init_23 : decode cX0_init 23 = .ok (.newarray .int, 2) := by decide +kernel
theorem dX0_init_25 : decode cX0_init 25 = .ok (.putfield 17, 3) := by decide +kernel
theorem dX0_init_28 : decode cX0_init 28 = .ok (.aload_n 0, 1) := by decide +kernel
theorem dX0_init_29 : decode cX0_init 29 = .ok (.bipush 16, 2) := by decide +kernel
theorem dX0_init_31 : decode cX0_init 31 = .ok (.newarray .int, 2) := by decide +kernel
theorem dX0_init_33 : decode cX0_init 33 = .ok (.putfield 21, 3) := by decide +kernel
theorem dX0_init_36 : decode cX0_init 36 = .ok (.aload_n 0, 1) := by decide +kernel
theorem dX0_init_37 : decode cX0_init 37 = .ok (.sipush 128, 3) := by decide +kernel
theorem dX0_init_40 : decode cX0_init 40 = .ok (.newarray .int, 2) := by decide +kernel
theorem dX0_init_42 : decode cX0_init 42 = .ok (.putfield 24, 3) := by decide +kernel
theorem dX0_init_45 : decode cX0_init 45 = .ok (.aload_n 0, 1) := by decide +kernel
theorem dX0_init_46 : decode cX0_init 46 = .ok (.bipush 30, 2) := by decide +kernel
theorem dX0_init_48 : decode cX0_init 48 = .ok (.newarray .byte, 2) := by decide +kernel
theorem dX0_init_50 : decode cX0_init 50 = .ok (.putfield 27, 3) := by decide +kernel
theorem dX0_init_53 : decode cX0_init 53 = .ok (.return_, 1) := by decide +kernel
theorem dX0_emit_0 : decode cX0_emit 0 = .ok (.iload_n 1, 1) := by decide +kernel
theorem dX0_emit_1 : decode cX0_emit 1 = .ok (.ifCond .lt 20, 3) := by decide +kernel
theorem dX0_emit_4 : decode cX0_emit 4 = .ok (.iload_n 1, 1) := by decide +kernel
theorem dX0_emit_5 : decode cX0_emit 5 = .ok (.bipush 7, 2) := by decide +kernel
theorem dX0_emit_7 : decode cX0_emit 7 = .ok (.if_icmp .gt 14, 3) := by decide +kernel
theorem dX0_emit_10 : decode cX0_emit 10 = .ok (.iload_n 2, 1) := by decide +kernel
theorem dX0_emit_11 : decode cX0_emit 11 = .ok (.ifCond .lt 10, 3) := by decide +kernel
theorem dX0_emit_14 : decode cX0_emit 14 = .ok (.iload_n 2, 1) := by decide +kernel
theorem dX0_emit_15 : decode cX0_emit 15 = .ok (.sipush 511, 3) := by decide +kernel
theorem dX0_emit_18 : decode cX0_emit 18 = .ok (.if_icmp .le 5, 3) := by decide +kernel
theorem dX0_emit_21 : decode cX0_emit 21 = .ok (.iconst (-1), 1) := by decide +kernel
theorem dX0_emit_22 : decode cX0_emit 22 = .ok (.ireturn, 1) := by decide +kernel
theorem dX0_emit_23 : decode cX0_emit 23 = .ok (.aload_n 0, 1) := by decide +kernel
theorem dX0_emit_24 : decode cX0_emit 24 = .ok (.getfield 30, 3) := by decide +kernel
theorem dX0_emit_27 : decode cX0_emit 27 = .ok (.bipush 24, 2) := by decide +kernel
theorem dX0_emit_29 : decode cX0_emit 29 = .ok (.if_icmp .lt 6, 3) := by decide +kernel
theorem dX0_emit_32 : decode cX0_emit 32 = .ok (.bipush (-2), 2) := by decide +kernel
theorem dX0_emit_34 : decode cX0_emit 34 = .ok (.ireturn, 1) := by decide +kernel
theorem dX0_emit_35 : decode cX0_emit 35 = .ok (.aload_n 0, 1) := by decide +kernel
theorem dX0_emit_36 : decode cX0_emit 36 = .ok (.getfield 7, 3) := by decide +kernel
theorem dX0_emit_39 : decode cX0_emit 39 = .ok (.aload_n 0, 1) := by decide +kernel
theorem dX0_emit_40 : decode cX0_emit 40 = .ok (.getfield 30, 3) := by decide +kernel
theorem dX0_emit_43 : decode cX0_emit 43 = .ok (.iload_n 1, 1) := by decide +kernel
theorem dX0_emit_44 : decode cX0_emit 44 = .ok (.i2b, 1) := by decide +kernel
theorem dX0_emit_45 : decode cX0_emit 45 = .ok (.bastore, 1) := by decide +kernel
theorem dX0_emit_46 : decode cX0_emit 46 = .ok (.aload_n 0, 1) := by decide +kernel
theorem dX0_emit_47 : decode cX0_emit 47 = .ok (.getfield 13, 3) := by decide +kernel
theorem dX0_emit_50 : decode cX0_emit 50 = .ok (.aload_n 0, 1) := by decide +kernel
theorem dX0_emit_51 : decode cX0_emit 51 = .ok (.getfield 30, 3) := by decide +kernel
theorem dX0_emit_54 : decode cX0_emit 54 = .ok (.iload_n 2, 1) := by decide +kernel
theorem dX0_emit_55 : decode cX0_emit 55 = .ok (.i2s, 1) := by decide +kernel
theorem dX0_emit_56 : decode cX0_emit 56 = .ok (.sastore, 1) := by decide +kernel
theorem dX0_emit_57 : decode cX0_emit 57 = .ok (.aload_n 0, 1) := by decide +kernel
theorem dX0_emit_58 : decode cX0_emit 58 = .ok (.getfield 17, 3) := by decide +kernel
theorem dX0_emit_61 : decode cX0_emit 61 = .ok (.aload_n 0, 1) := by decide +kernel
theorem dX0_emit_62 : decode cX0_emit 62 = .ok (.getfield 30, 3) := by decide +kernel
theorem dX0_emit_65 : decode cX0_emit 65 = .ok (.iload_n 3, 1) := by decide +kernel
theorem dX0_emit_66 : decode cX0_emit 66 = .ok (.iastore, 1) := by decide +kernel
theorem dX0_emit_67 : decode cX0_emit 67 = .ok (.aload_n 0, 1) := by decide +kernel
theorem dX0_emit_68 : decode cX0_emit 68 = .ok (.dup, 1) := by decide +kernel
theorem dX0_emit_69 : decode cX0_emit 69 = .ok (.getfield 30, 3) := by decide +kernel
theorem dX0_emit_72 : decode cX0_emit 72 = .ok (.iconst 1, 1) := by decide +kernel
theorem dX0_emit_73 : decode cX0_emit 73 = .ok (.iadd, 1) := by decide +kernel
theorem dX0_emit_74 : decode cX0_emit 74 = .ok (.putfield 30, 3) := by decide +kernel
theorem dX0_emit_77 : decode cX0_emit 77 = .ok (.aload_n 0, 1) := by decide +kernel
theorem dX0_emit_78 : decode cX0_emit 78 = .ok (.getfield 30, 3) := by decide +kernel
theorem dX0_emit_81 : decode cX0_emit 81 = .ok (.iconst 1, 1) := by decide +kernel
theorem dX0_emit_82 : decode cX0_emit 82 = .ok (.isub, 1) := by decide +kernel
theorem dX0_emit_83 : decode cX0_emit 83 = .ok (.ireturn, 1) := by decide +kernel
theorem dX0_drop_0 : decode cX0_drop 0 = .ok (.aload_n 0, 1) := by decide +kernel
theorem dX0_drop_1 : decode cX0_drop 1 = .ok (.getfield 30, 3) := by decide +kernel
theorem dX0_drop_4 : decode cX0_drop 4 = .ok (.ifCond .ne 5, 3) := by decide +kernel
theorem dX0_drop_7 : decode cX0_drop 7 = .ok (.iconst (-1), 1) := by decide +kernel
theorem dX0_drop_8 : decode cX0_drop 8 = .ok (.ireturn, 1) := by decide +kernel
theorem dX0_drop_9 : decode cX0_drop 9 = .ok (.aload_n 0, 1) := by decide +kernel
theorem dX0_drop_10 : decode cX0_drop 10 = .ok (.dup, 1) := by decide +kernel
theorem dX0_drop_11 : decode cX0_drop 11 = .ok (.getfield 30, 3) := by decide +kernel
theorem dX0_drop_14 : decode cX0_drop 14 = .ok (.iconst 1, 1) := by decide +kernel
theorem dX0_drop_15 : decode cX0_drop 15 = .ok (.isub, 1) := by decide +kernel
theorem dX0_drop_16 : decode cX0_drop 16 = .ok (.putfield 30, 3) := by decide +kernel
theorem dX0_drop_19 : decode cX0_drop 19 = .ok (.aload_n 0, 1) := by decide +kernel
theorem dX0_drop_20 : decode cX0_drop 20 = .ok (.getfield 30, 3) := by decide +kernel
theorem dX0_drop_23 : decode cX0_drop 23 = .ok (.ireturn, 1) := by decide +kernel
theorem dX0_restart_0 : decode cX0_restart 0 = .ok (.aload_n 0, 1) := by decide +kernel
theorem dX0_restart_1 : decode cX0_restart 1 = .ok (.iconst 0, 1) := by decide +kernel
theorem dX0_restart_2 : decode cX0_restart 2 = .ok (.putfield 34, 3) := by decide +kernel
theorem dX0_restart_5 : decode cX0_restart 5 = .ok (.aload_n 0, 1) := by decide +kernel
theorem dX0_restart_6 : decode cX0_restart 6 = .ok (.iconst 0, 1) := by decide +kernel
theorem dX0_restart_7 : decode cX0_restart 7 = .ok (.putfield 37, 3) := by decide +kernel
theorem dX0_restart_10 : decode cX0_restart 10 = .ok (.aload_n 0, 1) := by decide +kernel
theorem dX0_restart_11 : decode cX0_restart 11 = .ok (.iconst 0, 1) := by decide +kernel
theorem dX0_restart_12 : decode cX0_restart 12 = .ok (.putfield 41, 3) := by decide +kernel
theorem dX0_restart_15 : decode cX0_restart 15 = .ok (.aload_n 0, 1) := by decide +kernel
theorem dX0_restart_16 : decode cX0_restart 16 = .ok (.iconst 0, 1) := by decide +kernel
theorem dX0_restart_17 : decode cX0_restart 17 = .ok (.putfield 44, 3) := by decide +kernel
theorem dX0_restart_20 : decode cX0_restart 20 = .ok (.aload_n 0, 1) := by decide +kernel
theorem dX0_restart_21 : decode cX0_restart 21 = .ok (.iconst 0, 1) := by decide +kernel
theorem dX0_restart_22 : decode cX0_restart 22 = .ok (.putfield 47, 3) := by decide +kernel
theorem dX0_restart_25 : decode cX0_restart 25 = .ok (.aload_n 0, 1) := by decide +kernel
theorem dX0_restart_26 : decode cX0_restart 26 = .ok (.iconst 0, 1) := by decide +kernel
theorem dX0_restart_27 : decode cX0_restart 27 = .ok (.invokevirtual 50, 3) := by decide +kernel
theorem dX0_restart_30 : decode cX0_restart 30 = .ok (.aload_n 0, 1) := by decide +kernel
theorem dX0_restart_31 : decode cX0_restart 31 = .ok (.iconst 1, 1) := by decide +kernel
theorem dX0_restart_32 : decode cX0_restart 32 = .ok (.invokevirtual 50, 3) := by decide +kernel
theorem dX0_restart_35 : decode cX0_restart 35 = .ok (.return_, 1) := by decide +kernel
theorem dX0_clearBlock_0 : decode cX0_clearBlock 0 = .ok (.iload_n 1, 1) := by decide +kernel
theorem dX0_clearBlock_1 : decode cX0_clearBlock 1 = .ok (.invokestatic 54, 3) := by decide +kernel
theorem dX0_clearBlock_4 : decode cX0_clearBlock 4 = .ok (.istore_n 2, 1) := by decide +kernel
theorem dX0_clearBlock_5 : decode cX0_clearBlock 5 = .ok (.iconst 0, 1) := by decide +kernel
theorem dX0_clearBlock_6 : decode cX0_clearBlock 6 = .ok (.istore_n 3, 1) := by decide +kernel
theorem dX0_clearBlock_7 : decode cX0_clearBlock 7 = .ok (.iload_n 3, 1) := by decide +kernel
theorem dX0_clearBlock_8 : decode cX0_clearBlock 8 = .ok (.iconst 4, 1) := by decide +kernel
theorem dX0_clearBlock_9 : decode cX0_clearBlock 9 = .ok (.if_icmp .ge 18, 3) := by decide +kernel
theorem dX0_clearBlock_12 : decode cX0_clearBlock 12 = .ok (.aload_n 0, 1) := by decide +kernel
theorem dX0_clearBlock_13 : decode cX0_clearBlock 13 = .ok (.getfield 21, 3) := by decide +kernel
theorem dX0_clearBlock_16 : decode cX0_clearBlock 16 = .ok (.iload_n 2, 1) := by decide +kernel
theorem dX0_clearBlock_17 : decode cX0_clearBlock 17 = .ok (.iload_n 3, 1) := by decide +kernel
theorem dX0_clearBlock_18 : decode cX0_clearBlock 18 = .ok (.iadd, 1) := by decide +kernel
theorem dX0_clearBlock_19 : decode cX0_clearBlock 19 = .ok (.iconst 0, 1) := by decide +kernel
theorem dX0_clearBlock_20 : decode cX0_clearBlock 20 = .ok (.iastore, 1) := by decide +kernel
theorem dX0_clearBlock_21 : decode cX0_clearBlock 21 = .ok (.iinc 3 1, 3) := by decide +kernel
theorem dX0_clearBlock_24 : decode cX0_clearBlock 24 = .ok (.goto (-17), 3) := by decide +kernel
theorem dX0_clearBlock_27 : decode cX0_clearBlock 27 = .ok (.return_, 1) := by decide +kernel
theorem dX0_placeOf_0 : decode cX0_placeOf 0 = .ok (.iload_n 0, 1) := by decide +kernel
theorem dX0_placeOf_1 : decode cX0_placeOf 1 = .ok (.iconst 4, 1) := by decide +kernel
theorem dX0_placeOf_2 : decode cX0_placeOf 2 = .ok (.irem, 1) := by decide +kernel
theorem dX0_placeOf_3 : decode cX0_placeOf 3 = .ok (.iconst 4, 1) := by decide +kernel
theorem dX0_placeOf_4 : decode cX0_placeOf 4 = .ok (.imul, 1) := by decide +kernel
theorem dX0_placeOf_5 : decode cX0_placeOf 5 = .ok (.ireturn, 1) := by decide +kernel
theorem dX0_run_0 : decode cX0_run 0 = .ok (.iload_n 1, 1) := by decide +kernel
theorem dX0_run_1 : decode cX0_run 1 = .ok (.ifCond .ge 7, 3) := by decide +kernel
theorem dX0_run_4 : decode cX0_run 4 = .ok (.iconst 0, 1) := by decide +kernel
theorem dX0_run_5 : decode cX0_run 5 = .ok (.goto 17, 3) := by decide +kernel
theorem dX0_run_8 : decode cX0_run 8 = .ok (.iload_n 1, 1) := by decide +kernel
theorem dX0_run_9 : decode cX0_run 9 = .ok (.sipush 200, 3) := by decide +kernel
theorem dX0_run_12 : decode cX0_run 12 = .ok (.if_icmp .le 9, 3) := by decide +kernel
theorem dX0_run_15 : decode cX0_run 15 = .ok (.sipush 200, 3) := by decide +kernel
theorem dX0_run_18 : decode cX0_run 18 = .ok (.goto 4, 3) := by decide +kernel
theorem dX0_run_21 : decode cX0_run 21 = .ok (.iload_n 1, 1) := by decide +kernel
theorem dX0_run_22 : decode cX0_run 22 = .ok (.istore_n 2, 1) := by decide +kernel
theorem dX0_run_23 : decode cX0_run 23 = .ok (.iconst 0, 1) := by decide +kernel
theorem dX0_run_24 : decode cX0_run 24 = .ok (.istore_n 3, 1) := by decide +kernel
theorem dX0_run_25 : decode cX0_run 25 = .ok (.iload_n 3, 1) := by decide +kernel
theorem dX0_run_26 : decode cX0_run 26 = .ok (.iload_n 2, 1) := by decide +kernel
theorem dX0_run_27 : decode cX0_run 27 = .ok (.if_icmp .ge 28, 3) := by decide +kernel
theorem dX0_run_30 : decode cX0_run 30 = .ok (.aload_n 0, 1) := by decide +kernel
theorem dX0_run_31 : decode cX0_run 31 = .ok (.getfield 37, 3) := by decide +kernel
theorem dX0_run_34 : decode cX0_run 34 = .ok (.ifCond .ne 21, 3) := by decide +kernel
theorem dX0_run_37 : decode cX0_run 37 = .ok (.iload_n 3, 1) := by decide +kernel
theorem dX0_run_38 : decode cX0_run 38 = .ok (.aload_n 0, 1) := by decide +kernel
theorem dX0_run_39 : decode cX0_run 39 = .ok (.invokevirtual 62, 3) := by decide +kernel
theorem dX0_run_42 : decode cX0_run 42 = .ok (.ifCond .eq 7, 3) := by decide +kernel
theorem dX0_run_45 : decode cX0_run 45 = .ok (.iconst 1, 1) := by decide +kernel
theorem dX0_run_46 : decode cX0_run 46 = .ok (.goto 4, 3) := by decide +kernel
theorem dX0_run_49 : decode cX0_run 49 = .ok (.iconst 0, 1) := by decide +kernel
theorem dX0_run_50 : decode cX0_run 50 = .ok (.iadd, 1) := by decide +kernel
theorem dX0_run_51 : decode cX0_run 51 = .ok (.istore_n 3, 1) := by decide +kernel
theorem dX0_run_52 : decode cX0_run 52 = .ok (.goto (-27), 3) := by decide +kernel
theorem dX0_run_55 : decode cX0_run 55 = .ok (.aload_n 0, 1) := by decide +kernel
theorem dX0_run_56 : decode cX0_run 56 = .ok (.dup, 1) := by decide +kernel
theorem dX0_run_57 : decode cX0_run 57 = .ok (.getfield 41, 3) := by decide +kernel
theorem dX0_run_60 : decode cX0_run 60 = .ok (.iload_n 3, 1) := by decide +kernel
theorem dX0_run_61 : decode cX0_run 61 = .ok (.iadd, 1) := by decide +kernel
theorem dX0_run_62 : decode cX0_run 62 = .ok (.putfield 41, 3) := by decide +kernel
theorem dX0_run_65 : decode cX0_run 65 = .ok (.iload_n 3, 1) := by decide +kernel
theorem dX0_run_66 : decode cX0_run 66 = .ok (.ireturn, 1) := by decide +kernel
theorem dX0_step_0 : decode cX0_step 0 = .ok (.aload_n 0, 1) := by decide +kernel
theorem dX0_step_1 : decode cX0_step 1 = .ok (.getfield 34, 3) := by decide +kernel
theorem dX0_step_4 : decode cX0_step 4 = .ok (.ifCond .lt 38, 3) := by decide +kernel
theorem dX0_step_7 : decode cX0_step 7 = .ok (.aload_n 0, 1) := by decide +kernel
theorem dX0_step_8 : decode cX0_step 8 = .ok (.getfield 34, 3) := by decide +kernel
theorem dX0_step_11 : decode cX0_step 11 = .ok (.aload_n 0, 1) := by decide +kernel
theorem dX0_step_12 : decode cX0_step 12 = .ok (.getfield 30, 3) := by decide +kernel
theorem dX0_step_15 : decode cX0_step 15 = .ok (.if_icmp .ge 27, 3) := by decide +kernel
theorem dX0_step_18 : decode cX0_step 18 = .ok (.aload_n 0, 1) := by decide +kernel
theorem dX0_step_19 : decode cX0_step 19 = .ok (.getfield 7, 3) := by decide +kernel
theorem dX0_step_22 : decode cX0_step 22 = .ok (.aload_n 0, 1) := by decide +kernel
theorem dX0_step_23 : decode cX0_step 23 = .ok (.getfield 34, 3) := by decide +kernel
theorem dX0_step_26 : decode cX0_step 26 = .ok (.baload, 1) := by decide +kernel
theorem dX0_step_27 : decode cX0_step 27 = .ok (.iconst 5, 1) := by decide +kernel
theorem dX0_step_28 : decode cX0_step 28 = .ok (.if_icmp .ne 21, 3) := by decide +kernel
theorem dX0_step_31 : decode cX0_step 31 = .ok (.aload_n 0, 1) := by decide +kernel
theorem dX0_step_32 : decode cX0_step 32 = .ok (.getfield 44, 3) := by decide +kernel
theorem dX0_step_35 : decode cX0_step 35 = .ok (.iconst 1, 1) := by decide +kernel
theorem dX0_step_36 : decode cX0_step 36 = .ok (.iadd, 1) := by decide +kernel
theorem dX0_step_37 : decode cX0_step 37 = .ok (.bipush 30, 2) := by decide +kernel
theorem dX0_step_39 : decode cX0_step 39 = .ok (.if_icmp .lt 10, 3) := by decide +kernel
theorem dX0_step_42 : decode cX0_step 42 = .ok (.aload_n 0, 1) := by decide +kernel
theorem dX0_step_43 : decode cX0_step 43 = .ok (.iconst 1, 1) := by decide +kernel
theorem dX0_step_44 : decode cX0_step 44 = .ok (.putfield 37, 3) := by decide +kernel
theorem dX0_step_47 : decode cX0_step 47 = .ok (.iconst 0, 1) := by decide +kernel
theorem dX0_step_48 : decode cX0_step 48 = .ok (.ireturn, 1) := by decide +kernel
theorem dX0_step_49 : decode cX0_step 49 = .ok (.aload_n 0, 1) := by decide +kernel
theorem dX0_step_50 : decode cX0_step 50 = .ok (.getfield 7, 3) := by decide +kernel
theorem dX0_step_53 : decode cX0_step 53 = .ok (.aload_n 0, 1) := by decide +kernel
theorem dX0_step_54 : decode cX0_step 54 = .ok (.getfield 34, 3) := by decide +kernel
theorem dX0_step_57 : decode cX0_step 57 = .ok (.baload, 1) := by decide +kernel
theorem dX0_step_58 : decode cX0_step 58 = .ok (.istore_n 1, 1) := by decide +kernel
theorem dX0_step_59 : decode cX0_step 59 = .ok (.aload_n 0, 1) := by decide +kernel
theorem dX0_step_60 : decode cX0_step 60 = .ok (.getfield 13, 3) := by decide +kernel
theorem dX0_step_63 : decode cX0_step 63 = .ok (.aload_n 0, 1) := by decide +kernel
theorem dX0_step_64 : decode cX0_step 64 = .ok (.getfield 34, 3) := by decide +kernel
theorem dX0_step_67 : decode cX0_step 67 = .ok (.saload, 1) := by decide +kernel
theorem dX0_step_68 : decode cX0_step 68 = .ok (.bipush 7, 2) := by decide +kernel
theorem dX0_step_70 : decode cX0_step 70 = .ok (.iand, 1) := by decide +kernel
theorem dX0_step_71 : decode cX0_step 71 = .ok (.istore_n 2, 1) := by decide +kernel
theorem dX0_step_72 : decode cX0_step 72 = .ok (.aload_n 0, 1) := by decide +kernel
theorem dX0_step_73 : decode cX0_step 73 = .ok (.getfield 13, 3) := by decide +kernel
theorem dX0_step_76 : decode cX0_step 76 = .ok (.aload_n 0, 1) := by decide +kernel
theorem dX0_step_77 : decode cX0_step 77 = .ok (.getfield 34, 3) := by decide +kernel
theorem dX0_step_80 : decode cX0_step 80 = .ok (.saload, 1) := by decide +kernel
theorem dX0_step_81 : decode cX0_step 81 = .ok (.iconst 3, 1) := by decide +kernel
theorem dX0_step_82 : decode cX0_step 82 = .ok (.ishr, 1) := by decide +kernel
theorem dX0_step_83 : decode cX0_step 83 = .ok (.bipush 7, 2) := by decide +kernel
theorem dX0_step_85 : decode cX0_step 85 = .ok (.iand, 1) := by decide +kernel
theorem dX0_step_86 : decode cX0_step 86 = .ok (.istore_n 3, 1) := by decide +kernel
theorem dX0_step_87 : decode cX0_step 87 = .ok (.aload_n 0, 1) := by decide +kernel
theorem dX0_step_88 : decode cX0_step 88 = .ok (.getfield 13, 3) := by decide +kernel
theorem dX0_step_91 : decode cX0_step 91 = .ok (.aload_n 0, 1) := by decide +kernel
theorem dX0_step_92 : decode cX0_step 92 = .ok (.getfield 34, 3) := by decide +kernel
theorem dX0_step_95 : decode cX0_step 95 = .ok (.saload, 1) := by decide +kernel
theorem dX0_step_96 : decode cX0_step 96 = .ok (.bipush 6, 2) := by decide +kernel
theorem dX0_step_98 : decode cX0_step 98 = .ok (.ishr, 1) := by decide +kernel
theorem dX0_step_99 : decode cX0_step 99 = .ok (.istore 4, 2) := by decide +kernel
theorem dX0_step_101 : decode cX0_step 101 = .ok (.aload_n 0, 1) := by decide +kernel
theorem dX0_step_102 : decode cX0_step 102 = .ok (.getfield 17, 3) := by decide +kernel
theorem dX0_step_105 : decode cX0_step 105 = .ok (.aload_n 0, 1) := by decide +kernel
theorem dX0_step_106 : decode cX0_step 106 = .ok (.getfield 34, 3) := by decide +kernel
theorem dX0_step_109 : decode cX0_step 109 = .ok (.iaload, 1) := by decide +kernel
theorem dX0_step_110 : decode cX0_step 110 = .ok (.istore 5, 2) := by decide +kernel
theorem dX0_step_112 : decode cX0_step 112 = .ok (.iload_n 1, 1) := by decide +kernel
theorem dX0_step_113 : decode cX0_step 113 = .ok (.iconst 5, 1) := by decide +kernel
theorem dX0_step_114 : decode cX0_step 114 = .ok (.if_icmp .ne 34, 3) := by decide +kernel
theorem dX0_step_117 : decode cX0_step 117 = .ok (.aload_n 0, 1) := by decide +kernel
theorem dX0_step_118 : decode cX0_step 118 = .ok (.getfield 27, 3) := by decide +kernel
theorem dX0_step_121 : decode cX0_step 121 = .ok (.aload_n 0, 1) := by decide +kernel
theorem dX0_step_122 : decode cX0_step 122 = .ok (.getfield 44, 3) := by decide +kernel
theorem dX0_step_125 : decode cX0_step 125 = .ok (.iconst 1, 1) := by decide +kernel
theorem dX0_step_126 : decode cX0_step 126 = .ok (.iadd, 1) := by decide +kernel
theorem dX0_step_127 : decode cX0_step 127 = .ok (.aload_n 0, 1) := by decide +kernel
theorem dX0_step_128 : decode cX0_step 128 = .ok (.getfield 34, 3) := by decide +kernel
theorem dX0_step_131 : decode cX0_step 131 = .ok (.iconst 1, 1) := by decide +kernel
theorem dX0_step_132 : decode cX0_step 132 = .ok (.iadd, 1) := by decide +kernel
theorem dX0_step_133 : decode cX0_step 133 = .ok (.i2b, 1) := by decide +kernel
theorem dX0_step_134 : decode cX0_step 134 = .ok (.bastore, 1) := by decide +kernel
theorem dX0_step_135 : decode cX0_step 135 = .ok (.aload_n 0, 1) := by decide +kernel
theorem dX0_step_136 : decode cX0_step 136 = .ok (.invokevirtual 66, 3) := by decide +kernel
theorem dX0_step_139 : decode cX0_step 139 = .ok (.aload_n 0, 1) := by decide +kernel
theorem dX0_step_140 : decode cX0_step 140 = .ok (.iload 5, 2) := by decide +kernel
theorem dX0_step_142 : decode cX0_step 142 = .ok (.putfield 34, 3) := by decide +kernel
theorem dX0_step_145 : decode cX0_step 145 = .ok (.goto 102, 3) := by decide +kernel
theorem dX0_step_148 : decode cX0_step 148 = .ok (.iload_n 1, 1) := by decide +kernel
theorem dX0_step_149 : decode cX0_step 149 = .ok (.bipush 6, 2) := by decide +kernel
theorem dX0_step_151 : decode cX0_step 151 = .ok (.if_icmp .ne 10, 3) := by decide +kernel
theorem dX0_step_154 : decode cX0_step 154 = .ok (.aload_n 0, 1) := by decide +kernel
theorem dX0_step_155 : decode cX0_step 155 = .ok (.invokevirtual 69, 3) := by decide +kernel
theorem dX0_step_158 : decode cX0_step 158 = .ok (.goto 89, 3) := by decide +kernel
theorem dX0_step_161 : decode cX0_step 161 = .ok (.iload_n 1, 1) := by decide +kernel
theorem dX0_step_162 : decode cX0_step 162 = .ok (.iconst 3, 1) := by decide +kernel
theorem dX0_step_163 : decode cX0_step 163 = .ok (.if_icmp .eq 9, 3) := by decide +kernel
theorem dX0_step_166 : decode cX0_step 166 = .ok (.iload_n 1, 1) := by decide +kernel
theorem dX0_step_167 : decode cX0_step 167 = .ok (.bipush 7, 2) := by decide +kernel
theorem dX0_step_169 : decode cX0_step 169 = .ok (.if_icmp .ne 34, 3) := by decide +kernel
theorem dX0_step_172 : decode cX0_step 172 = .ok (.aload_n 0, 1) := by decide +kernel
theorem dX0_step_173 : decode cX0_step 173 = .ok (.iload_n 1, 1) := by decide +kernel
theorem dX0_step_174 : decode cX0_step 174 = .ok (.iconst 3, 1) := by decide +kernel
theorem dX0_step_175 : decode cX0_step 175 = .ok (.if_icmp .eq 11, 3) := by decide +kernel
theorem dX0_step_178 : decode cX0_step 178 = .ok (.aload_n 0, 1) := by decide +kernel
theorem dX0_step_179 : decode cX0_step 179 = .ok (.iload_n 2, 1) := by decide +kernel
theorem dX0_step_180 : decode cX0_step 180 = .ok (.invokevirtual 72, 3) := by decide +kernel
theorem dX0_step_183 : decode cX0_step 183 = .ok (.ifCond .ne 8, 3) := by decide +kernel
theorem dX0_step_186 : decode cX0_step 186 = .ok (.iload 5, 2) := by decide +kernel
theorem dX0_step_188 : decode cX0_step 188 = .ok (.goto 9, 3) := by decide +kernel
theorem dX0_step_191 : decode cX0_step 191 = .ok (.aload_n 0, 1) := by decide +kernel
theorem dX0_step_192 : decode cX0_step 192 = .ok (.getfield 34, 3) := by decide +kernel
theorem dX0_step_195 : decode cX0_step 195 = .ok (.iconst 1, 1) := by decide +kernel
theorem dX0_step_196 : decode cX0_step 196 = .ok (.iadd, 1) := by decide +kernel
theorem dX0_step_197 : decode cX0_step 197 = .ok (.putfield 34, 3) := by decide +kernel
theorem dX0_step_200 : decode cX0_step 200 = .ok (.goto 47, 3) := by decide +kernel
theorem dX0_step_203 : decode cX0_step 203 = .ok (.aload_n 0, 1) := by decide +kernel
theorem dX0_step_204 : decode cX0_step 204 = .ok (.iload_n 3, 1) := by decide +kernel
theorem dX0_step_205 : decode cX0_step 205 = .ok (.invokevirtual 72, 3) := by decide +kernel
theorem dX0_step_208 : decode cX0_step 208 = .ok (.istore 6, 2) := by decide +kernel
theorem dX0_step_210 : decode cX0_step 210 = .ok (.aload_n 0, 1) := by decide +kernel
theorem dX0_step_211 : decode cX0_step 211 = .ok (.iload 4, 2) := by decide +kernel
theorem dX0_step_213 : decode cX0_step 213 = .ok (.invokevirtual 72, 3) := by decide +kernel
theorem dX0_step_216 : decode cX0_step 216 = .ok (.istore 7, 2) := by decide +kernel
theorem dX0_step_218 : decode cX0_step 218 = .ok (.iload_n 1, 1) := by decide +kernel
theorem dX0_step_219 : decode cX0_step 219 = .ok (.iload 6, 2) := by decide +kernel
theorem dX0_step_221 : decode cX0_step 221 = .ok (.iload 7, 2) := by decide +kernel
theorem dX0_step_223 : decode cX0_step 223 = .ok (.iload 5, 2) := by decide +kernel
theorem dX0_step_225 : decode cX0_step 225 = .ok (.invokestatic 75, 3) := by decide +kernel
theorem dX0_step_228 : decode cX0_step 228 = .ok (.istore 8, 2) := by decide +kernel
theorem dX0_step_230 : decode cX0_step 230 = .ok (.aload_n 0, 1) := by decide +kernel
theorem dX0_step_231 : decode cX0_step 231 = .ok (.iload_n 2, 1) := by decide +kernel
theorem dX0_step_232 : decode cX0_step 232 = .ok (.iload 8, 2) := by decide +kernel
theorem dX0_step_234 : decode cX0_step 234 = .ok (.invokevirtual 79, 3) := by decide +kernel
theorem dX0_step_237 : decode cX0_step 237 = .ok (.aload_n 0, 1) := by decide +kernel
theorem dX0_step_238 : decode cX0_step 238 = .ok (.dup, 1) := by decide +kernel
theorem dX0_step_239 : decode cX0_step 239 = .ok (.getfield 34, 3) := by decide +kernel
theorem dX0_step_242 : decode cX0_step 242 = .ok (.iconst 1, 1) := by decide +kernel
theorem dX0_step_243 : decode cX0_step 243 = .ok (.iadd, 1) := by decide +kernel
theorem dX0_step_244 : decode cX0_step 244 = .ok (.putfield 34, 3) := by decide +kernel
theorem dX0_step_247 : decode cX0_step 247 = .ok (.iconst 1, 1) := by decide +kernel
theorem dX0_step_248 : decode cX0_step 248 = .ok (.ireturn, 1) := by decide +kernel
theorem dX0_enter_0 : decode cX0_enter 0 = .ok (.aload_n 0, 1) := by decide +kernel
theorem dX0_enter_1 : decode cX0_enter 1 = .ok (.dup, 1) := by decide +kernel
theorem dX0_enter_2 : decode cX0_enter 2 = .ok (.getfield 44, 3) := by decide +kernel
theorem dX0_enter_5 : decode cX0_enter 5 = .ok (.iconst 1, 1) := by decide +kernel
theorem dX0_enter_6 : decode cX0_enter 6 = .ok (.iadd, 1) := by decide +kernel
theorem dX0_enter_7 : decode cX0_enter 7 = .ok (.putfield 44, 3) := by decide +kernel
theorem dX0_enter_10 : decode cX0_enter 10 = .ok (.aload_n 0, 1) := by decide +kernel
theorem dX0_enter_11 : decode cX0_enter 11 = .ok (.getfield 44, 3) := by decide +kernel
theorem dX0_enter_14 : decode cX0_enter 14 = .ok (.iconst 1, 1) := by decide +kernel
theorem dX0_enter_15 : decode cX0_enter 15 = .ok (.iadd, 1) := by decide +kernel
theorem dX0_enter_16 : decode cX0_enter 16 = .ok (.aload_n 0, 1) := by decide +kernel
theorem dX0_enter_17 : decode cX0_enter 17 = .ok (.getfield 47, 3) := by decide +kernel
theorem dX0_enter_20 : decode cX0_enter 20 = .ok (.iconst 4, 1) := by decide +kernel
theorem dX0_enter_21 : decode cX0_enter 21 = .ok (.iadd, 1) := by decide +kernel
theorem dX0_enter_22 : decode cX0_enter 22 = .ok (.if_icmp .lt 55, 3) := by decide +kernel
theorem dX0_enter_25 : decode cX0_enter 25 = .ok (.aload_n 0, 1) := by decide +kernel
theorem dX0_enter_26 : decode cX0_enter 26 = .ok (.getfield 47, 3) := by decide +kernel
theorem dX0_enter_29 : decode cX0_enter 29 = .ok (.invokestatic 54, 3) := by decide +kernel
theorem dX0_enter_32 : decode cX0_enter 32 = .ok (.istore_n 1, 1) := by decide +kernel
theorem dX0_enter_33 : decode cX0_enter 33 = .ok (.iconst 0, 1) := by decide +kernel
theorem dX0_enter_34 : decode cX0_enter 34 = .ok (.istore_n 2, 1) := by decide +kernel
theorem dX0_enter_35 : decode cX0_enter 35 = .ok (.iload_n 2, 1) := by decide +kernel
theorem dX0_enter_36 : decode cX0_enter 36 = .ok (.iconst 4, 1) := by decide +kernel
theorem dX0_enter_37 : decode cX0_enter 37 = .ok (.if_icmp .ge 30, 3) := by decide +kernel
theorem dX0_enter_40 : decode cX0_enter 40 = .ok (.aload_n 0, 1) := by decide +kernel
theorem dX0_enter_41 : decode cX0_enter 41 = .ok (.getfield 24, 3) := by decide +kernel
theorem dX0_enter_44 : decode cX0_enter 44 = .ok (.aload_n 0, 1) := by decide +kernel
theorem dX0_enter_45 : decode cX0_enter 45 = .ok (.getfield 47, 3) := by decide +kernel
theorem dX0_enter_48 : decode cX0_enter 48 = .ok (.iconst 4, 1) := by decide +kernel
theorem dX0_enter_49 : decode cX0_enter 49 = .ok (.imul, 1) := by decide +kernel
theorem dX0_enter_50 : decode cX0_enter 50 = .ok (.iload_n 2, 1) := by decide +kernel
theorem dX0_enter_51 : decode cX0_enter 51 = .ok (.iadd, 1) := by decide +kernel
theorem dX0_enter_52 : decode cX0_enter 52 = .ok (.aload_n 0, 1) := by decide +kernel
theorem dX0_enter_53 : decode cX0_enter 53 = .ok (.getfield 21, 3) := by decide +kernel
theorem dX0_enter_56 : decode cX0_enter 56 = .ok (.iload_n 1, 1) := by decide +kernel
theorem dX0_enter_57 : decode cX0_enter 57 = .ok (.iload_n 2, 1) := by decide +kernel
theorem dX0_enter_58 : decode cX0_enter 58 = .ok (.iadd, 1) := by decide +kernel
theorem dX0_enter_59 : decode cX0_enter 59 = .ok (.iaload, 1) := by decide +kernel
theorem dX0_enter_60 : decode cX0_enter 60 = .ok (.iastore, 1) := by decide +kernel
theorem dX0_enter_61 : decode cX0_enter 61 = .ok (.iinc 2 1, 3) := by decide +kernel
theorem dX0_enter_64 : decode cX0_enter 64 = .ok (.goto (-29), 3) := by decide +kernel
theorem dX0_enter_67 : decode cX0_enter 67 = .ok (.aload_n 0, 1) := by decide +kernel
theorem dX0_enter_68 : decode cX0_enter 68 = .ok (.dup, 1) := by decide +kernel
theorem dX0_enter_69 : decode cX0_enter 69 = .ok (.getfield 47, 3) := by decide +kernel
theorem dX0_enter_72 : decode cX0_enter 72 = .ok (.iconst 1, 1) := by decide +kernel
theorem dX0_enter_73 : decode cX0_enter 73 = .ok (.iadd, 1) := by decide +kernel
theorem dX0_enter_74 : decode cX0_enter 74 = .ok (.putfield 47, 3) := by decide +kernel
theorem dX0_enter_77 : decode cX0_enter 77 = .ok (.aload_n 0, 1) := by decide +kernel
theorem dX0_enter_78 : decode cX0_enter 78 = .ok (.aload_n 0, 1) := by decide +kernel
theorem dX0_enter_79 : decode cX0_enter 79 = .ok (.getfield 44, 3) := by decide +kernel
theorem dX0_enter_82 : decode cX0_enter 82 = .ok (.iconst 1, 1) := by decide +kernel
theorem dX0_enter_83 : decode cX0_enter 83 = .ok (.iadd, 1) := by decide +kernel
theorem dX0_enter_84 : decode cX0_enter 84 = .ok (.invokevirtual 50, 3) := by decide +kernel
theorem dX0_enter_87 : decode cX0_enter 87 = .ok (.return_, 1) := by decide +kernel
theorem dX0_goBack_0 : decode cX0_goBack 0 = .ok (.aload_n 0, 1) := by decide +kernel
theorem dX0_goBack_1 : decode cX0_goBack 1 = .ok (.getfield 44, 3) := by decide +kernel
theorem dX0_goBack_4 : decode cX0_goBack 4 = .ok (.ifCond .ne 9, 3) := by decide +kernel
theorem dX0_goBack_7 : decode cX0_goBack 7 = .ok (.aload_n 0, 1) := by decide +kernel
theorem dX0_goBack_8 : decode cX0_goBack 8 = .ok (.iconst 1, 1) := by decide +kernel
theorem dX0_goBack_9 : decode cX0_goBack 9 = .ok (.putfield 37, 3) := by decide +kernel
theorem dX0_goBack_12 : decode cX0_goBack 12 = .ok (.return_, 1) := by decide +kernel
theorem dX0_goBack_13 : decode cX0_goBack 13 = .ok (.aload_n 0, 1) := by decide +kernel
theorem dX0_goBack_14 : decode cX0_goBack 14 = .ok (.aload_n 0, 1) := by decide +kernel
theorem dX0_goBack_15 : decode cX0_goBack 15 = .ok (.getfield 27, 3) := by decide +kernel
theorem dX0_goBack_18 : decode cX0_goBack 18 = .ok (.aload_n 0, 1) := by decide +kernel
theorem dX0_goBack_19 : decode cX0_goBack 19 = .ok (.getfield 44, 3) := by decide +kernel
theorem dX0_goBack_22 : decode cX0_goBack 22 = .ok (.baload, 1) := by decide +kernel
theorem dX0_goBack_23 : decode cX0_goBack 23 = .ok (.putfield 34, 3) := by decide +kernel
theorem dX0_goBack_26 : decode cX0_goBack 26 = .ok (.aload_n 0, 1) := by decide +kernel
theorem dX0_goBack_27 : decode cX0_goBack 27 = .ok (.invokevirtual 83, 3) := by decide +kernel
theorem dX0_goBack_30 : decode cX0_goBack 30 = .ok (.return_, 1) := by decide +kernel
theorem dX0_leave_0 : decode cX0_leave 0 = .ok (.aload_n 0, 1) := by decide +kernel
theorem dX0_leave_1 : decode cX0_leave 1 = .ok (.dup, 1) := by decide +kernel
theorem dX0_leave_2 : decode cX0_leave 2 = .ok (.getfield 44, 3) := by decide +kernel
theorem dX0_leave_5 : decode cX0_leave 5 = .ok (.iconst 1, 1) := by decide +kernel
theorem dX0_leave_6 : decode cX0_leave 6 = .ok (.isub, 1) := by decide +kernel
theorem dX0_leave_7 : decode cX0_leave 7 = .ok (.putfield 44, 3) := by decide +kernel
theorem dX0_leave_10 : decode cX0_leave 10 = .ok (.aload_n 0, 1) := by decide +kernel
theorem dX0_leave_11 : decode cX0_leave 11 = .ok (.getfield 44, 3) := by decide +kernel
theorem dX0_leave_14 : decode cX0_leave 14 = .ok (.aload_n 0, 1) := by decide +kernel
theorem dX0_leave_15 : decode cX0_leave 15 = .ok (.getfield 47, 3) := by decide +kernel
theorem dX0_leave_18 : decode cX0_leave 18 = .ok (.if_icmp .ge 55, 3) := by decide +kernel
theorem dX0_leave_21 : decode cX0_leave 21 = .ok (.aload_n 0, 1) := by decide +kernel
theorem dX0_leave_22 : decode cX0_leave 22 = .ok (.dup, 1) := by decide +kernel
theorem dX0_leave_23 : decode cX0_leave 23 = .ok (.getfield 47, 3) := by decide +kernel
theorem dX0_leave_26 : decode cX0_leave 26 = .ok (.iconst 1, 1) := by decide +kernel
theorem dX0_leave_27 : decode cX0_leave 27 = .ok (.isub, 1) := by decide +kernel
theorem dX0_leave_28 : decode cX0_leave 28 = .ok (.putfield 47, 3) := by decide +kernel
theorem dX0_leave_31 : decode cX0_leave 31 = .ok (.aload_n 0, 1) := by decide +kernel
theorem dX0_leave_32 : decode cX0_leave 32 = .ok (.getfield 47, 3) := by decide +kernel
theorem dX0_leave_35 : decode cX0_leave 35 = .ok (.invokestatic 54, 3) := by decide +kernel
theorem dX0_leave_38 : decode cX0_leave 38 = .ok (.istore_n 1, 1) := by decide +kernel
theorem dX0_leave_39 : decode cX0_leave 39 = .ok (.iconst 0, 1) := by decide +kernel
theorem dX0_leave_40 : decode cX0_leave 40 = .ok (.istore_n 2, 1) := by decide +kernel
theorem dX0_leave_41 : decode cX0_leave 41 = .ok (.iload_n 2, 1) := by decide +kernel
theorem dX0_leave_42 : decode cX0_leave 42 = .ok (.iconst 4, 1) := by decide +kernel
theorem dX0_leave_43 : decode cX0_leave 43 = .ok (.if_icmp .ge 30, 3) := by decide +kernel
theorem dX0_leave_46 : decode cX0_leave 46 = .ok (.aload_n 0, 1) := by decide +kernel
theorem dX0_leave_47 : decode cX0_leave 47 = .ok (.getfield 21, 3) := by decide +kernel
theorem dX0_leave_50 : decode cX0_leave 50 = .ok (.iload_n 1, 1) := by decide +kernel
theorem dX0_leave_51 : decode cX0_leave 51 = .ok (.iload_n 2, 1) := by decide +kernel
theorem dX0_leave_52 : decode cX0_leave 52 = .ok (.iadd, 1) := by decide +kernel
theorem dX0_leave_53 : decode cX0_leave 53 = .ok (.aload_n 0, 1) := by decide +kernel
theorem dX0_leave_54 : decode cX0_leave 54 = .ok (.getfield 24, 3) := by decide +kernel
theorem dX0_leave_57 : decode cX0_leave 57 = .ok (.aload_n 0, 1) := by decide +kernel
theorem dX0_leave_58 : decode cX0_leave 58 = .ok (.getfield 47, 3) := by decide +kernel
theorem dX0_leave_61 : decode cX0_leave 61 = .ok (.iconst 4, 1) := by decide +kernel
theorem dX0_leave_62 : decode cX0_leave 62 = .ok (.imul, 1) := by decide +kernel
theorem dX0_leave_63 : decode cX0_leave 63 = .ok (.iload_n 2, 1) := by decide +kernel
theorem dX0_leave_64 : decode cX0_leave 64 = .ok (.iadd, 1) := by decide +kernel
theorem dX0_leave_65 : decode cX0_leave 65 = .ok (.iaload, 1) := by decide +kernel
theorem dX0_leave_66 : decode cX0_leave 66 = .ok (.iastore, 1) := by decide +kernel
theorem dX0_leave_67 : decode cX0_leave 67 = .ok (.iinc 2 1, 3) := by decide +kernel
theorem dX0_leave_70 : decode cX0_leave 70 = .ok (.goto (-29), 3) := by decide +kernel
theorem dX0_leave_73 : decode cX0_leave 73 = .ok (.return_, 1) := by decide +kernel
theorem dX0_get_0 : decode cX0_get 0 = .ok (.aload_n 0, 1) := by decide +kernel
theorem dX0_get_1 : decode cX0_get 1 = .ok (.getfield 21, 3) := by decide +kernel
theorem dX0_get_4 : decode cX0_get 4 = .ok (.aload_n 0, 1) := by decide +kernel
theorem dX0_get_5 : decode cX0_get 5 = .ok (.getfield 44, 3) := by decide +kernel
theorem dX0_get_8 : decode cX0_get 8 = .ok (.iload_n 1, 1) := by decide +kernel
theorem dX0_get_9 : decode cX0_get 9 = .ok (.invokestatic 58, 3) := by decide +kernel
theorem dX0_get_12 : decode cX0_get 12 = .ok (.iaload, 1) := by decide +kernel
theorem dX0_get_13 : decode cX0_get 13 = .ok (.ireturn, 1) := by decide +kernel
theorem dX0_cellOf_0 : decode cX0_cellOf 0 = .ok (.iload_n 0, 1) := by decide +kernel
theorem dX0_cellOf_1 : decode cX0_cellOf 1 = .ok (.iload_n 1, 1) := by decide +kernel
theorem dX0_cellOf_2 : decode cX0_cellOf 2 = .ok (.iconst 2, 1) := by decide +kernel
theorem dX0_cellOf_3 : decode cX0_cellOf 3 = .ok (.ishr, 1) := by decide +kernel
theorem dX0_cellOf_4 : decode cX0_cellOf 4 = .ok (.iadd, 1) := by decide +kernel
theorem dX0_cellOf_5 : decode cX0_cellOf 5 = .ok (.istore_n 2, 1) := by decide +kernel
theorem dX0_cellOf_6 : decode cX0_cellOf 6 = .ok (.iload_n 2, 1) := by decide +kernel
theorem dX0_cellOf_7 : decode cX0_cellOf 7 = .ok (.invokestatic 54, 3) := by decide +kernel
theorem dX0_cellOf_10 : decode cX0_cellOf 10 = .ok (.iload_n 1, 1) := by decide +kernel
theorem dX0_cellOf_11 : decode cX0_cellOf 11 = .ok (.iconst 3, 1) := by decide +kernel
theorem dX0_cellOf_12 : decode cX0_cellOf 12 = .ok (.iand, 1) := by decide +kernel
theorem dX0_cellOf_13 : decode cX0_cellOf 13 = .ok (.iadd, 1) := by decide +kernel
theorem dX0_cellOf_14 : decode cX0_cellOf 14 = .ok (.ireturn, 1) := by decide +kernel
theorem dX0_value_0 : decode cX0_value 0 = .ok (.iload_n 0, 1) := by decide +kernel
theorem dX0_value_1 : decode cX0_value 1 = .ok (.ifCond .ne 5, 3) := by decide +kernel
theorem dX0_value_4 : decode cX0_value 4 = .ok (.iload_n 3, 1) := by decide +kernel
theorem dX0_value_5 : decode cX0_value 5 = .ok (.ireturn, 1) := by decide +kernel
theorem dX0_value_6 : decode cX0_value 6 = .ok (.iload_n 0, 1) := by decide +kernel
theorem dX0_value_7 : decode cX0_value 7 = .ok (.iconst 1, 1) := by decide +kernel
theorem dX0_value_8 : decode cX0_value 8 = .ok (.if_icmp .ne 7, 3) := by decide +kernel
theorem dX0_value_11 : decode cX0_value 11 = .ok (.iload_n 1, 1) := by decide +kernel
theorem dX0_value_12 : decode cX0_value 12 = .ok (.iload_n 2, 1) := by decide +kernel
theorem dX0_value_13 : decode cX0_value 13 = .ok (.iadd, 1) := by decide +kernel
theorem dX0_value_14 : decode cX0_value 14 = .ok (.ireturn, 1) := by decide +kernel
theorem dX0_value_15 : decode cX0_value 15 = .ok (.iload_n 0, 1) := by decide +kernel
theorem dX0_value_16 : decode cX0_value 16 = .ok (.iconst 2, 1) := by decide +kernel
theorem dX0_value_17 : decode cX0_value 17 = .ok (.if_icmp .ne 9, 3) := by decide +kernel
theorem dX0_value_20 : decode cX0_value 20 = .ok (.iload_n 1, 1) := by decide +kernel
theorem dX0_value_21 : decode cX0_value 21 = .ok (.iload_n 2, 1) := by decide +kernel
theorem dX0_value_22 : decode cX0_value 22 = .ok (.isub, 1) := by decide +kernel
theorem dX0_value_23 : decode cX0_value 23 = .ok (.goto 4, 3) := by decide +kernel
theorem dX0_value_26 : decode cX0_value 26 = .ok (.iload_n 1, 1) := by decide +kernel
theorem dX0_value_27 : decode cX0_value 27 = .ok (.ireturn, 1) := by decide +kernel
theorem dX0_set_0 : decode cX0_set 0 = .ok (.aload_n 0, 1) := by decide +kernel
theorem dX0_set_1 : decode cX0_set 1 = .ok (.getfield 44, 3) := by decide +kernel
theorem dX0_set_4 : decode cX0_set 4 = .ok (.iload_n 1, 1) := by decide +kernel
theorem dX0_set_5 : decode cX0_set 5 = .ok (.invokestatic 58, 3) := by decide +kernel
theorem dX0_set_8 : decode cX0_set 8 = .ok (.istore_n 3, 1) := by decide +kernel
theorem dX0_set_9 : decode cX0_set 9 = .ok (.aload_n 0, 1) := by decide +kernel
theorem dX0_set_10 : decode cX0_set 10 = .ok (.getfield 21, 3) := by decide +kernel
theorem dX0_set_13 : decode cX0_set 13 = .ok (.iload_n 3, 1) := by decide +kernel
theorem dX0_set_14 : decode cX0_set 14 = .ok (.iload_n 2, 1) := by decide +kernel
theorem dX0_set_15 : decode cX0_set 15 = .ok (.iastore, 1) := by decide +kernel
theorem dX0_set_16 : decode cX0_set 16 = .ok (.return_, 1) := by decide +kernel
theorem dX0_halted_0 : decode cX0_halted 0 = .ok (.aload_n 0, 1) := by decide +kernel
theorem dX0_halted_1 : decode cX0_halted 1 = .ok (.getfield 37, 3) := by decide +kernel
theorem dX0_halted_4 : decode cX0_halted 4 = .ok (.ireturn, 1) := by decide +kernel
theorem dX0_position_0 : decode cX0_position 0 = .ok (.aload_n 0, 1) := by decide +kernel
theorem dX0_position_1 : decode cX0_position 1 = .ok (.getfield 34, 3) := by decide +kernel
theorem dX0_position_4 : decode cX0_position 4 = .ok (.ireturn, 1) := by decide +kernel
theorem dX0_depth_0 : decode cX0_depth 0 = .ok (.aload_n 0, 1) := by decide +kernel
theorem dX0_depth_1 : decode cX0_depth 1 = .ok (.getfield 44, 3) := by decide +kernel
theorem dX0_depth_4 : decode cX0_depth 4 = .ok (.iconst 1, 1) := by decide +kernel
theorem dX0_depth_5 : decode cX0_depth 5 = .ok (.iadd, 1) := by decide +kernel
theorem dX0_depth_6 : decode cX0_depth 6 = .ok (.ireturn, 1) := by decide +kernel
theorem dX0_register_0 : decode cX0_register 0 = .ok (.iload_n 1, 1) := by decide +kernel
theorem dX0_register_1 : decode cX0_register 1 = .ok (.invokestatic 86, 3) := by decide +kernel
theorem dX0_register_4 : decode cX0_register 4 = .ok (.ifCond .eq 11, 3) := by decide +kernel
theorem dX0_register_7 : decode cX0_register 7 = .ok (.aload_n 0, 1) := by decide +kernel
theorem dX0_register_8 : decode cX0_register 8 = .ok (.iload_n 1, 1) := by decide +kernel
theorem dX0_register_9 : decode cX0_register 9 = .ok (.invokevirtual 72, 3) := by decide +kernel
theorem dX0_register_12 : decode cX0_register 12 = .ok (.goto 4, 3) := by decide +kernel
theorem dX0_register_15 : decode cX0_register 15 = .ok (.iconst 0, 1) := by decide +kernel
theorem dX0_register_16 : decode cX0_register 16 = .ok (.ireturn, 1) := by decide +kernel
theorem dX0_isRegister_0 : decode cX0_isRegister 0 = .ok (.iload_n 0, 1) := by decide +kernel
theorem dX0_isRegister_1 : decode cX0_isRegister 1 = .ok (.ifCond .lt 13, 3) := by decide +kernel
theorem dX0_isRegister_4 : decode cX0_isRegister 4 = .ok (.iload_n 0, 1) := by decide +kernel
theorem dX0_isRegister_5 : decode cX0_isRegister 5 = .ok (.bipush 8, 2) := by decide +kernel
theorem dX0_isRegister_7 : decode cX0_isRegister 7 = .ok (.if_icmp .ge 7, 3) := by decide +kernel
theorem dX0_isRegister_10 : decode cX0_isRegister 10 = .ok (.iconst 1, 1) := by decide +kernel
theorem dX0_isRegister_11 : decode cX0_isRegister 11 = .ok (.goto 4, 3) := by decide +kernel
theorem dX0_isRegister_14 : decode cX0_isRegister 14 = .ok (.iconst 0, 1) := by decide +kernel
theorem dX0_isRegister_15 : decode cX0_isRegister 15 = .ok (.ireturn, 1) := by decide +kernel
theorem dX0_below_0 : decode cX0_below 0 = .ok (.iload_n 2, 1) := by decide +kernel
theorem dX0_below_1 : decode cX0_below 1 = .ok (.invokestatic 86, 3) := by decide +kernel
theorem dX0_below_4 : decode cX0_below 4 = .ok (.ifCond .eq 29, 3) := by decide +kernel
theorem dX0_below_7 : decode cX0_below 7 = .ok (.iload_n 1, 1) := by decide +kernel
theorem dX0_below_8 : decode cX0_below 8 = .ok (.ifCond .lt 25, 3) := by decide +kernel
theorem dX0_below_11 : decode cX0_below 11 = .ok (.iload_n 1, 1) := by decide +kernel
theorem dX0_below_12 : decode cX0_below 12 = .ok (.aload_n 0, 1) := by decide +kernel
theorem dX0_below_13 : decode cX0_below 13 = .ok (.getfield 44, 3) := by decide +kernel
theorem dX0_below_16 : decode cX0_below 16 = .ok (.if_icmp .gt 17, 3) := by decide +kernel
theorem dX0_below_19 : decode cX0_below 19 = .ok (.aload_n 0, 1) := by decide +kernel
theorem dX0_below_20 : decode cX0_below 20 = .ok (.aload_n 0, 1) := by decide +kernel
theorem dX0_below_21 : decode cX0_below 21 = .ok (.getfield 44, 3) := by decide +kernel
theorem dX0_below_24 : decode cX0_below 24 = .ok (.iload_n 1, 1) := by decide +kernel
theorem dX0_below_25 : decode cX0_below 25 = .ok (.isub, 1) := by decide +kernel
theorem dX0_below_26 : decode cX0_below 26 = .ok (.iload_n 2, 1) := by decide +kernel
theorem dX0_below_27 : decode cX0_below 27 = .ok (.invokevirtual 90, 3) := by decide +kernel
theorem dX0_below_30 : decode cX0_below 30 = .ok (.goto 4, 3) := by decide +kernel
theorem dX0_below_33 : decode cX0_below 33 = .ok (.iconst 0, 1) := by decide +kernel
theorem dX0_below_34 : decode cX0_below 34 = .ok (.ireturn, 1) := by decide +kernel
theorem dX0_registerOf_0 : decode cX0_registerOf 0 = .ok (.iload_n 1, 1) := by decide +kernel
theorem dX0_registerOf_1 : decode cX0_registerOf 1 = .ok (.iload_n 2, 1) := by decide +kernel
theorem dX0_registerOf_2 : decode cX0_registerOf 2 = .ok (.iconst 2, 1) := by decide +kernel
theorem dX0_registerOf_3 : decode cX0_registerOf 3 = .ok (.ishr, 1) := by decide +kernel
theorem dX0_registerOf_4 : decode cX0_registerOf 4 = .ok (.iadd, 1) := by decide +kernel
theorem dX0_registerOf_5 : decode cX0_registerOf 5 = .ok (.istore_n 3, 1) := by decide +kernel
theorem dX0_registerOf_6 : decode cX0_registerOf 6 = .ok (.iload_n 3, 1) := by decide +kernel
theorem dX0_registerOf_7 : decode cX0_registerOf 7 = .ok (.aload_n 0, 1) := by decide +kernel
theorem dX0_registerOf_8 : decode cX0_registerOf 8 = .ok (.getfield 47, 3) := by decide +kernel
theorem dX0_registerOf_11 : decode cX0_registerOf 11 = .ok (.if_icmp .lt 16, 3) := by decide +kernel
theorem dX0_registerOf_14 : decode cX0_registerOf 14 = .ok (.aload_n 0, 1) := by decide +kernel
theorem dX0_registerOf_15 : decode cX0_registerOf 15 = .ok (.getfield 21, 3) := by decide +kernel
theorem dX0_registerOf_18 : decode cX0_registerOf 18 = .ok (.iload_n 1, 1) := by decide +kernel
theorem dX0_registerOf_19 : decode cX0_registerOf 19 = .ok (.iload_n 2, 1) := by decide +kernel
theorem dX0_registerOf_20 : decode cX0_registerOf 20 = .ok (.invokestatic 58, 3) := by decide +kernel
theorem dX0_registerOf_23 : decode cX0_registerOf 23 = .ok (.iaload, 1) := by decide +kernel
theorem dX0_registerOf_24 : decode cX0_registerOf 24 = .ok (.goto 15, 3) := by decide +kernel
theorem dX0_registerOf_27 : decode cX0_registerOf 27 = .ok (.aload_n 0, 1) := by decide +kernel
theorem dX0_registerOf_28 : decode cX0_registerOf 28 = .ok (.getfield 24, 3) := by decide +kernel
theorem dX0_registerOf_31 : decode cX0_registerOf 31 = .ok (.iload_n 3, 1) := by decide +kernel
theorem dX0_registerOf_32 : decode cX0_registerOf 32 = .ok (.iconst 4, 1) := by decide +kernel
theorem dX0_registerOf_33 : decode cX0_registerOf 33 = .ok (.imul, 1) := by decide +kernel
theorem dX0_registerOf_34 : decode cX0_registerOf 34 = .ok (.iload_n 2, 1) := by decide +kernel
theorem dX0_registerOf_35 : decode cX0_registerOf 35 = .ok (.iconst 3, 1) := by decide +kernel
theorem dX0_registerOf_36 : decode cX0_registerOf 36 = .ok (.iand, 1) := by decide +kernel
theorem dX0_registerOf_37 : decode cX0_registerOf 37 = .ok (.iadd, 1) := by decide +kernel
theorem dX0_registerOf_38 : decode cX0_registerOf 38 = .ok (.iaload, 1) := by decide +kernel
theorem dX0_registerOf_39 : decode cX0_registerOf 39 = .ok (.ireturn, 1) := by decide +kernel
theorem dX0_put_0 : decode cX0_put 0 = .ok (.iload_n 1, 1) := by decide +kernel
theorem dX0_put_1 : decode cX0_put 1 = .ok (.invokestatic 86, 3) := by decide +kernel
theorem dX0_put_4 : decode cX0_put 4 = .ok (.ifCond .ne 5, 3) := by decide +kernel
theorem dX0_put_7 : decode cX0_put 7 = .ok (.iconst 0, 1) := by decide +kernel
theorem dX0_put_8 : decode cX0_put 8 = .ok (.ireturn, 1) := by decide +kernel
theorem dX0_put_9 : decode cX0_put 9 = .ok (.aload_n 0, 1) := by decide +kernel
theorem dX0_put_10 : decode cX0_put 10 = .ok (.iload_n 1, 1) := by decide +kernel
theorem dX0_put_11 : decode cX0_put 11 = .ok (.iload_n 2, 1) := by decide +kernel
theorem dX0_put_12 : decode cX0_put 12 = .ok (.invokevirtual 79, 3) := by decide +kernel
theorem dX0_put_15 : decode cX0_put 15 = .ok (.iconst 1, 1) := by decide +kernel
theorem dX0_put_16 : decode cX0_put 16 = .ok (.ireturn, 1) := by decide +kernel
theorem dX0_backTo_0 : decode cX0_backTo 0 = .ok (.iload_n 1, 1) := by decide +kernel
theorem dX0_backTo_1 : decode cX0_backTo 1 = .ok (.ifCond .lt 25, 3) := by decide +kernel
theorem dX0_backTo_4 : decode cX0_backTo 4 = .ok (.iload_n 1, 1) := by decide +kernel
theorem dX0_backTo_5 : decode cX0_backTo 5 = .ok (.aload_n 0, 1) := by decide +kernel
theorem dX0_backTo_6 : decode cX0_backTo 6 = .ok (.getfield 44, 3) := by decide +kernel
theorem dX0_backTo_9 : decode cX0_backTo 9 = .ok (.if_icmp .ge 17, 3) := by decide +kernel
theorem dX0_backTo_12 : decode cX0_backTo 12 = .ok (.aload_n 0, 1) := by decide +kernel
theorem dX0_backTo_13 : decode cX0_backTo 13 = .ok (.getfield 27, 3) := by decide +kernel
theorem dX0_backTo_16 : decode cX0_backTo 16 = .ok (.aload_n 0, 1) := by decide +kernel
theorem dX0_backTo_17 : decode cX0_backTo 17 = .ok (.getfield 44, 3) := by decide +kernel
theorem dX0_backTo_20 : decode cX0_backTo 20 = .ok (.iload_n 1, 1) := by decide +kernel
theorem dX0_backTo_21 : decode cX0_backTo 21 = .ok (.isub, 1) := by decide +kernel
theorem dX0_backTo_22 : decode cX0_backTo 22 = .ok (.baload, 1) := by decide +kernel
theorem dX0_backTo_23 : decode cX0_backTo 23 = .ok (.goto 4, 3) := by decide +kernel
theorem dX0_backTo_26 : decode cX0_backTo 26 = .ok (.iconst (-1), 1) := by decide +kernel
theorem dX0_backTo_27 : decode cX0_backTo 27 = .ok (.ireturn, 1) := by decide +kernel
theorem dX0_digest_0 : decode cX0_digest 0 = .ok (.iconst 0, 1) := by decide +kernel
theorem dX0_digest_1 : decode cX0_digest 1 = .ok (.istore_n 1, 1) := by decide +kernel
theorem dX0_digest_2 : decode cX0_digest 2 = .ok (.iconst 0, 1) := by decide +kernel
theorem dX0_digest_3 : decode cX0_digest 3 = .ok (.istore_n 2, 1) := by decide +kernel
theorem dX0_digest_4 : decode cX0_digest 4 = .ok (.iload_n 2, 1) := by decide +kernel
theorem dX0_digest_5 : decode cX0_digest 5 = .ok (.aload_n 0, 1) := by decide +kernel
theorem dX0_digest_6 : decode cX0_digest 6 = .ok (.getfield 44, 3) := by decide +kernel
theorem dX0_digest_9 : decode cX0_digest 9 = .ok (.if_icmp .gt 45, 3) := by decide +kernel
theorem dX0_digest_12 : decode cX0_digest 12 = .ok (.iconst 0, 1) := by decide +kernel
theorem dX0_digest_13 : decode cX0_digest 13 = .ok (.istore_n 3, 1) := by decide +kernel
theorem dX0_digest_14 : decode cX0_digest 14 = .ok (.iload_n 3, 1) := by decide +kernel
theorem dX0_digest_15 : decode cX0_digest 15 = .ok (.bipush 8, 2) := by decide +kernel
theorem dX0_digest_17 : decode cX0_digest 17 = .ok (.if_icmp .ge 31, 3) := by decide +kernel
theorem dX0_digest_20 : decode cX0_digest 20 = .ok (.aload_n 0, 1) := by decide +kernel
theorem dX0_digest_21 : decode cX0_digest 21 = .ok (.iload_n 2, 1) := by decide +kernel
theorem dX0_digest_22 : decode cX0_digest 22 = .ok (.iload_n 3, 1) := by decide +kernel
theorem dX0_digest_23 : decode cX0_digest 23 = .ok (.invokevirtual 90, 3) := by decide +kernel
theorem dX0_digest_26 : decode cX0_digest 26 = .ok (.istore 4, 2) := by decide +kernel
theorem dX0_digest_28 : decode cX0_digest 28 = .ok (.iload_n 1, 1) := by decide +kernel
theorem dX0_digest_29 : decode cX0_digest 29 = .ok (.bipush 8, 2) := by decide +kernel
theorem dX0_digest_31 : decode cX0_digest 31 = .ok (.iload_n 2, 1) := by decide +kernel
theorem dX0_digest_32 : decode cX0_digest 32 = .ok (.imul, 1) := by decide +kernel
theorem dX0_digest_33 : decode cX0_digest 33 = .ok (.iload_n 3, 1) := by decide +kernel
theorem dX0_digest_34 : decode cX0_digest 34 = .ok (.iadd, 1) := by decide +kernel
theorem dX0_digest_35 : decode cX0_digest 35 = .ok (.iconst 1, 1) := by decide +kernel
theorem dX0_digest_36 : decode cX0_digest 36 = .ok (.iadd, 1) := by decide +kernel
theorem dX0_digest_37 : decode cX0_digest 37 = .ok (.iload 4, 2) := by decide +kernel
theorem dX0_digest_39 : decode cX0_digest 39 = .ok (.imul, 1) := by decide +kernel
theorem dX0_digest_40 : decode cX0_digest 40 = .ok (.iadd, 1) := by decide +kernel
theorem dX0_digest_41 : decode cX0_digest 41 = .ok (.istore_n 1, 1) := by decide +kernel
theorem dX0_digest_42 : decode cX0_digest 42 = .ok (.iinc 3 1, 3) := by decide +kernel
theorem dX0_digest_45 : decode cX0_digest 45 = .ok (.goto (-31), 3) := by decide +kernel
theorem dX0_digest_48 : decode cX0_digest 48 = .ok (.iinc 2 1, 3) := by decide +kernel
theorem dX0_digest_51 : decode cX0_digest 51 = .ok (.goto (-47), 3) := by decide +kernel
theorem dX0_digest_54 : decode cX0_digest 54 = .ok (.iload_n 1, 1) := by decide +kernel
theorem dX0_digest_55 : decode cX0_digest 55 = .ok (.ireturn, 1) := by decide +kernel
theorem dX0_done_0 : decode cX0_done 0 = .ok (.aload_n 0, 1) := by decide +kernel
theorem dX0_done_1 : decode cX0_done 1 = .ok (.getfield 41, 3) := by decide +kernel
theorem dX0_done_4 : decode cX0_done 4 = .ok (.ireturn, 1) := by decide +kernel
end
section
set_option maxRecDepth 100000
theorem dX1_init_0 : decode cX1_init 0 = .ok (.aload_n 0, 1) := by decide +kernel
theorem dX1_init_1 : decode cX1_init 1 = .ok (.invokespecial 1, 3) := by decide +kernel
theorem dX1_init_4 : decode cX1_init 4 = .ok (.aload_n 0, 1) := by decide +kernel
theorem dX1_init_5 : decode cX1_init 5 = .ok (.bipush 24, 2) := by decide +kernel
theorem dX1_init_7 : decode cX1_init 7 = .ok (.newarray .int, 2) := by decide +kernel
theorem dX1_init_9 : decode cX1_init 9 = .ok (.putfield 7, 3) := by decide +kernel
theorem dX1_init_12 : decode cX1_init 12 = .ok (.aload_n 0, 1) := by decide +kernel
theorem dX1_init_13 : decode cX1_init 13 = .ok (.bipush 24, 2) := by decide +kernel
theorem dX1_init_15 : decode cX1_init 15 = .ok (.newarray .int, 2) := by decide +kernel
theorem dX1_init_17 : decode cX1_init 17 = .ok (.putfield 13, 3) := by decide +kernel
theorem dX1_init_20 : decode cX1_init 20 = .ok (.aload_n 0, 1) := by decide +kernel
theorem dX1_init_21 : decode cX1_init 21 = .ok (.bipush 24, 2) := by decide +kernel
theorem dX1_init_23 : decode cX1_init 23 = .ok (.newarray .int, 2) := by decide +kernel
theorem dX1_init_25 : decode cX1_init 25 = .ok (.putfield 16, 3) := by decide +kernel
theorem dX1_init_28 : decode cX1_init 28 = .ok (.aload_n 0, 1) := by decide +kernel
theorem dX1_init_29 : decode cX1_init 29 = .ok (.bipush 24, 2) := by decide +kernel
theorem dX1_init_31 : decode cX1_init 31 = .ok (.newarray .int, 2) := by decide +kernel
theorem dX1_init_33 : decode cX1_init 33 = .ok (.putfield 19, 3) := by decide +kernel
theorem dX1_init_36 : decode cX1_init 36 = .ok (.aload_n 0, 1) := by decide +kernel
theorem dX1_init_37 : decode cX1_init 37 = .ok (.bipush 24, 2) := by decide +kernel
theorem dX1_init_39 : decode cX1_init 39 = .ok (.newarray .int, 2) := by decide +kernel
theorem dX1_init_41 : decode cX1_init 41 = .ok (.putfield 22, 3) := by decide +kernel
theorem dX1_init_44 : decode cX1_init 44 = .ok (.aload_n 0, 1) := by decide +kernel
theorem dX1_init_45 : decode cX1_init 45 = .ok (.bipush 124, 2) := by decide +kernel
theorem dX1_init_47 : decode cX1_init 47 = .ok (.newarray .int, 2) := by decide +kernel
theorem dX1_init_49 : decode cX1_init 49 = .ok (.putfield 25, 3) := by decide +kernel
theorem dX1_init_52 : decode cX1_init 52 = .ok (.aload_n 0, 1) := by decide +kernel
theorem dX1_init_53 : decode cX1_init 53 = .ok (.bipush 30, 2) := by decide +kernel
theorem dX1_init_55 : decode cX1_init 55 = .ok (.newarray .int, 2) := by decide +kernel
theorem dX1_init_57 : decode cX1_init 57 = .ok (.putfield 28, 3) := by decide +kernel
theorem dX1_init_60 : decode cX1_init 60 = .ok (.return_, 1) := by decide +kernel
theorem dX1_emit_0 : decode cX1_emit 0 = .ok (.iload_n 1, 1) := by decide +kernel
theorem dX1_emit_1 : decode cX1_emit 1 = .ok (.ifCond .lt 20, 3) := by decide +kernel
theorem dX1_emit_4 : decode cX1_emit 4 = .ok (.iload_n 1, 1) := by decide +kernel
theorem dX1_emit_5 : decode cX1_emit 5 = .ok (.bipush 7, 2) := by decide +kernel
theorem dX1_emit_7 : decode cX1_emit 7 = .ok (.if_icmp .gt 14, 3) := by decide +kernel
theorem dX1_emit_10 : decode cX1_emit 10 = .ok (.iload_n 2, 1) := by decide +kernel
theorem dX1_emit_11 : decode cX1_emit 11 = .ok (.ifCond .lt 10, 3) := by decide +kernel
theorem dX1_emit_14 : decode cX1_emit 14 = .ok (.iload_n 2, 1) := by decide +kernel
theorem dX1_emit_15 : decode cX1_emit 15 = .ok (.sipush 511, 3) := by decide +kernel
theorem dX1_emit_18 : decode cX1_emit 18 = .ok (.if_icmp .le 5, 3) := by decide +kernel
theorem dX1_emit_21 : decode cX1_emit 21 = .ok (.iconst (-1), 1) := by decide +kernel
theorem dX1_emit_22 : decode cX1_emit 22 = .ok (.ireturn, 1) := by decide +kernel
theorem dX1_emit_23 : decode cX1_emit 23 = .ok (.aload_n 0, 1) := by decide +kernel
theorem dX1_emit_24 : decode cX1_emit 24 = .ok (.getfield 31, 3) := by decide +kernel
theorem dX1_emit_27 : decode cX1_emit 27 = .ok (.bipush 24, 2) := by decide +kernel
theorem dX1_emit_29 : decode cX1_emit 29 = .ok (.if_icmp .lt 6, 3) := by decide +kernel
theorem dX1_emit_32 : decode cX1_emit 32 = .ok (.bipush (-2), 2) := by decide +kernel
theorem dX1_emit_34 : decode cX1_emit 34 = .ok (.ireturn, 1) := by decide +kernel
theorem dX1_emit_35 : decode cX1_emit 35 = .ok (.aload_n 0, 1) := by decide +kernel
theorem dX1_emit_36 : decode cX1_emit 36 = .ok (.getfield 7, 3) := by decide +kernel
theorem dX1_emit_39 : decode cX1_emit 39 = .ok (.aload_n 0, 1) := by decide +kernel
theorem dX1_emit_40 : decode cX1_emit 40 = .ok (.getfield 31, 3) := by decide +kernel
theorem dX1_emit_43 : decode cX1_emit 43 = .ok (.iload_n 1, 1) := by decide +kernel
theorem dX1_emit_44 : decode cX1_emit 44 = .ok (.iastore, 1) := by decide +kernel
theorem dX1_emit_45 : decode cX1_emit 45 = .ok (.aload_n 0, 1) := by decide +kernel
theorem dX1_emit_46 : decode cX1_emit 46 = .ok (.getfield 13, 3) := by decide +kernel
theorem dX1_emit_49 : decode cX1_emit 49 = .ok (.aload_n 0, 1) := by decide +kernel
theorem dX1_emit_50 : decode cX1_emit 50 = .ok (.getfield 31, 3) := by decide +kernel
theorem dX1_emit_53 : decode cX1_emit 53 = .ok (.iload_n 2, 1) := by decide +kernel
theorem dX1_emit_54 : decode cX1_emit 54 = .ok (.bipush 7, 2) := by decide +kernel
theorem dX1_emit_56 : decode cX1_emit 56 = .ok (.iand, 1) := by decide +kernel
theorem dX1_emit_57 : decode cX1_emit 57 = .ok (.iastore, 1) := by decide +kernel
theorem dX1_emit_58 : decode cX1_emit 58 = .ok (.aload_n 0, 1) := by decide +kernel
theorem dX1_emit_59 : decode cX1_emit 59 = .ok (.getfield 16, 3) := by decide +kernel
theorem dX1_emit_62 : decode cX1_emit 62 = .ok (.aload_n 0, 1) := by decide +kernel
theorem dX1_emit_63 : decode cX1_emit 63 = .ok (.getfield 31, 3) := by decide +kernel
theorem dX1_emit_66 : decode cX1_emit 66 = .ok (.iload_n 2, 1) := by decide +kernel
theorem dX1_emit_67 : decode cX1_emit 67 = .ok (.iconst 3, 1) := by decide +kernel
theorem dX1_emit_68 : decode cX1_emit 68 = .ok (.ishr, 1) := by decide +kernel
theorem dX1_emit_69 : decode cX1_emit 69 = .ok (.bipush 7, 2) := by decide +kernel
theorem dX1_emit_71 : decode cX1_emit 71 = .ok (.iand, 1) := by decide +kernel
theorem dX1_emit_72 : decode cX1_emit 72 = .ok (.iastore, 1) := by decide +kernel
theorem dX1_emit_73 : decode cX1_emit 73 = .ok (.aload_n 0, 1) := by decide +kernel
theorem dX1_emit_74 : decode cX1_emit 74 = .ok (.getfield 19, 3) := by decide +kernel
theorem dX1_emit_77 : decode cX1_emit 77 = .ok (.aload_n 0, 1) := by decide +kernel
theorem dX1_emit_78 : decode cX1_emit 78 = .ok (.getfield 31, 3) := by decide +kernel
theorem dX1_emit_81 : decode cX1_emit 81 = .ok (.iload_n 2, 1) := by decide +kernel
theorem dX1_emit_82 : decode cX1_emit 82 = .ok (.bipush 6, 2) := by decide +kernel
theorem dX1_emit_84 : decode cX1_emit 84 = .ok (.ishr, 1) := by decide +kernel
theorem dX1_emit_85 : decode cX1_emit 85 = .ok (.iastore, 1) := by decide +kernel
theorem dX1_emit_86 : decode cX1_emit 86 = .ok (.aload_n 0, 1) := by decide +kernel
theorem dX1_emit_87 : decode cX1_emit 87 = .ok (.getfield 22, 3) := by decide +kernel
theorem dX1_emit_90 : decode cX1_emit 90 = .ok (.aload_n 0, 1) := by decide +kernel
theorem dX1_emit_91 : decode cX1_emit 91 = .ok (.getfield 31, 3) := by decide +kernel
theorem dX1_emit_94 : decode cX1_emit 94 = .ok (.iload_n 3, 1) := by decide +kernel
theorem dX1_emit_95 : decode cX1_emit 95 = .ok (.iastore, 1) := by decide +kernel
theorem dX1_emit_96 : decode cX1_emit 96 = .ok (.aload_n 0, 1) := by decide +kernel
theorem dX1_emit_97 : decode cX1_emit 97 = .ok (.dup, 1) := by decide +kernel
theorem dX1_emit_98 : decode cX1_emit 98 = .ok (.getfield 31, 3) := by decide +kernel
theorem dX1_emit_101 : decode cX1_emit 101 = .ok (.iconst 1, 1) := by decide +kernel
theorem dX1_emit_102 : decode cX1_emit 102 = .ok (.iadd, 1) := by decide +kernel
theorem dX1_emit_103 : decode cX1_emit 103 = .ok (.putfield 31, 3) := by decide +kernel
theorem dX1_emit_106 : decode cX1_emit 106 = .ok (.aload_n 0, 1) := by decide +kernel
theorem dX1_emit_107 : decode cX1_emit 107 = .ok (.getfield 31, 3) := by decide +kernel
theorem dX1_emit_110 : decode cX1_emit 110 = .ok (.iconst 1, 1) := by decide +kernel
theorem dX1_emit_111 : decode cX1_emit 111 = .ok (.isub, 1) := by decide +kernel
theorem dX1_emit_112 : decode cX1_emit 112 = .ok (.ireturn, 1) := by decide +kernel
theorem dX1_drop_0 : decode cX1_drop 0 = .ok (.aload_n 0, 1) := by decide +kernel
theorem dX1_drop_1 : decode cX1_drop 1 = .ok (.getfield 31, 3) := by decide +kernel
theorem dX1_drop_4 : decode cX1_drop 4 = .ok (.ifCond .ne 5, 3) := by decide +kernel
theorem dX1_drop_7 : decode cX1_drop 7 = .ok (.iconst (-1), 1) := by decide +kernel
theorem dX1_drop_8 : decode cX1_drop 8 = .ok (.ireturn, 1) := by decide +kernel
theorem dX1_drop_9 : decode cX1_drop 9 = .ok (.aload_n 0, 1) := by decide +kernel
theorem dX1_drop_10 : decode cX1_drop 10 = .ok (.dup, 1) := by decide +kernel
theorem dX1_drop_11 : decode cX1_drop 11 = .ok (.getfield 31, 3) := by decide +kernel
theorem dX1_drop_14 : decode cX1_drop 14 = .ok (.iconst 1, 1) := by decide +kernel
theorem dX1_drop_15 : decode cX1_drop 15 = .ok (.isub, 1) := by decide +kernel
theorem dX1_drop_16 : decode cX1_drop 16 = .ok (.putfield 31, 3) := by decide +kernel
theorem dX1_drop_19 : decode cX1_drop 19 = .ok (.aload_n 0, 1) := by decide +kernel
theorem dX1_drop_20 : decode cX1_drop 20 = .ok (.getfield 31, 3) := by decide +kernel
theorem dX1_drop_23 : decode cX1_drop 23 = .ok (.ireturn, 1) := by decide +kernel
theorem dX1_restart_0 : decode cX1_restart 0 = .ok (.iconst 0, 1) := by decide +kernel
theorem dX1_restart_1 : decode cX1_restart 1 = .ok (.istore_n 1, 1) := by decide +kernel
theorem dX1_restart_2 : decode cX1_restart 2 = .ok (.iload_n 1, 1) := by decide +kernel
theorem dX1_restart_3 : decode cX1_restart 3 = .ok (.bipush 124, 2) := by decide +kernel
theorem dX1_restart_5 : decode cX1_restart 5 = .ok (.if_icmp .ge 16, 3) := by decide +kernel
theorem dX1_restart_8 : decode cX1_restart 8 = .ok (.aload_n 0, 1) := by decide +kernel
theorem dX1_restart_9 : decode cX1_restart 9 = .ok (.getfield 25, 3) := by decide +kernel
theorem dX1_restart_12 : decode cX1_restart 12 = .ok (.iload_n 1, 1) := by decide +kernel
theorem dX1_restart_13 : decode cX1_restart 13 = .ok (.iconst 0, 1) := by decide +kernel
theorem dX1_restart_14 : decode cX1_restart 14 = .ok (.iastore, 1) := by decide +kernel
theorem dX1_restart_15 : decode cX1_restart 15 = .ok (.iinc 1 1, 3) := by decide +kernel
theorem dX1_restart_18 : decode cX1_restart 18 = .ok (.goto (-16), 3) := by decide +kernel
theorem dX1_restart_21 : decode cX1_restart 21 = .ok (.aload_n 0, 1) := by decide +kernel
theorem dX1_restart_22 : decode cX1_restart 22 = .ok (.iconst 0, 1) := by decide +kernel
theorem dX1_restart_23 : decode cX1_restart 23 = .ok (.putfield 35, 3) := by decide +kernel
theorem dX1_restart_26 : decode cX1_restart 26 = .ok (.aload_n 0, 1) := by decide +kernel
theorem dX1_restart_27 : decode cX1_restart 27 = .ok (.iconst 0, 1) := by decide +kernel
theorem dX1_restart_28 : decode cX1_restart 28 = .ok (.putfield 38, 3) := by decide +kernel
theorem dX1_restart_31 : decode cX1_restart 31 = .ok (.aload_n 0, 1) := by decide +kernel
theorem dX1_restart_32 : decode cX1_restart 32 = .ok (.iconst 0, 1) := by decide +kernel
theorem dX1_restart_33 : decode cX1_restart 33 = .ok (.putfield 41, 3) := by decide +kernel
theorem dX1_restart_36 : decode cX1_restart 36 = .ok (.aload_n 0, 1) := by decide +kernel
theorem dX1_restart_37 : decode cX1_restart 37 = .ok (.iconst 0, 1) := by decide +kernel
theorem dX1_restart_38 : decode cX1_restart 38 = .ok (.putfield 45, 3) := by decide +kernel
theorem dX1_restart_41 : decode cX1_restart 41 = .ok (.return_, 1) := by decide +kernel
theorem dX1_run_0 : decode cX1_run 0 = .ok (.iload_n 1, 1) := by decide +kernel
theorem dX1_run_1 : decode cX1_run 1 = .ok (.sipush 200, 3) := by decide +kernel
theorem dX1_run_4 : decode cX1_run 4 = .ok (.if_icmp .le 9, 3) := by decide +kernel
theorem dX1_run_7 : decode cX1_run 7 = .ok (.sipush 200, 3) := by decide +kernel
theorem dX1_run_10 : decode cX1_run 10 = .ok (.goto 4, 3) := by decide +kernel
theorem dX1_run_13 : decode cX1_run 13 = .ok (.iload_n 1, 1) := by decide +kernel
theorem dX1_run_14 : decode cX1_run 14 = .ok (.istore_n 2, 1) := by decide +kernel
theorem dX1_run_15 : decode cX1_run 15 = .ok (.iconst 0, 1) := by decide +kernel
theorem dX1_run_16 : decode cX1_run 16 = .ok (.istore_n 3, 1) := by decide +kernel
theorem dX1_run_17 : decode cX1_run 17 = .ok (.iload_n 3, 1) := by decide +kernel
theorem dX1_run_18 : decode cX1_run 18 = .ok (.iload_n 2, 1) := by decide +kernel
theorem dX1_run_19 : decode cX1_run 19 = .ok (.if_icmp .ge 97, 3) := by decide +kernel
theorem dX1_run_22 : decode cX1_run 22 = .ok (.aload_n 0, 1) := by decide +kernel
theorem dX1_run_23 : decode cX1_run 23 = .ok (.getfield 41, 3) := by decide +kernel
theorem dX1_run_26 : decode cX1_run 26 = .ok (.ifCond .ne 90, 3) := by decide +kernel
theorem dX1_run_29 : decode cX1_run 29 = .ok (.aload_n 0, 1) := by decide +kernel
theorem dX1_run_30 : decode cX1_run 30 = .ok (.getfield 38, 3) := by decide +kernel
theorem dX1_run_33 : decode cX1_run 33 = .ok (.ifCond .lt 14, 3) := by decide +kernel
theorem dX1_run_36 : decode cX1_run 36 = .ok (.aload_n 0, 1) := by decide +kernel
theorem dX1_run_37 : decode cX1_run 37 = .ok (.getfield 38, 3) := by decide +kernel
theorem dX1_run_40 : decode cX1_run 40 = .ok (.aload_n 0, 1) := by decide +kernel
theorem dX1_run_41 : decode cX1_run 41 = .ok (.getfield 31, 3) := by decide +kernel
theorem dX1_run_44 : decode cX1_run 44 = .ok (.if_icmp .lt 7, 3) := by decide +kernel
theorem dX1_run_47 : decode cX1_run 47 = .ok (.iconst 1, 1) := by decide +kernel
theorem dX1_run_48 : decode cX1_run 48 = .ok (.goto 4, 3) := by decide +kernel
theorem dX1_run_51 : decode cX1_run 51 = .ok (.iconst 0, 1) := by decide +kernel
theorem dX1_run_52 : decode cX1_run 52 = .ok (.istore 4, 2) := by decide +kernel
theorem dX1_run_54 : decode cX1_run 54 = .ok (.iload 4, 2) := by decide +kernel
theorem dX1_run_56 : decode cX1_run 56 = .ok (.ifCond .ne 29, 3) := by decide +kernel
theorem dX1_run_59 : decode cX1_run 59 = .ok (.aload_n 0, 1) := by decide +kernel
theorem dX1_run_60 : decode cX1_run 60 = .ok (.getfield 7, 3) := by decide +kernel
theorem dX1_run_63 : decode cX1_run 63 = .ok (.aload_n 0, 1) := by decide +kernel
theorem dX1_run_64 : decode cX1_run 64 = .ok (.getfield 38, 3) := by decide +kernel
theorem dX1_run_67 : decode cX1_run 67 = .ok (.iaload, 1) := by decide +kernel
theorem dX1_run_68 : decode cX1_run 68 = .ok (.iconst 5, 1) := by decide +kernel
theorem dX1_run_69 : decode cX1_run 69 = .ok (.if_icmp .ne 16, 3) := by decide +kernel
theorem dX1_run_72 : decode cX1_run 72 = .ok (.aload_n 0, 1) := by decide +kernel
theorem dX1_run_73 : decode cX1_run 73 = .ok (.getfield 35, 3) := by decide +kernel
theorem dX1_run_76 : decode cX1_run 76 = .ok (.bipush 29, 2) := by decide +kernel
theorem dX1_run_78 : decode cX1_run 78 = .ok (.if_icmp .ne 7, 3) := by decide +kernel
theorem dX1_run_81 : decode cX1_run 81 = .ok (.iconst 1, 1) := by decide +kernel
theorem dX1_run_82 : decode cX1_run 82 = .ok (.goto 4, 3) := by decide +kernel
theorem dX1_run_85 : decode cX1_run 85 = .ok (.iconst 0, 1) := by decide +kernel
theorem dX1_run_86 : decode cX1_run 86 = .ok (.istore 5, 2) := by decide +kernel
theorem dX1_run_88 : decode cX1_run 88 = .ok (.iload 4, 2) := by decide +kernel
theorem dX1_run_90 : decode cX1_run 90 = .ok (.ifCond .ne 8, 3) := by decide +kernel
theorem dX1_run_93 : decode cX1_run 93 = .ok (.iload 5, 2) := by decide +kernel
theorem dX1_run_95 : decode cX1_run 95 = .ok (.ifCond .eq 11, 3) := by decide +kernel
theorem dX1_run_98 : decode cX1_run 98 = .ok (.aload_n 0, 1) := by decide +kernel
theorem dX1_run_99 : decode cX1_run 99 = .ok (.iconst 1, 1) := by decide +kernel
theorem dX1_run_100 : decode cX1_run 100 = .ok (.putfield 41, 3) := by decide +kernel
theorem dX1_run_103 : decode cX1_run 103 = .ok (.goto 10, 3) := by decide +kernel
theorem dX1_run_106 : decode cX1_run 106 = .ok (.aload_n 0, 1) := by decide +kernel
theorem dX1_run_107 : decode cX1_run 107 = .ok (.invokevirtual 48, 3) := by decide +kernel
theorem dX1_run_110 : decode cX1_run 110 = .ok (.iinc 3 1, 3) := by decide +kernel
theorem dX1_run_113 : decode cX1_run 113 = .ok (.goto (-96), 3) := by decide +kernel
theorem dX1_run_116 : decode cX1_run 116 = .ok (.iload_n 3, 1) := by decide +kernel
theorem dX1_run_117 : decode cX1_run 117 = .ok (.ireturn, 1) := by decide +kernel
theorem dX1_step_0 : decode cX1_step 0 = .ok (.aload_n 0, 1) := by decide +kernel
theorem dX1_step_1 : decode cX1_step 1 = .ok (.getfield 7, 3) := by decide +kernel
theorem dX1_step_4 : decode cX1_step 4 = .ok (.aload_n 0, 1) := by decide +kernel
theorem dX1_step_5 : decode cX1_step 5 = .ok (.getfield 38, 3) := by decide +kernel
theorem dX1_step_8 : decode cX1_step 8 = .ok (.iaload, 1) := by decide +kernel
theorem dX1_step_9 : decode cX1_step 9 = .ok (.istore_n 1, 1) := by decide +kernel
theorem dX1_step_10 : decode cX1_step 10 = .ok (.iconst 4, 1) := by decide +kernel
theorem dX1_step_11 : decode cX1_step 11 = .ok (.aload_n 0, 1) := by decide +kernel
theorem dX1_step_12 : decode cX1_step 12 = .ok (.getfield 35, 3) := by decide +kernel
theorem dX1_step_15 : decode cX1_step 15 = .ok (.imul, 1) := by decide +kernel
theorem dX1_step_16 : decode cX1_step 16 = .ok (.istore_n 2, 1) := by decide +kernel
theorem dX1_step_17 : decode cX1_step 17 = .ok (.iload_n 2, 1) := by decide +kernel
theorem dX1_step_18 : decode cX1_step 18 = .ok (.aload_n 0, 1) := by decide +kernel
theorem dX1_step_19 : decode cX1_step 19 = .ok (.getfield 13, 3) := by decide +kernel
theorem dX1_step_22 : decode cX1_step 22 = .ok (.aload_n 0, 1) := by decide +kernel
theorem dX1_step_23 : decode cX1_step 23 = .ok (.getfield 38, 3) := by decide +kernel
theorem dX1_step_26 : decode cX1_step 26 = .ok (.iaload, 1) := by decide +kernel
theorem dX1_step_27 : decode cX1_step 27 = .ok (.iadd, 1) := by decide +kernel
theorem dX1_step_28 : decode cX1_step 28 = .ok (.istore_n 3, 1) := by decide +kernel
theorem dX1_step_29 : decode cX1_step 29 = .ok (.aload_n 0, 1) := by decide +kernel
theorem dX1_step_30 : decode cX1_step 30 = .ok (.getfield 25, 3) := by decide +kernel
theorem dX1_step_33 : decode cX1_step 33 = .ok (.iload_n 2, 1) := by decide +kernel
theorem dX1_step_34 : decode cX1_step 34 = .ok (.aload_n 0, 1) := by decide +kernel
theorem dX1_step_35 : decode cX1_step 35 = .ok (.getfield 16, 3) := by decide +kernel
theorem dX1_step_38 : decode cX1_step 38 = .ok (.aload_n 0, 1) := by decide +kernel
theorem dX1_step_39 : decode cX1_step 39 = .ok (.getfield 38, 3) := by decide +kernel
theorem dX1_step_42 : decode cX1_step 42 = .ok (.iaload, 1) := by decide +kernel
theorem dX1_step_43 : decode cX1_step 43 = .ok (.iadd, 1) := by decide +kernel
theorem dX1_step_44 : decode cX1_step 44 = .ok (.iaload, 1) := by decide +kernel
theorem dX1_step_45 : decode cX1_step 45 = .ok (.istore 4, 2) := by decide +kernel
theorem dX1_step_47 : decode cX1_step 47 = .ok (.aload_n 0, 1) := by decide +kernel
theorem dX1_step_48 : decode cX1_step 48 = .ok (.getfield 25, 3) := by decide +kernel
theorem dX1_step_51 : decode cX1_step 51 = .ok (.iload_n 2, 1) := by decide +kernel
theorem dX1_step_52 : decode cX1_step 52 = .ok (.aload_n 0, 1) := by decide +kernel
theorem dX1_step_53 : decode cX1_step 53 = .ok (.getfield 19, 3) := by decide +kernel
theorem dX1_step_56 : decode cX1_step 56 = .ok (.aload_n 0, 1) := by decide +kernel
theorem dX1_step_57 : decode cX1_step 57 = .ok (.getfield 38, 3) := by decide +kernel
theorem dX1_step_60 : decode cX1_step 60 = .ok (.iaload, 1) := by decide +kernel
theorem dX1_step_61 : decode cX1_step 61 = .ok (.iadd, 1) := by decide +kernel
theorem dX1_step_62 : decode cX1_step 62 = .ok (.iaload, 1) := by decide +kernel
theorem dX1_step_63 : decode cX1_step 63 = .ok (.istore 5, 2) := by decide +kernel
theorem dX1_step_65 : decode cX1_step 65 = .ok (.aload_n 0, 1) := by decide +kernel
theorem dX1_step_66 : decode cX1_step 66 = .ok (.getfield 22, 3) := by decide +kernel
theorem dX1_step_69 : decode cX1_step 69 = .ok (.aload_n 0, 1) := by decide +kernel
theorem dX1_step_70 : decode cX1_step 70 = .ok (.getfield 38, 3) := by decide +kernel
theorem dX1_step_73 : decode cX1_step 73 = .ok (.iaload, 1) := by decide +kernel
theorem dX1_step_74 : decode cX1_step 74 = .ok (.istore 6, 2) := by decide +kernel
theorem dX1_step_76 : decode cX1_step 76 = .ok (.aload_n 0, 1) := by decide +kernel
theorem dX1_step_77 : decode cX1_step 77 = .ok (.getfield 38, 3) := by decide +kernel
theorem dX1_step_80 : decode cX1_step 80 = .ok (.iconst 1, 1) := by decide +kernel
theorem dX1_step_81 : decode cX1_step 81 = .ok (.iadd, 1) := by decide +kernel
theorem dX1_step_82 : decode cX1_step 82 = .ok (.istore 7, 2) := by decide +kernel
theorem dX1_step_84 : decode cX1_step 84 = .ok (.iload_n 1, 1) := by decide +kernel
theorem dX1_step_85 : decode cX1_step 85 = .ok (.ifCond .ne 14, 3) := by decide +kernel
theorem dX1_step_88 : decode cX1_step 88 = .ok (.aload_n 0, 1) := by decide +kernel
theorem dX1_step_89 : decode cX1_step 89 = .ok (.getfield 25, 3) := by decide +kernel
theorem dX1_step_92 : decode cX1_step 92 = .ok (.iload_n 3, 1) := by decide +kernel
theorem dX1_step_93 : decode cX1_step 93 = .ok (.iload 6, 2) := by decide +kernel
theorem dX1_step_95 : decode cX1_step 95 = .ok (.iastore, 1) := by decide +kernel
theorem dX1_step_96 : decode cX1_step 96 = .ok (.goto 215, 3) := by decide +kernel
theorem dX1_step_99 : decode cX1_step 99 = .ok (.iload_n 1, 1) := by decide +kernel
theorem dX1_step_100 : decode cX1_step 100 = .ok (.iconst 1, 1) := by decide +kernel
theorem dX1_step_101 : decode cX1_step 101 = .ok (.if_icmp .ne 17, 3) := by decide +kernel
theorem dX1_step_104 : decode cX1_step 104 = .ok (.aload_n 0, 1) := by decide +kernel
theorem dX1_step_105 : decode cX1_step 105 = .ok (.getfield 25, 3) := by decide +kernel
theorem dX1_step_108 : decode cX1_step 108 = .ok (.iload_n 3, 1) := by decide +kernel
theorem dX1_step_109 : decode cX1_step 109 = .ok (.iload 4, 2) := by decide +kernel
theorem dX1_step_111 : decode cX1_step 111 = .ok (.iload 5, 2) := by decide +kernel
theorem dX1_step_113 : decode cX1_step 113 = .ok (.iadd, 1) := by decide +kernel
theorem dX1_step_114 : decode cX1_step 114 = .ok (.iastore, 1) := by decide +kernel
theorem dX1_step_115 : decode cX1_step 115 = .ok (.goto 196, 3) := by decide +kernel
theorem dX1_step_118 : decode cX1_step 118 = .ok (.iload_n 1, 1) := by decide +kernel
theorem dX1_step_119 : decode cX1_step 119 = .ok (.iconst 2, 1) := by decide +kernel
theorem dX1_step_120 : decode cX1_step 120 = .ok (.if_icmp .ne 17, 3) := by decide +kernel
theorem dX1_step_123 : decode cX1_step 123 = .ok (.aload_n 0, 1) := by decide +kernel
theorem dX1_step_124 : decode cX1_step 124 = .ok (.getfield 25, 3) := by decide +kernel
theorem dX1_step_127 : decode cX1_step 127 = .ok (.iload_n 3, 1) := by decide +kernel
theorem dX1_step_128 : decode cX1_step 128 = .ok (.iload 4, 2) := by decide +kernel
theorem dX1_step_130 : decode cX1_step 130 = .ok (.iload 5, 2) := by decide +kernel
theorem dX1_step_132 : decode cX1_step 132 = .ok (.isub, 1) := by decide +kernel
theorem dX1_step_133 : decode cX1_step 133 = .ok (.iastore, 1) := by decide +kernel
theorem dX1_step_134 : decode cX1_step 134 = .ok (.goto 177, 3) := by decide +kernel
theorem dX1_step_137 : decode cX1_step 137 = .ok (.iload_n 1, 1) := by decide +kernel
theorem dX1_step_138 : decode cX1_step 138 = .ok (.iconst 4, 1) := by decide +kernel
theorem dX1_step_139 : decode cX1_step 139 = .ok (.if_icmp .ne 14, 3) := by decide +kernel
theorem dX1_step_142 : decode cX1_step 142 = .ok (.aload_n 0, 1) := by decide +kernel
theorem dX1_step_143 : decode cX1_step 143 = .ok (.getfield 25, 3) := by decide +kernel
theorem dX1_step_146 : decode cX1_step 146 = .ok (.iload_n 3, 1) := by decide +kernel
theorem dX1_step_147 : decode cX1_step 147 = .ok (.iload 4, 2) := by decide +kernel
theorem dX1_step_149 : decode cX1_step 149 = .ok (.iastore, 1) := by decide +kernel
theorem dX1_step_150 : decode cX1_step 150 = .ok (.goto 161, 3) := by decide +kernel
theorem dX1_step_153 : decode cX1_step 153 = .ok (.iload_n 1, 1) := by decide +kernel
theorem dX1_step_154 : decode cX1_step 154 = .ok (.iconst 5, 1) := by decide +kernel
theorem dX1_step_155 : decode cX1_step 155 = .ok (.if_icmp .ne 62, 3) := by decide +kernel
theorem dX1_step_158 : decode cX1_step 158 = .ok (.aload_n 0, 1) := by decide +kernel
theorem dX1_step_159 : decode cX1_step 159 = .ok (.dup, 1) := by decide +kernel
theorem dX1_step_160 : decode cX1_step 160 = .ok (.getfield 35, 3) := by decide +kernel
theorem dX1_step_163 : decode cX1_step 163 = .ok (.iconst 1, 1) := by decide +kernel
theorem dX1_step_164 : decode cX1_step 164 = .ok (.iadd, 1) := by decide +kernel
theorem dX1_step_165 : decode cX1_step 165 = .ok (.putfield 35, 3) := by decide +kernel
theorem dX1_step_168 : decode cX1_step 168 = .ok (.aload_n 0, 1) := by decide +kernel
theorem dX1_step_169 : decode cX1_step 169 = .ok (.getfield 28, 3) := by decide +kernel
theorem dX1_step_172 : decode cX1_step 172 = .ok (.aload_n 0, 1) := by decide +kernel
theorem dX1_step_173 : decode cX1_step 173 = .ok (.getfield 35, 3) := by decide +kernel
theorem dX1_step_176 : decode cX1_step 176 = .ok (.iload 7, 2) := by decide +kernel
theorem dX1_step_178 : decode cX1_step 178 = .ok (.iastore, 1) := by decide +kernel
theorem dX1_step_179 : decode cX1_step 179 = .ok (.iconst 4, 1) := by decide +kernel
theorem dX1_step_180 : decode cX1_step 180 = .ok (.istore 8, 2) := by decide +kernel
theorem dX1_step_182 : decode cX1_step 182 = .ok (.iload 8, 2) := by decide +kernel
theorem dX1_step_184 : decode cX1_step 184 = .ok (.bipush 8, 2) := by decide +kernel
theorem dX1_step_186 : decode cX1_step 186 = .ok (.if_icmp .ge 24, 3) := by decide +kernel
theorem dX1_step_189 : decode cX1_step 189 = .ok (.aload_n 0, 1) := by decide +kernel
theorem dX1_step_190 : decode cX1_step 190 = .ok (.getfield 25, 3) := by decide +kernel
theorem dX1_step_193 : decode cX1_step 193 = .ok (.iconst 4, 1) := by decide +kernel
theorem dX1_step_194 : decode cX1_step 194 = .ok (.aload_n 0, 1) := by decide +kernel
theorem dX1_step_195 : decode cX1_step 195 = .ok (.getfield 35, 3) := by decide +kernel
theorem dX1_step_198 : decode cX1_step 198 = .ok (.imul, 1) := by decide +kernel
theorem dX1_step_199 : decode cX1_step 199 = .ok (.iload 8, 2) := by decide +kernel
theorem dX1_step_201 : decode cX1_step 201 = .ok (.iadd, 1) := by decide +kernel
theorem dX1_step_202 : decode cX1_step 202 = .ok (.iconst 0, 1) := by decide +kernel
theorem dX1_step_203 : decode cX1_step 203 = .ok (.iastore, 1) := by decide +kernel
theorem dX1_step_204 : decode cX1_step 204 = .ok (.iinc 8 1, 3) := by decide +kernel
theorem dX1_step_207 : decode cX1_step 207 = .ok (.goto (-25), 3) := by decide +kernel
theorem dX1_step_210 : decode cX1_step 210 = .ok (.iload 6, 2) := by decide +kernel
theorem dX1_step_212 : decode cX1_step 212 = .ok (.istore 7, 2) := by decide +kernel
theorem dX1_step_214 : decode cX1_step 214 = .ok (.goto 97, 3) := by decide +kernel
theorem dX1_step_217 : decode cX1_step 217 = .ok (.iload_n 1, 1) := by decide +kernel
theorem dX1_step_218 : decode cX1_step 218 = .ok (.bipush 6, 2) := by decide +kernel
theorem dX1_step_220 : decode cX1_step 220 = .ok (.if_icmp .ne 68, 3) := by decide +kernel
theorem dX1_step_223 : decode cX1_step 223 = .ok (.aload_n 0, 1) := by decide +kernel
theorem dX1_step_224 : decode cX1_step 224 = .ok (.aload_n 0, 1) := by decide +kernel
theorem dX1_step_225 : decode cX1_step 225 = .ok (.getfield 35, 3) := by decide +kernel
theorem dX1_step_228 : decode cX1_step 228 = .ok (.ifCond .ne 7, 3) := by decide +kernel
theorem dX1_step_231 : decode cX1_step 231 = .ok (.iconst 1, 1) := by decide +kernel
theorem dX1_step_232 : decode cX1_step 232 = .ok (.goto 4, 3) := by decide +kernel
theorem dX1_step_235 : decode cX1_step 235 = .ok (.iconst 0, 1) := by decide +kernel
theorem dX1_step_236 : decode cX1_step 236 = .ok (.putfield 41, 3) := by decide +kernel
theorem dX1_step_239 : decode cX1_step 239 = .ok (.aload_n 0, 1) := by decide +kernel
theorem dX1_step_240 : decode cX1_step 240 = .ok (.getfield 41, 3) := by decide +kernel
theorem dX1_step_243 : decode cX1_step 243 = .ok (.ifCond .eq 10, 3) := by decide +kernel
theorem dX1_step_246 : decode cX1_step 246 = .ok (.aload_n 0, 1) := by decide +kernel
theorem dX1_step_247 : decode cX1_step 247 = .ok (.getfield 38, 3) := by decide +kernel
theorem dX1_step_250 : decode cX1_step 250 = .ok (.goto 12, 3) := by decide +kernel
theorem dX1_step_253 : decode cX1_step 253 = .ok (.aload_n 0, 1) := by decide +kernel
theorem dX1_step_254 : decode cX1_step 254 = .ok (.getfield 28, 3) := by decide +kernel
theorem dX1_step_257 : decode cX1_step 257 = .ok (.aload_n 0, 1) := by decide +kernel
theorem dX1_step_258 : decode cX1_step 258 = .ok (.getfield 35, 3) := by decide +kernel
theorem dX1_step_261 : decode cX1_step 261 = .ok (.iaload, 1) := by decide +kernel
theorem dX1_step_262 : decode cX1_step 262 = .ok (.istore 7, 2) := by decide +kernel
theorem dX1_step_264 : decode cX1_step 264 = .ok (.aload_n 0, 1) := by decide +kernel
theorem dX1_step_265 : decode cX1_step 265 = .ok (.aload_n 0, 1) := by decide +kernel
theorem dX1_step_266 : decode cX1_step 266 = .ok (.getfield 41, 3) := by decide +kernel
theorem dX1_step_269 : decode cX1_step 269 = .ok (.ifCond .eq 7, 3) := by decide +kernel
theorem dX1_step_272 : decode cX1_step 272 = .ok (.iconst 0, 1) := by decide +kernel
theorem dX1_step_273 : decode cX1_step 273 = .ok (.goto 9, 3) := by decide +kernel
theorem dX1_step_276 : decode cX1_step 276 = .ok (.aload_n 0, 1) := by decide +kernel
theorem dX1_step_277 : decode cX1_step 277 = .ok (.getfield 35, 3) := by decide +kernel
theorem dX1_step_280 : decode cX1_step 280 = .ok (.iconst 1, 1) := by decide +kernel
theorem dX1_step_281 : decode cX1_step 281 = .ok (.isub, 1) := by decide +kernel
theorem dX1_step_282 : decode cX1_step 282 = .ok (.putfield 35, 3) := by decide +kernel
theorem dX1_step_285 : decode cX1_step 285 = .ok (.goto 26, 3) := by decide +kernel
theorem dX1_step_288 : decode cX1_step 288 = .ok (.iload_n 1, 1) := by decide +kernel
theorem dX1_step_289 : decode cX1_step 289 = .ok (.iconst 3, 1) := by decide +kernel
theorem dX1_step_290 : decode cX1_step 290 = .ok (.if_icmp .eq 12, 3) := by decide +kernel
theorem dX1_step_293 : decode cX1_step 293 = .ok (.aload_n 0, 1) := by decide +kernel
theorem dX1_step_294 : decode cX1_step 294 = .ok (.getfield 25, 3) := by decide +kernel
theorem dX1_step_297 : decode cX1_step 297 = .ok (.iload_n 3, 1) := by decide +kernel
theorem dX1_step_298 : decode cX1_step 298 = .ok (.iaload, 1) := by decide +kernel
theorem dX1_step_299 : decode cX1_step 299 = .ok (.ifCond .ne 8, 3) := by decide +kernel
theorem dX1_step_302 : decode cX1_step 302 = .ok (.iload 6, 2) := by decide +kernel
theorem dX1_step_304 : decode cX1_step 304 = .ok (.goto 5, 3) := by decide +kernel
theorem dX1_step_307 : decode cX1_step 307 = .ok (.iload 7, 2) := by decide +kernel
theorem dX1_step_309 : decode cX1_step 309 = .ok (.istore 7, 2) := by decide +kernel
theorem dX1_step_311 : decode cX1_step 311 = .ok (.aload_n 0, 1) := by decide +kernel
theorem dX1_step_312 : decode cX1_step 312 = .ok (.iload 7, 2) := by decide +kernel
theorem dX1_step_314 : decode cX1_step 314 = .ok (.putfield 38, 3) := by decide +kernel
theorem dX1_step_317 : decode cX1_step 317 = .ok (.aload_n 0, 1) := by decide +kernel
theorem dX1_step_318 : decode cX1_step 318 = .ok (.dup, 1) := by decide +kernel
theorem dX1_step_319 : decode cX1_step 319 = .ok (.getfield 45, 3) := by decide +kernel
theorem dX1_step_322 : decode cX1_step 322 = .ok (.iconst 1, 1) := by decide +kernel
theorem dX1_step_323 : decode cX1_step 323 = .ok (.iadd, 1) := by decide +kernel
theorem dX1_step_324 : decode cX1_step 324 = .ok (.putfield 45, 3) := by decide +kernel
theorem dX1_step_327 : decode cX1_step 327 = .ok (.return_, 1) := by decide +kernel
theorem dX1_halted_0 : decode cX1_halted 0 = .ok (.aload_n 0, 1) := by decide +kernel
theorem dX1_halted_1 : decode cX1_halted 1 = .ok (.getfield 41, 3) := by decide +kernel
theorem dX1_halted_4 : decode cX1_halted 4 = .ok (.ireturn, 1) := by decide +kernel
theorem dX1_position_0 : decode cX1_position 0 = .ok (.aload_n 0, 1) := by decide +kernel
theorem dX1_position_1 : decode cX1_position 1 = .ok (.getfield 38, 3) := by decide +kernel
theorem dX1_position_4 : decode cX1_position 4 = .ok (.ireturn, 1) := by decide +kernel
theorem dX1_depth_0 : decode cX1_depth 0 = .ok (.aload_n 0, 1) := by decide +kernel
theorem dX1_depth_1 : decode cX1_depth 1 = .ok (.getfield 35, 3) := by decide +kernel
theorem dX1_depth_4 : decode cX1_depth 4 = .ok (.iconst 1, 1) := by decide +kernel
theorem dX1_depth_5 : decode cX1_depth 5 = .ok (.iadd, 1) := by decide +kernel
theorem dX1_depth_6 : decode cX1_depth 6 = .ok (.ireturn, 1) := by decide +kernel
theorem dX1_register_0 : decode cX1_register 0 = .ok (.aload_n 0, 1) := by decide +kernel
theorem dX1_register_1 : decode cX1_register 1 = .ok (.iconst 0, 1) := by decide +kernel
theorem dX1_register_2 : decode cX1_register 2 = .ok (.iload_n 1, 1) := by decide +kernel
theorem dX1_register_3 : decode cX1_register 3 = .ok (.invokevirtual 51, 3) := by decide +kernel
theorem dX1_register_6 : decode cX1_register 6 = .ok (.ireturn, 1) := by decide +kernel
theorem dX1_below_0 : decode cX1_below 0 = .ok (.iload_n 1, 1) := by decide +kernel
theorem dX1_below_1 : decode cX1_below 1 = .ok (.ifCond .lt 37, 3) := by decide +kernel
theorem dX1_below_4 : decode cX1_below 4 = .ok (.iload_n 1, 1) := by decide +kernel
theorem dX1_below_5 : decode cX1_below 5 = .ok (.aload_n 0, 1) := by decide +kernel
theorem dX1_below_6 : decode cX1_below 6 = .ok (.getfield 35, 3) := by decide +kernel
theorem dX1_below_9 : decode cX1_below 9 = .ok (.if_icmp .gt 29, 3) := by decide +kernel
theorem dX1_below_12 : decode cX1_below 12 = .ok (.aload_n 0, 1) := by decide +kernel
theorem dX1_below_13 : decode cX1_below 13 = .ok (.iload_n 2, 1) := by decide +kernel
theorem dX1_below_14 : decode cX1_below 14 = .ok (.invokevirtual 55, 3) := by decide +kernel
theorem dX1_below_17 : decode cX1_below 17 = .ok (.ifCond .eq 21, 3) := by decide +kernel
theorem dX1_below_20 : decode cX1_below 20 = .ok (.aload_n 0, 1) := by decide +kernel
theorem dX1_below_21 : decode cX1_below 21 = .ok (.getfield 25, 3) := by decide +kernel
theorem dX1_below_24 : decode cX1_below 24 = .ok (.iconst 4, 1) := by decide +kernel
theorem dX1_below_25 : decode cX1_below 25 = .ok (.aload_n 0, 1) := by decide +kernel
theorem dX1_below_26 : decode cX1_below 26 = .ok (.getfield 35, 3) := by decide +kernel
theorem dX1_below_29 : decode cX1_below 29 = .ok (.iload_n 1, 1) := by decide +kernel
theorem dX1_below_30 : decode cX1_below 30 = .ok (.isub, 1) := by decide +kernel
theorem dX1_below_31 : decode cX1_below 31 = .ok (.imul, 1) := by decide +kernel
theorem dX1_below_32 : decode cX1_below 32 = .ok (.iload_n 2, 1) := by decide +kernel
theorem dX1_below_33 : decode cX1_below 33 = .ok (.iadd, 1) := by decide +kernel
theorem dX1_below_34 : decode cX1_below 34 = .ok (.iaload, 1) := by decide +kernel
theorem dX1_below_35 : decode cX1_below 35 = .ok (.goto 4, 3) := by decide +kernel
theorem dX1_below_38 : decode cX1_below 38 = .ok (.iconst 0, 1) := by decide +kernel
theorem dX1_below_39 : decode cX1_below 39 = .ok (.ireturn, 1) := by decide +kernel
theorem dX1_isRegister_0 : decode cX1_isRegister 0 = .ok (.iload_n 1, 1) := by decide +kernel
theorem dX1_isRegister_1 : decode cX1_isRegister 1 = .ok (.ifCond .lt 13, 3) := by decide +kernel
theorem dX1_isRegister_4 : decode cX1_isRegister 4 = .ok (.iload_n 1, 1) := by decide +kernel
theorem dX1_isRegister_5 : decode cX1_isRegister 5 = .ok (.bipush 7, 2) := by decide +kernel
theorem dX1_isRegister_7 : decode cX1_isRegister 7 = .ok (.if_icmp .gt 7, 3) := by decide +kernel
theorem dX1_isRegister_10 : decode cX1_isRegister 10 = .ok (.iconst 1, 1) := by decide +kernel
theorem dX1_isRegister_11 : decode cX1_isRegister 11 = .ok (.goto 4, 3) := by decide +kernel
theorem dX1_isRegister_14 : decode cX1_isRegister 14 = .ok (.iconst 0, 1) := by decide +kernel
theorem dX1_isRegister_15 : decode cX1_isRegister 15 = .ok (.ireturn, 1) := by decide +kernel
theorem dX1_put_0 : decode cX1_put 0 = .ok (.aload_n 0, 1) := by decide +kernel
theorem dX1_put_1 : decode cX1_put 1 = .ok (.iload_n 1, 1) := by decide +kernel
theorem dX1_put_2 : decode cX1_put 2 = .ok (.invokevirtual 55, 3) := by decide +kernel
theorem dX1_put_5 : decode cX1_put 5 = .ok (.ifCond .ne 5, 3) := by decide +kernel
theorem dX1_put_8 : decode cX1_put 8 = .ok (.iconst 0, 1) := by decide +kernel
theorem dX1_put_9 : decode cX1_put 9 = .ok (.ireturn, 1) := by decide +kernel
theorem dX1_put_10 : decode cX1_put 10 = .ok (.aload_n 0, 1) := by decide +kernel
theorem dX1_put_11 : decode cX1_put 11 = .ok (.getfield 25, 3) := by decide +kernel
theorem dX1_put_14 : decode cX1_put 14 = .ok (.iconst 4, 1) := by decide +kernel
theorem dX1_put_15 : decode cX1_put 15 = .ok (.aload_n 0, 1) := by decide +kernel
theorem dX1_put_16 : decode cX1_put 16 = .ok (.getfield 35, 3) := by decide +kernel
theorem dX1_put_19 : decode cX1_put 19 = .ok (.imul, 1) := by decide +kernel
theorem dX1_put_20 : decode cX1_put 20 = .ok (.iload_n 1, 1) := by decide +kernel
theorem dX1_put_21 : decode cX1_put 21 = .ok (.iadd, 1) := by decide +kernel
theorem dX1_put_22 : decode cX1_put 22 = .ok (.iload_n 2, 1) := by decide +kernel
theorem dX1_put_23 : decode cX1_put 23 = .ok (.iastore, 1) := by decide +kernel
theorem dX1_put_24 : decode cX1_put 24 = .ok (.iconst 1, 1) := by decide +kernel
theorem dX1_put_25 : decode cX1_put 25 = .ok (.ireturn, 1) := by decide +kernel
theorem dX1_backTo_0 : decode cX1_backTo 0 = .ok (.iload_n 1, 1) := by decide +kernel
theorem dX1_backTo_1 : decode cX1_backTo 1 = .ok (.ifCond .lt 25, 3) := by decide +kernel
theorem dX1_backTo_4 : decode cX1_backTo 4 = .ok (.iload_n 1, 1) := by decide +kernel
theorem dX1_backTo_5 : decode cX1_backTo 5 = .ok (.aload_n 0, 1) := by decide +kernel
theorem dX1_backTo_6 : decode cX1_backTo 6 = .ok (.getfield 35, 3) := by decide +kernel
theorem dX1_backTo_9 : decode cX1_backTo 9 = .ok (.if_icmp .ge 17, 3) := by decide +kernel
theorem dX1_backTo_12 : decode cX1_backTo 12 = .ok (.aload_n 0, 1) := by decide +kernel
theorem dX1_backTo_13 : decode cX1_backTo 13 = .ok (.getfield 28, 3) := by decide +kernel
theorem dX1_backTo_16 : decode cX1_backTo 16 = .ok (.aload_n 0, 1) := by decide +kernel
theorem dX1_backTo_17 : decode cX1_backTo 17 = .ok (.getfield 35, 3) := by decide +kernel
theorem dX1_backTo_20 : decode cX1_backTo 20 = .ok (.iload_n 1, 1) := by decide +kernel
theorem dX1_backTo_21 : decode cX1_backTo 21 = .ok (.isub, 1) := by decide +kernel
theorem dX1_backTo_22 : decode cX1_backTo 22 = .ok (.iaload, 1) := by decide +kernel
theorem dX1_backTo_23 : decode cX1_backTo 23 = .ok (.goto 4, 3) := by decide +kernel
theorem dX1_backTo_26 : decode cX1_backTo 26 = .ok (.iconst (-1), 1) := by decide +kernel
theorem dX1_backTo_27 : decode cX1_backTo 27 = .ok (.ireturn, 1) := by decide +kernel
theorem dX1_digest_0 : decode cX1_digest 0 = .ok (.iconst 0, 1) := by decide +kernel
theorem dX1_digest_1 : decode cX1_digest 1 = .ok (.istore_n 1, 1) := by decide +kernel
theorem dX1_digest_2 : decode cX1_digest 2 = .ok (.iconst 0, 1) := by decide +kernel
theorem dX1_digest_3 : decode cX1_digest 3 = .ok (.istore_n 2, 1) := by decide +kernel
theorem dX1_digest_4 : decode cX1_digest 4 = .ok (.iload_n 2, 1) := by decide +kernel
theorem dX1_digest_5 : decode cX1_digest 5 = .ok (.aload_n 0, 1) := by decide +kernel
theorem dX1_digest_6 : decode cX1_digest 6 = .ok (.getfield 35, 3) := by decide +kernel
theorem dX1_digest_9 : decode cX1_digest 9 = .ok (.if_icmp .gt 45, 3) := by decide +kernel
theorem dX1_digest_12 : decode cX1_digest 12 = .ok (.iconst 0, 1) := by decide +kernel
theorem dX1_digest_13 : decode cX1_digest 13 = .ok (.istore_n 3, 1) := by decide +kernel
theorem dX1_digest_14 : decode cX1_digest 14 = .ok (.iload_n 3, 1) := by decide +kernel
theorem dX1_digest_15 : decode cX1_digest 15 = .ok (.bipush 8, 2) := by decide +kernel
theorem dX1_digest_17 : decode cX1_digest 17 = .ok (.if_icmp .ge 31, 3) := by decide +kernel
theorem dX1_digest_20 : decode cX1_digest 20 = .ok (.iload_n 1, 1) := by decide +kernel
theorem dX1_digest_21 : decode cX1_digest 21 = .ok (.bipush 8, 2) := by decide +kernel
theorem dX1_digest_23 : decode cX1_digest 23 = .ok (.iload_n 2, 1) := by decide +kernel
theorem dX1_digest_24 : decode cX1_digest 24 = .ok (.imul, 1) := by decide +kernel
theorem dX1_digest_25 : decode cX1_digest 25 = .ok (.iload_n 3, 1) := by decide +kernel
theorem dX1_digest_26 : decode cX1_digest 26 = .ok (.iadd, 1) := by decide +kernel
theorem dX1_digest_27 : decode cX1_digest 27 = .ok (.iconst 1, 1) := by decide +kernel
theorem dX1_digest_28 : decode cX1_digest 28 = .ok (.iadd, 1) := by decide +kernel
theorem dX1_digest_29 : decode cX1_digest 29 = .ok (.aload_n 0, 1) := by decide +kernel
theorem dX1_digest_30 : decode cX1_digest 30 = .ok (.getfield 25, 3) := by decide +kernel
theorem dX1_digest_33 : decode cX1_digest 33 = .ok (.iconst 4, 1) := by decide +kernel
theorem dX1_digest_34 : decode cX1_digest 34 = .ok (.iload_n 2, 1) := by decide +kernel
theorem dX1_digest_35 : decode cX1_digest 35 = .ok (.imul, 1) := by decide +kernel
theorem dX1_digest_36 : decode cX1_digest 36 = .ok (.iload_n 3, 1) := by decide +kernel
theorem dX1_digest_37 : decode cX1_digest 37 = .ok (.iadd, 1) := by decide +kernel
theorem dX1_digest_38 : decode cX1_digest 38 = .ok (.iaload, 1) := by decide +kernel
theorem dX1_digest_39 : decode cX1_digest 39 = .ok (.imul, 1) := by decide +kernel
theorem dX1_digest_40 : decode cX1_digest 40 = .ok (.iadd, 1) := by decide +kernel
theorem dX1_digest_41 : decode cX1_digest 41 = .ok (.istore_n 1, 1) := by decide +kernel
theorem dX1_digest_42 : decode cX1_digest 42 = .ok (.iinc 3 1, 3) := by decide +kernel
theorem dX1_digest_45 : decode cX1_digest 45 = .ok (.goto (-31), 3) := by decide +kernel
theorem dX1_digest_48 : decode cX1_digest 48 = .ok (.iinc 2 1, 3) := by decide +kernel
theorem dX1_digest_51 : decode cX1_digest 51 = .ok (.goto (-47), 3) := by decide +kernel
theorem dX1_digest_54 : decode cX1_digest 54 = .ok (.iload_n 1, 1) := by decide +kernel
theorem dX1_digest_55 : decode cX1_digest 55 = .ok (.ireturn, 1) := by decide +kernel
theorem dX1_done_0 : decode cX1_done 0 = .ok (.aload_n 0, 1) := by decide +kernel
theorem dX1_done_1 : decode cX1_done 1 = .ok (.getfield 45, 3) := by decide +kernel
theorem dX1_done_4 : decode cX1_done 4 = .ok (.ireturn, 1) := by decide +kernel
end
section
set_option maxRecDepth 100000
theorem dL_law_0 : decode cL_law 0 = .ok (.new 7, 3) := by decide +kernel
theorem dL_law_3 : decode cL_law 3 = .ok (.dup, 1) := by decide +kernel
theorem dL_law_4 : decode cL_law 4 = .ok (.invokespecial 9, 3) := by decide +kernel
theorem dL_law_7 : decode cL_law 7 = .ok (.astore_n 1, 1) := by decide +kernel
theorem dL_law_8 : decode cL_law 8 = .ok (.new 10, 3) := by decide +kernel
theorem dL_law_11 : decode cL_law 11 = .ok (.dup, 1) := by decide +kernel
theorem dL_law_12 : decode cL_law 12 = .ok (.invokespecial 12, 3) := by decide +kernel
theorem dL_law_15 : decode cL_law 15 = .ok (.astore_n 2, 1) := by decide +kernel
theorem dL_law_16 : decode cL_law 16 = .ok (.iconst 0, 1) := by decide +kernel
theorem dL_law_17 : decode cL_law 17 = .ok (.istore_n 3, 1) := by decide +kernel
theorem dL_law_18 : decode cL_law 18 = .ok (.iload_n 3, 1) := by decide +kernel
theorem dL_law_19 : decode cL_law 19 = .ok (.aload_n 0, 1) := by decide +kernel
theorem dL_law_20 : decode cL_law 20 = .ok (.arraylength, 1) := by decide +kernel
theorem dL_law_21 : decode cL_law 21 = .ok (.iconst 4, 1) := by decide +kernel
theorem dL_law_22 : decode cL_law 22 = .ok (.isub, 1) := by decide +kernel
theorem dL_law_23 : decode cL_law 23 = .ok (.if_icmp .gt 350, 3) := by decide +kernel
theorem dL_law_26 : decode cL_law 26 = .ok (.aload_n 0, 1) := by decide +kernel
theorem dL_law_27 : decode cL_law 27 = .ok (.iload_n 3, 1) := by decide +kernel
theorem dL_law_28 : decode cL_law 28 = .ok (.iaload, 1) := by decide +kernel
theorem dL_law_29 : decode cL_law 29 = .ok (.bipush 15, 2) := by decide +kernel
theorem dL_law_31 : decode cL_law 31 = .ok (.iand, 1) := by decide +kernel
theorem dL_law_32 : decode cL_law 32 = .ok (.tableswitch 335 0 12 #[68, 111, 124, 135, 158, 171, 184, 197, 220, 253, 286, 309, 322], 68) := by decide +kernel
theorem dL_law_100 : decode cL_law 100 = .ok (.aload_n 1, 1) := by decide +kernel
theorem dL_law_101 : decode cL_law 101 = .ok (.aload_n 0, 1) := by decide +kernel
theorem dL_law_102 : decode cL_law 102 = .ok (.iload_n 3, 1) := by decide +kernel
theorem dL_law_103 : decode cL_law 103 = .ok (.iconst 1, 1) := by decide +kernel
theorem dL_law_104 : decode cL_law 104 = .ok (.iadd, 1) := by decide +kernel
theorem dL_law_105 : decode cL_law 105 = .ok (.iaload, 1) := by decide +kernel
theorem dL_law_106 : decode cL_law 106 = .ok (.aload_n 0, 1) := by decide +kernel
theorem dL_law_107 : decode cL_law 107 = .ok (.iload_n 3, 1) := by decide +kernel
theorem dL_law_108 : decode cL_law 108 = .ok (.iconst 2, 1) := by decide +kernel
theorem dL_law_109 : decode cL_law 109 = .ok (.iadd, 1) := by decide +kernel
theorem dL_law_110 : decode cL_law 110 = .ok (.iaload, 1) := by decide +kernel
theorem dL_law_111 : decode cL_law 111 = .ok (.aload_n 0, 1) := by decide +kernel
theorem dL_law_112 : decode cL_law 112 = .ok (.iload_n 3, 1) := by decide +kernel
theorem dL_law_113 : decode cL_law 113 = .ok (.iconst 3, 1) := by decide +kernel
theorem dL_law_114 : decode cL_law 114 = .ok (.iadd, 1) := by decide +kernel
theorem dL_law_115 : decode cL_law 115 = .ok (.iaload, 1) := by decide +kernel
theorem dL_law_116 : decode cL_law 116 = .ok (.invokevirtual 13, 3) := by decide +kernel
theorem dL_law_119 : decode cL_law 119 = .ok (.aload_n 2, 1) := by decide +kernel
theorem dL_law_120 : decode cL_law 120 = .ok (.aload_n 0, 1) := by decide +kernel
theorem dL_law_121 : decode cL_law 121 = .ok (.iload_n 3, 1) := by decide +kernel
theorem dL_law_122 : decode cL_law 122 = .ok (.iconst 1, 1) := by decide +kernel
theorem dL_law_123 : decode cL_law 123 = .ok (.iadd, 1) := by decide +kernel
theorem dL_law_124 : decode cL_law 124 = .ok (.iaload, 1) := by decide +kernel
theorem dL_law_125 : decode cL_law 125 = .ok (.aload_n 0, 1) := by decide +kernel
theorem dL_law_126 : decode cL_law 126 = .ok (.iload_n 3, 1) := by decide +kernel
theorem dL_law_127 : decode cL_law 127 = .ok (.iconst 2, 1) := by decide +kernel
theorem dL_law_128 : decode cL_law 128 = .ok (.iadd, 1) := by decide +kernel
theorem dL_law_129 : decode cL_law 129 = .ok (.iaload, 1) := by decide +kernel
theorem dL_law_130 : decode cL_law 130 = .ok (.aload_n 0, 1) := by decide +kernel
theorem dL_law_131 : decode cL_law 131 = .ok (.iload_n 3, 1) := by decide +kernel
theorem dL_law_132 : decode cL_law 132 = .ok (.iconst 3, 1) := by decide +kernel
theorem dL_law_133 : decode cL_law 133 = .ok (.iadd, 1) := by decide +kernel
theorem dL_law_134 : decode cL_law 134 = .ok (.iaload, 1) := by decide +kernel
theorem dL_law_135 : decode cL_law 135 = .ok (.invokevirtual 17, 3) := by decide +kernel
theorem dL_law_138 : decode cL_law 138 = .ok (.if_icmp .eq 229, 3) := by decide +kernel
theorem dL_law_141 : decode cL_law 141 = .ok (.iconst 0, 1) := by decide +kernel
theorem dL_law_142 : decode cL_law 142 = .ok (.ireturn, 1) := by decide +kernel
theorem dL_law_143 : decode cL_law 143 = .ok (.aload_n 1, 1) := by decide +kernel
theorem dL_law_144 : decode cL_law 144 = .ok (.invokevirtual 18, 3) := by decide +kernel
theorem dL_law_147 : decode cL_law 147 = .ok (.aload_n 2, 1) := by decide +kernel
theorem dL_law_148 : decode cL_law 148 = .ok (.invokevirtual 22, 3) := by decide +kernel
theorem dL_law_151 : decode cL_law 151 = .ok (.if_icmp .eq 216, 3) := by decide +kernel
theorem dL_law_154 : decode cL_law 154 = .ok (.iconst 0, 1) := by decide +kernel
theorem dL_law_155 : decode cL_law 155 = .ok (.ireturn, 1) := by decide +kernel
theorem dL_law_156 : decode cL_law 156 = .ok (.aload_n 1, 1) := by decide +kernel
theorem dL_law_157 : decode cL_law 157 = .ok (.invokevirtual 23, 3) := by decide +kernel
theorem dL_law_160 : decode cL_law 160 = .ok (.aload_n 2, 1) := by decide +kernel
theorem dL_law_161 : decode cL_law 161 = .ok (.invokevirtual 26, 3) := by decide +kernel
theorem dL_law_164 : decode cL_law 164 = .ok (.goto 203, 3) := by decide +kernel
theorem dL_law_167 : decode cL_law 167 = .ok (.aload_n 1, 1) := by decide +kernel
theorem dL_law_168 : decode cL_law 168 = .ok (.aload_n 0, 1) := by decide +kernel
theorem dL_law_169 : decode cL_law 169 = .ok (.iload_n 3, 1) := by decide +kernel
theorem dL_law_170 : decode cL_law 170 = .ok (.iconst 1, 1) := by decide +kernel
theorem dL_law_171 : decode cL_law 171 = .ok (.iadd, 1) := by decide +kernel
theorem dL_law_172 : decode cL_law 172 = .ok (.iaload, 1) := by decide +kernel
theorem dL_law_173 : decode cL_law 173 = .ok (.invokevirtual 27, 3) := by decide +kernel
theorem dL_law_176 : decode cL_law 176 = .ok (.aload_n 2, 1) := by decide +kernel
theorem dL_law_177 : decode cL_law 177 = .ok (.aload_n 0, 1) := by decide +kernel
theorem dL_law_178 : decode cL_law 178 = .ok (.iload_n 3, 1) := by decide +kernel
theorem dL_law_179 : decode cL_law 179 = .ok (.iconst 1, 1) := by decide +kernel
theorem dL_law_180 : decode cL_law 180 = .ok (.iadd, 1) := by decide +kernel
theorem dL_law_181 : decode cL_law 181 = .ok (.iaload, 1) := by decide +kernel
theorem dL_law_182 : decode cL_law 182 = .ok (.invokevirtual 31, 3) := by decide +kernel
theorem dL_law_185 : decode cL_law 185 = .ok (.if_icmp .eq 182, 3) := by decide +kernel
theorem dL_law_188 : decode cL_law 188 = .ok (.iconst 0, 1) := by decide +kernel
theorem dL_law_189 : decode cL_law 189 = .ok (.ireturn, 1) := by decide +kernel
theorem dL_law_190 : decode cL_law 190 = .ok (.aload_n 1, 1) := by decide +kernel
theorem dL_law_191 : decode cL_law 191 = .ok (.invokevirtual 32, 3) := by decide +kernel
theorem dL_law_194 : decode cL_law 194 = .ok (.aload_n 2, 1) := by decide +kernel
theorem dL_law_195 : decode cL_law 195 = .ok (.invokevirtual 36, 3) := by decide +kernel
theorem dL_law_198 : decode cL_law 198 = .ok (.if_icmp .eq 169, 3) := by decide +kernel
theorem dL_law_201 : decode cL_law 201 = .ok (.iconst 0, 1) := by decide +kernel
theorem dL_law_202 : decode cL_law 202 = .ok (.ireturn, 1) := by decide +kernel
theorem dL_law_203 : decode cL_law 203 = .ok (.aload_n 1, 1) := by decide +kernel
theorem dL_law_204 : decode cL_law 204 = .ok (.invokevirtual 37, 3) := by decide +kernel
theorem dL_law_207 : decode cL_law 207 = .ok (.aload_n 2, 1) := by decide +kernel
theorem dL_law_208 : decode cL_law 208 = .ok (.invokevirtual 40, 3) := by decide +kernel
theorem dL_law_211 : decode cL_law 211 = .ok (.if_icmp .eq 156, 3) := by decide +kernel
theorem dL_law_214 : decode cL_law 214 = .ok (.iconst 0, 1) := by decide +kernel
theorem dL_law_215 : decode cL_law 215 = .ok (.ireturn, 1) := by decide +kernel
theorem dL_law_216 : decode cL_law 216 = .ok (.aload_n 1, 1) := by decide +kernel
theorem dL_law_217 : decode cL_law 217 = .ok (.invokevirtual 41, 3) := by decide +kernel
theorem dL_law_220 : decode cL_law 220 = .ok (.aload_n 2, 1) := by decide +kernel
theorem dL_law_221 : decode cL_law 221 = .ok (.invokevirtual 44, 3) := by decide +kernel
theorem dL_law_224 : decode cL_law 224 = .ok (.if_icmp .eq 143, 3) := by decide +kernel
theorem dL_law_227 : decode cL_law 227 = .ok (.iconst 0, 1) := by decide +kernel
theorem dL_law_228 : decode cL_law 228 = .ok (.ireturn, 1) := by decide +kernel
theorem dL_law_229 : decode cL_law 229 = .ok (.aload_n 1, 1) := by decide +kernel
theorem dL_law_230 : decode cL_law 230 = .ok (.aload_n 0, 1) := by decide +kernel
theorem dL_law_231 : decode cL_law 231 = .ok (.iload_n 3, 1) := by decide +kernel
theorem dL_law_232 : decode cL_law 232 = .ok (.iconst 1, 1) := by decide +kernel
theorem dL_law_233 : decode cL_law 233 = .ok (.iadd, 1) := by decide +kernel
theorem dL_law_234 : decode cL_law 234 = .ok (.iaload, 1) := by decide +kernel
theorem dL_law_235 : decode cL_law 235 = .ok (.invokevirtual 45, 3) := by decide +kernel
theorem dL_law_238 : decode cL_law 238 = .ok (.aload_n 2, 1) := by decide +kernel
theorem dL_law_239 : decode cL_law 239 = .ok (.aload_n 0, 1) := by decide +kernel
theorem dL_law_240 : decode cL_law 240 = .ok (.iload_n 3, 1) := by decide +kernel
theorem dL_law_241 : decode cL_law 241 = .ok (.iconst 1, 1) := by decide +kernel
theorem dL_law_242 : decode cL_law 242 = .ok (.iadd, 1) := by decide +kernel
theorem dL_law_243 : decode cL_law 243 = .ok (.iaload, 1) := by decide +kernel
theorem dL_law_244 : decode cL_law 244 = .ok (.invokevirtual 48, 3) := by decide +kernel
theorem dL_law_247 : decode cL_law 247 = .ok (.if_icmp .eq 120, 3) := by decide +kernel
theorem dL_law_250 : decode cL_law 250 = .ok (.iconst 0, 1) := by decide +kernel
theorem dL_law_251 : decode cL_law 251 = .ok (.ireturn, 1) := by decide +kernel
theorem dL_law_252 : decode cL_law 252 = .ok (.aload_n 1, 1) := by decide +kernel
theorem dL_law_253 : decode cL_law 253 = .ok (.aload_n 0, 1) := by decide +kernel
theorem dL_law_254 : decode cL_law 254 = .ok (.iload_n 3, 1) := by decide +kernel
theorem dL_law_255 : decode cL_law 255 = .ok (.iconst 1, 1) := by decide +kernel
theorem dL_law_256 : decode cL_law 256 = .ok (.iadd, 1) := by decide +kernel
theorem dL_law_257 : decode cL_law 257 = .ok (.iaload, 1) := by decide +kernel
theorem dL_law_258 : decode cL_law 258 = .ok (.aload_n 0, 1) := by decide +kernel
theorem dL_law_259 : decode cL_law 259 = .ok (.iload_n 3, 1) := by decide +kernel
theorem dL_law_260 : decode cL_law 260 = .ok (.iconst 2, 1) := by decide +kernel
theorem dL_law_261 : decode cL_law 261 = .ok (.iadd, 1) := by decide +kernel
theorem dL_law_262 : decode cL_law 262 = .ok (.iaload, 1) := by decide +kernel
theorem dL_law_263 : decode cL_law 263 = .ok (.invokevirtual 49, 3) := by decide +kernel
theorem dL_law_266 : decode cL_law 266 = .ok (.aload_n 2, 1) := by decide +kernel
theorem dL_law_267 : decode cL_law 267 = .ok (.aload_n 0, 1) := by decide +kernel
theorem dL_law_268 : decode cL_law 268 = .ok (.iload_n 3, 1) := by decide +kernel
theorem dL_law_269 : decode cL_law 269 = .ok (.iconst 1, 1) := by decide +kernel
theorem dL_law_270 : decode cL_law 270 = .ok (.iadd, 1) := by decide +kernel
theorem dL_law_271 : decode cL_law 271 = .ok (.iaload, 1) := by decide +kernel
theorem dL_law_272 : decode cL_law 272 = .ok (.aload_n 0, 1) := by decide +kernel
theorem dL_law_273 : decode cL_law 273 = .ok (.iload_n 3, 1) := by decide +kernel
theorem dL_law_274 : decode cL_law 274 = .ok (.iconst 2, 1) := by decide +kernel
theorem dL_law_275 : decode cL_law 275 = .ok (.iadd, 1) := by decide +kernel
theorem dL_law_276 : decode cL_law 276 = .ok (.iaload, 1) := by decide +kernel
theorem dL_law_277 : decode cL_law 277 = .ok (.invokevirtual 53, 3) := by decide +kernel
theorem dL_law_280 : decode cL_law 280 = .ok (.if_icmp .eq 87, 3) := by decide +kernel
theorem dL_law_283 : decode cL_law 283 = .ok (.iconst 0, 1) := by decide +kernel
theorem dL_law_284 : decode cL_law 284 = .ok (.ireturn, 1) := by decide +kernel
theorem dL_law_285 : decode cL_law 285 = .ok (.aload_n 1, 1) := by decide +kernel
theorem dL_law_286 : decode cL_law 286 = .ok (.aload_n 0, 1) := by decide +kernel
theorem dL_law_287 : decode cL_law 287 = .ok (.iload_n 3, 1) := by decide +kernel
theorem dL_law_288 : decode cL_law 288 = .ok (.iconst 1, 1) := by decide +kernel
theorem dL_law_289 : decode cL_law 289 = .ok (.iadd, 1) := by decide +kernel
theorem dL_law_290 : decode cL_law 290 = .ok (.iaload, 1) := by decide +kernel
theorem dL_law_291 : decode cL_law 291 = .ok (.aload_n 0, 1) := by decide +kernel
theorem dL_law_292 : decode cL_law 292 = .ok (.iload_n 3, 1) := by decide +kernel
theorem dL_law_293 : decode cL_law 293 = .ok (.iconst 2, 1) := by decide +kernel
theorem dL_law_294 : decode cL_law 294 = .ok (.iadd, 1) := by decide +kernel
theorem dL_law_295 : decode cL_law 295 = .ok (.iaload, 1) := by decide +kernel
theorem dL_law_296 : decode cL_law 296 = .ok (.invokevirtual 54, 3) := by decide +kernel
theorem dL_law_299 : decode cL_law 299 = .ok (.aload_n 2, 1) := by decide +kernel
theorem dL_law_300 : decode cL_law 300 = .ok (.aload_n 0, 1) := by decide +kernel
theorem dL_law_301 : decode cL_law 301 = .ok (.iload_n 3, 1) := by decide +kernel
theorem dL_law_302 : decode cL_law 302 = .ok (.iconst 1, 1) := by decide +kernel
theorem dL_law_303 : decode cL_law 303 = .ok (.iadd, 1) := by decide +kernel
theorem dL_law_304 : decode cL_law 304 = .ok (.iaload, 1) := by decide +kernel
theorem dL_law_305 : decode cL_law 305 = .ok (.aload_n 0, 1) := by decide +kernel
theorem dL_law_306 : decode cL_law 306 = .ok (.iload_n 3, 1) := by decide +kernel
theorem dL_law_307 : decode cL_law 307 = .ok (.iconst 2, 1) := by decide +kernel
theorem dL_law_308 : decode cL_law 308 = .ok (.iadd, 1) := by decide +kernel
theorem dL_law_309 : decode cL_law 309 = .ok (.iaload, 1) := by decide +kernel
theorem dL_law_310 : decode cL_law 310 = .ok (.invokevirtual 58, 3) := by decide +kernel
theorem dL_law_313 : decode cL_law 313 = .ok (.if_icmp .eq 54, 3) := by decide +kernel
theorem dL_law_316 : decode cL_law 316 = .ok (.iconst 0, 1) := by decide +kernel
theorem dL_law_317 : decode cL_law 317 = .ok (.ireturn, 1) := by decide +kernel
theorem dL_law_318 : decode cL_law 318 = .ok (.aload_n 1, 1) := by decide +kernel
theorem dL_law_319 : decode cL_law 319 = .ok (.aload_n 0, 1) := by decide +kernel
theorem dL_law_320 : decode cL_law 320 = .ok (.iload_n 3, 1) := by decide +kernel
theorem dL_law_321 : decode cL_law 321 = .ok (.iconst 1, 1) := by decide +kernel
theorem dL_law_322 : decode cL_law 322 = .ok (.iadd, 1) := by decide +kernel
theorem dL_law_323 : decode cL_law 323 = .ok (.iaload, 1) := by decide +kernel
theorem dL_law_324 : decode cL_law 324 = .ok (.invokevirtual 59, 3) := by decide +kernel
theorem dL_law_327 : decode cL_law 327 = .ok (.aload_n 2, 1) := by decide +kernel
theorem dL_law_328 : decode cL_law 328 = .ok (.aload_n 0, 1) := by decide +kernel
theorem dL_law_329 : decode cL_law 329 = .ok (.iload_n 3, 1) := by decide +kernel
theorem dL_law_330 : decode cL_law 330 = .ok (.iconst 1, 1) := by decide +kernel
theorem dL_law_331 : decode cL_law 331 = .ok (.iadd, 1) := by decide +kernel
theorem dL_law_332 : decode cL_law 332 = .ok (.iaload, 1) := by decide +kernel
theorem dL_law_333 : decode cL_law 333 = .ok (.invokevirtual 62, 3) := by decide +kernel
theorem dL_law_336 : decode cL_law 336 = .ok (.if_icmp .eq 31, 3) := by decide +kernel
theorem dL_law_339 : decode cL_law 339 = .ok (.iconst 0, 1) := by decide +kernel
theorem dL_law_340 : decode cL_law 340 = .ok (.ireturn, 1) := by decide +kernel
theorem dL_law_341 : decode cL_law 341 = .ok (.aload_n 1, 1) := by decide +kernel
theorem dL_law_342 : decode cL_law 342 = .ok (.invokevirtual 63, 3) := by decide +kernel
theorem dL_law_345 : decode cL_law 345 = .ok (.aload_n 2, 1) := by decide +kernel
theorem dL_law_346 : decode cL_law 346 = .ok (.invokevirtual 66, 3) := by decide +kernel
theorem dL_law_349 : decode cL_law 349 = .ok (.if_icmp .eq 18, 3) := by decide +kernel
theorem dL_law_352 : decode cL_law 352 = .ok (.iconst 0, 1) := by decide +kernel
theorem dL_law_353 : decode cL_law 353 = .ok (.ireturn, 1) := by decide +kernel
theorem dL_law_354 : decode cL_law 354 = .ok (.aload_n 1, 1) := by decide +kernel
theorem dL_law_355 : decode cL_law 355 = .ok (.invokevirtual 67, 3) := by decide +kernel
theorem dL_law_358 : decode cL_law 358 = .ok (.aload_n 2, 1) := by decide +kernel
theorem dL_law_359 : decode cL_law 359 = .ok (.invokevirtual 70, 3) := by decide +kernel
theorem dL_law_362 : decode cL_law 362 = .ok (.if_icmp .eq 5, 3) := by decide +kernel
theorem dL_law_365 : decode cL_law 365 = .ok (.iconst 0, 1) := by decide +kernel
theorem dL_law_366 : decode cL_law 366 = .ok (.ireturn, 1) := by decide +kernel
theorem dL_law_367 : decode cL_law 367 = .ok (.iinc 3 4, 3) := by decide +kernel
theorem dL_law_370 : decode cL_law 370 = .ok (.goto (-352), 3) := by decide +kernel
theorem dL_law_373 : decode cL_law 373 = .ok (.iconst 1, 1) := by decide +kernel
theorem dL_law_374 : decode cL_law 374 = .ok (.ireturn, 1) := by decide +kernel
end
section
/-! PURE ROWS: the blocks in the ring and in memory against one long row; the program; the calls' returns; one step; a run; the digest -/
def wc_cl4 (f : Nat → Int32) (q : Nat) : Nat → Int32 := upd (upd (upd (upd f (q + 0) (nI 0)) (q + 1) (nI 0)) (q + 2) (nI 0)) (q + 3) (nI 0)
def wc_cp4 (f : Nat → Int32) (q : Nat) (g : Nat → Int32) (r : Nat) : Nat → Int32 := upd (upd (upd (upd f (q + 0) (g (r + 0))) (q + 1) (g (r + 1))) (q + 2) (g (r + 2))) (q + 3) (g (r + 3))
theorem wc_cl4_in {f : Nat → Int32} {q j : Nat} (h : q ≤ j) (h2 : j < q + 4) : wc_cl4 f q j = 0 := by
  have hz : nI 0 = 0 := nI_0
  unfold wc_cl4 upd
  by_cases h3 : j = q + 3
  · rw [if_pos h3]; exact hz
  · rw [if_neg h3]
    by_cases h4 : j = q + 2
    · rw [if_pos h4]; exact hz
    · rw [if_neg h4]
      by_cases h5 : j = q + 1
      · rw [if_pos h5]; exact hz
      · rw [if_neg h5, if_pos (by omega)]; exact hz
theorem wc_cl4_out {f : Nat → Int32} {q j : Nat} (h : j < q ∨ q + 4 ≤ j) : wc_cl4 f q j = f j := by
  unfold wc_cl4 upd
  rw [if_neg (by omega), if_neg (by omega), if_neg (by omega), if_neg (by omega)]
theorem wc_cp4_in {f g : Nat → Int32} {q r j : Nat} (h : j < 4) : wc_cp4 f q g r (q + j) = g (r + j) := by
  unfold wc_cp4 upd
  by_cases h3 : j = 3
  · subst h3; rw [if_pos rfl]
  · rw [if_neg (by omega)]
    by_cases h4 : j = 2
    · subst h4; rw [if_pos rfl]
    · rw [if_neg (by omega)]
      by_cases h5 : j = 1
      · subst h5; rw [if_pos rfl]
      · have h6 : j = 0 := by omega
        subst h6
        rw [if_neg (by omega), if_pos rfl]
theorem wc_cp4_out {f g : Nat → Int32} {q r j : Nat} (h : j < q ∨ q + 4 ≤ j) : wc_cp4 f q g r j = f j := by
  unfold wc_cp4 upd
  rw [if_neg (by omega), if_neg (by omega), if_neg (by omega), if_neg (by omega)]
/-- the ring holds the blocks lo .. k + 1, memory those below lo -/
def wc_Blk (k lo : Nat) (rg me ro : Nat → Int32) : Prop := lo ≤ k ∧ k ≤ lo + 2 ∧ k ≤ 29 ∧ (∀ b i, lo ≤ b → b ≤ k + 1 → i < 4 → rg (b % 4 * 4 + i) = ro (4 * b + i)) ∧ (∀ b i, b < lo → i < 4 → me (b * 4 + i) = ro (4 * b + i))
theorem wc_Blk_get {k lo : Nat} {rg me ro : Nat → Int32} (h : wc_Blk k lo rg me ro) {j : Nat} (hj : j < 8) : rg ((k + j / 4) % 4 * 4 + j % 4) = ro (4 * k + j) := by
  obtain ⟨h1, h2, h3, h4, h5⟩ := h
  rw [h4 (k + j / 4) (j % 4) (by omega) (by omega) (by omega)]
  exact congrArg ro (by omega)
theorem wc_Blk_set {k lo : Nat} {rg me ro : Nat → Int32} (h : wc_Blk k lo rg me ro) {j : Nat} (hj : j < 8) (v : Int32) : wc_Blk k lo (upd rg ((k + j / 4) % 4 * 4 + j % 4) v) me (upd ro (4 * k + j) v) := by
  obtain ⟨h1, h2, h3, h4, h5⟩ := h
  refine ⟨h1, h2, h3, fun b i hb1 hb2 hi => ?_, fun b i hb hi => ?_⟩
  · by_cases hq : 4 * b + i = 4 * k + j
    · have e1 : b % 4 * 4 + i = (k + j / 4) % 4 * 4 + j % 4 := by
        have e2 : b = k + j / 4 := by omega
        have e3 : i = j % 4 := by omega
        rw [e2, e3]
      rw [hq, e1, pk_us, pk_us]
    · rw [pk_un hq, pk_un (by omega)]
      exact h4 b i hb1 hb2 hi
  · rw [pk_un (by omega)]
    exact h5 b i hb hi
theorem wc_Blk_enterA {k lo : Nat} {rg me ro : Nat → Int32} (h : wc_Blk k lo rg me ro) (hk : k ≤ 28) (hs : lo + 4 ≤ k + 2) : wc_Blk (k + 1) (lo + 1) (wc_cl4 rg ((k + 2) % 4 * 4)) (wc_cp4 me (lo * 4) rg (lo % 4 * 4)) (wc_cl4 ro (4 * (k + 1) + 4)) := by
  obtain ⟨h1, h2, h3, h4, h5⟩ := h
  refine ⟨by omega, by omega, by omega, fun b i hb1 hb2 hi => ?_, fun b i hb hi => ?_⟩
  · by_cases hq : b = k + 2
    · subst hq
      rw [wc_cl4_in (by omega) (by omega), wc_cl4_in (by omega) (by omega)]
    · rw [wc_cl4_out (by omega), wc_cl4_out (by omega)]
      exact h4 b i (by omega) (by omega) hi
  · rw [wc_cl4_out (by omega)]
    by_cases hq : b = lo
    · subst hq
      rw [wc_cp4_in hi]
      exact h4 b i (Nat.le_refl b) (by omega) hi
    · rw [wc_cp4_out (by omega)]
      exact h5 b i (by omega) hi
theorem wc_Blk_enterB {k lo : Nat} {rg me ro : Nat → Int32} (h : wc_Blk k lo rg me ro) (hk : k ≤ 28) (hs : k + 2 < lo + 4) : wc_Blk (k + 1) lo (wc_cl4 rg ((k + 2) % 4 * 4)) me (wc_cl4 ro (4 * (k + 1) + 4)) := by
  obtain ⟨h1, h2, h3, h4, h5⟩ := h
  refine ⟨by omega, by omega, by omega, fun b i hb1 hb2 hi => ?_, fun b i hb hi => ?_⟩
  · by_cases hq : b = k + 2
    · subst hq
      rw [wc_cl4_in (by omega) (by omega), wc_cl4_in (by omega) (by omega)]
    · rw [wc_cl4_out (by omega), wc_cl4_out (by omega)]
      exact h4 b i (by omega) (by omega) hi
  · rw [wc_cl4_out (by omega)]
    exact h5 b i hb hi
theorem wc_Blk_leaveA {k lo : Nat} {rg me ro : Nat → Int32} (h : wc_Blk k lo rg me ro) (hk : 1 ≤ k) (hs : k - 1 < lo) : wc_Blk (k - 1) (lo - 1) (wc_cp4 rg ((lo - 1) % 4 * 4) me ((lo - 1) * 4)) me ro := by
  obtain ⟨h1, h2, h3, h4, h5⟩ := h
  refine ⟨by omega, by omega, by omega, fun b i hb1 hb2 hi => ?_, fun b i hb hi => ?_⟩
  · by_cases hq : b = lo - 1
    · subst hq
      rw [wc_cp4_in hi]
      exact h5 (lo - 1) i (by omega) hi
    · rw [wc_cp4_out (by omega)]
      exact h4 b i (by omega) (by omega) hi
  · exact h5 b i (by omega) hi
theorem wc_Blk_leaveB {k lo : Nat} {rg me ro : Nat → Int32} (h : wc_Blk k lo rg me ro) (hk : 1 ≤ k) (hs : lo ≤ k - 1) : wc_Blk (k - 1) lo rg me ro := by
  obtain ⟨h1, h2, h3, h4, h5⟩ := h
  exact ⟨hs, by omega, by omega, fun b i hb1 hb2 hi => h4 b i hb1 (by omega) hi, h5⟩
theorem wc_Blk_ring {k lo : Nat} {rg me ro : Nat → Int32} (h : wc_Blk k lo rg me ro) {x j : Nat} (hj : j < 8) (hx : x ≤ k) (hs : lo ≤ x + j / 4) : rg ((x + j / 4) % 4 * 4 + j % 4) = ro (4 * x + j) := by
  obtain ⟨h1, h2, h3, h4, h5⟩ := h
  rw [h4 (x + j / 4) (j % 4) hs (by omega) (by omega)]
  exact congrArg ro (by omega)
theorem wc_Blk_mem {k lo : Nat} {rg me ro : Nat → Int32} (h : wc_Blk k lo rg me ro) {x j : Nat} (hj : j < 8) (hx : x ≤ k) (hs : x + j / 4 < lo) : me ((x + j / 4) * 4 + j % 4) = ro (4 * x + j) := by
  obtain ⟨h1, h2, h3, h4, h5⟩ := h
  rw [h5 (x + j / 4) (j % 4) hs (by omega)]
  exact congrArg ro (by omega)
theorem wc_Blk_0 {rg me ro : Nat → Int32} (hr : ∀ q, q < 8 → ro q = 0) : wc_Blk 0 0 (wc_cl4 (wc_cl4 rg (0 % 4 * 4)) (1 % 4 * 4)) me ro := by
  refine ⟨Nat.le_refl 0, by omega, by omega, fun b i hb1 hb2 hi => ?_, fun b i hb hi => by omega⟩
  rw [hr _ (by omega)]
  rcases (show b = 0 ∨ b = 1 by omega) with rfl | rfl
  · rw [wc_cl4_out (by omega)]
    exact wc_cl4_in (by omega) (by omega)
  · exact wc_cl4_in (by omega) (by omega)
theorem wc_Blk_new : wc_Blk 0 0 (fun _ => 0) (fun _ => 0) (fun _ => 0) := ⟨Nat.le_refl 0, by omega, by omega, fun _ _ _ _ _ => rfl, fun _ _ _ _ => rfl⟩
/-- both programs say the same: n instructions, each an operation and three registers out of one number -/
def wc_Prog (n : Nat) (xo xr xn mo ma mb md mn : Nat → Int32) : Prop := n ≤ 24 ∧ ∀ i, i < n → ∃ o g, o < 8 ∧ g < 512 ∧ xo i = nI o ∧ mo i = nI o ∧ xr i = nI g ∧ ma i = nI (g % 8) ∧ mb i = nI (g / 8 % 8) ∧ md i = nI (g / 64) ∧ xn i = mn i
theorem wc_Prog_0 {xo xr xn mo ma mb md mn : Nat → Int32} : wc_Prog 0 xo xr xn mo ma mb md mn := ⟨by omega, fun i hi => by omega⟩
theorem wc_Prog_drop {n : Nat} {xo xr xn mo ma mb md mn : Nat → Int32} (h : wc_Prog n xo xr xn mo ma mb md mn) : wc_Prog (n - 1) xo xr xn mo ma mb md mn := ⟨by have := h.1; omega, fun i hi => h.2 i (by omega)⟩
theorem wc_Prog_emit {n : Nat} {xo xr xn mo ma mb md mn : Nat → Int32} (h : wc_Prog n xo xr xn mo ma mb md mn) (hn : n < 24) {o g : Nat} (ho : o < 8) (hg : g < 512) (w : Int32) : wc_Prog (n + 1) (upd xo n (nI o)) (upd xr n (nI g)) (upd xn n w) (upd mo n (nI o)) (upd ma n (nI (g % 8))) (upd mb n (nI (g / 8 % 8))) (upd md n (nI (g / 64))) (upd mn n w) := by
  refine ⟨by omega, fun i hi => ?_⟩
  by_cases hq : i = n
  · subst hq
    exact ⟨o, g, ho, hg, pk_us, pk_us, pk_us, pk_us, pk_us, pk_us, pk_us.trans pk_us.symm⟩
  · obtain ⟨o', g', h1, h2, h3, h4, h5, h6, h7, h8, h9⟩ := h.2 i (by omega)
    exact ⟨o', g', h1, h2, (pk_un hq).trans h3, (pk_un hq).trans h4, (pk_un hq).trans h5, (pk_un hq).trans h6, (pk_un hq).trans h7, (pk_un hq).trans h8, (pk_un hq).trans (h9.trans (pk_un hq).symm)⟩
/-- the calls' returns agree, and are small -/
def wc_Ret (k : Nat) (rt bk : Nat → Int32) : Prop := ∀ j, 1 ≤ j → j ≤ k → ∃ w, w ≤ 24 ∧ rt j = nI w ∧ bk j = nI w
theorem wc_Ret_0 {rt bk : Nat → Int32} : wc_Ret 0 rt bk := fun j h1 h2 => by omega
theorem wc_Ret_push {k : Nat} {rt bk : Nat → Int32} (h : wc_Ret k rt bk) {w : Nat} (hw : w ≤ 24) : wc_Ret (k + 1) (upd rt (k + 1) (nI w)) (upd bk (k + 1) (nI w)) := by
  intro j h1 h2
  by_cases hq : j = k + 1
  · subst hq
    exact ⟨w, hw, pk_us, pk_us⟩
  · obtain ⟨w', a1, a2, a3⟩ := h j h1 (by omega)
    exact ⟨w', a1, (pk_un hq).trans a2, (pk_un hq).trans a3⟩
theorem wc_Ret_pop {k : Nat} {rt bk : Nat → Int32} (h : wc_Ret k rt bk) : wc_Ret (k - 1) rt bk := fun j h1 h2 => h j h1 (by omega)
/-- a small int through a byte, a short -/
theorem wc_b8 : ∀ o, o < 128 → (nI o).toInt8.toInt32 = nI o := by decide +kernel
theorem wc_s16 : ∀ o, o < 512 → (nI o).toInt16.toInt32 = nI o := by decide +kernel
theorem wc_n8 {o : Nat} (h : o < 128) : vp_nar .byte (nI o) = nI o := wc_b8 o h
theorem wc_n16 {o : Nat} (h : o < 512) : vp_nar .short (nI o) = nI o := wc_s16 o h
/-- emit: its answer, the program's size, one array behind it -/
abbrev wc_bad (op g : Int32) : Prop := op < 0 ∨ nI 7 < op ∨ g < 0 ∨ ¬ g ≤ nI 511
def wc_er (op g : Int32) (n : Nat) : Int32 := if wc_bad op g then -1 else if 24 ≤ n then -2 else nI n
def wc_en (op g : Int32) (n : Nat) : Nat := if wc_bad op g then n else if 24 ≤ n then n else n + 1
def wc_eU (op g : Int32) (n : Nat) (f : Nat → Int32) (v : Int32) : Nat → Int32 := if wc_bad op g then f else if 24 ≤ n then f else upd f n v
theorem wc_e_in {op g : Int32} (h1 : ¬ op < 0) (h2 : ¬ nI 7 < op) (h3 : ¬ g < 0) (h4 : g ≤ nI 511) : ∃ o q, o < 8 ∧ q < 512 ∧ op = nI o ∧ g = nI q := by
  obtain ⟨o, ho, rfl⟩ := nI_of h1
  obtain ⟨q, hq, rfl⟩ := nI_of h3
  rw [nI_ltI (by omega) ho] at h2
  rw [nI_leI hq (by omega)] at h4
  exact ⟨o, q, by omega, by omega, rfl, rfl⟩
theorem wc_e_nb {op g : Int32} (h1 : ¬ op < 0) (h2 : ¬ nI 7 < op) (h3 : ¬ g < 0) (h4 : g ≤ nI 511) : ¬ wc_bad op g := by
  rintro (h | h | h | h)
  · exact h1 h
  · exact h2 h
  · exact h3 h
  · exact h h4
theorem wc_er1 {op g : Int32} {n : Nat} (h : wc_bad op g) : wc_er op g n = -1 := if_pos h
theorem wc_er2 {op g : Int32} {n : Nat} (h : ¬ wc_bad op g) (hn : 24 ≤ n) : wc_er op g n = -2 := (if_neg h).trans (if_pos hn)
theorem wc_er3 {op g : Int32} {n : Nat} (h : ¬ wc_bad op g) (hn : ¬ 24 ≤ n) : wc_er op g n = nI n := (if_neg h).trans (if_neg hn)
theorem wc_en1 {op g : Int32} {n : Nat} (h : wc_bad op g) : wc_en op g n = n := if_pos h
theorem wc_en2 {op g : Int32} {n : Nat} (h : ¬ wc_bad op g) (hn : 24 ≤ n) : wc_en op g n = n := (if_neg h).trans (if_pos hn)
theorem wc_en3 {op g : Int32} {n : Nat} (h : ¬ wc_bad op g) (hn : ¬ 24 ≤ n) : wc_en op g n = n + 1 := (if_neg h).trans (if_neg hn)
theorem wc_eU1 {op g : Int32} {n : Nat} {f : Nat → Int32} {v : Int32} (h : wc_bad op g) : wc_eU op g n f v = f := if_pos h
theorem wc_eU2 {op g : Int32} {n : Nat} {f : Nat → Int32} {v : Int32} (h : ¬ wc_bad op g) (hn : 24 ≤ n) : wc_eU op g n f v = f := (if_neg h).trans (if_pos hn)
theorem wc_eU3 {op g : Int32} {n : Nat} {f : Nat → Int32} {v : Int32} (h : ¬ wc_bad op g) (hn : ¬ 24 ≤ n) : wc_eU op g n f v = upd f n v := (if_neg h).trans (if_neg hn)
/-- the three registers out of one number -/
theorem wc_ra {g : Nat} (h : g < 512) : nI g &&& nI 7 = nI (g % 8) := pk_andN (by omega) 3 (by decide +kernel)
theorem wc_rb {g : Nat} (h : g < 512) : (nI g >>> (nI 3 &&& 31)) &&& nI 7 = nI (g / 8 % 8) := by
  rw [pk_shrN (by omega) _ 3 (by decide +kernel)]
  exact pk_andN (by have : g / 2 ^ 3 ≤ g := Nat.div_le_self _ _; omega) 3 (by decide +kernel)
theorem wc_rd {g : Nat} (h : g < 512) : nI g >>> (nI 6 &&& 31) = nI (g / 64) := pk_shrN (by omega) _ 6 (by decide +kernel)
theorem wc_sh2 {j : Nat} (h : j < 8) : nI j >>> (nI 2 &&& 31) = nI (j / 4) := pk_shrN (by omega) _ 2 (by decide +kernel)
theorem wc_an3 {j : Nat} (h : j < 8) : nI j &&& nI 3 = nI (j % 4) := pk_andN (by omega) 2 (by decide +kernel)
/-- the program of emit -/
theorem wc_Prog_em {n : Nat} {xo xr xn mo ma mb md mn : Nat → Int32} (h : wc_Prog n xo xr xn mo ma mb md mn) {op g : Int32} (w : Int32) (h1 : ¬ wc_bad op g) (h2 : ¬ 24 ≤ n) {o q : Nat} (ho : o < 8) (hq : q < 512) (eo : op = nI o) (eg : g = nI q) : wc_Prog (wc_en op g n) (upd xo n (nI o)) (upd xr n (nI q)) (upd xn n w) (wc_eU op g n mo op) (wc_eU op g n ma (g &&& nI 7)) (wc_eU op g n mb ((g >>> (nI 3 &&& 31)) &&& nI 7)) (wc_eU op g n md (g >>> (nI 6 &&& 31))) (wc_eU op g n mn w) := by
  rw [wc_en3 h1 h2, wc_eU3 h1 h2, wc_eU3 h1 h2, wc_eU3 h1 h2, wc_eU3 h1 h2, wc_eU3 h1 h2]
  subst eo
  subst eg
  rw [wc_ra hq, wc_rb hq, wc_rd hq]
  exact wc_Prog_emit h (by omega) ho hq w
theorem wc_Prog_e1 {n : Nat} {xo xr xn mo ma mb md mn : Nat → Int32} (h : wc_Prog n xo xr xn mo ma mb md mn) {op g w : Int32} {v1 v2 v3 v4 : Int32} (h1 : wc_bad op g) : wc_Prog (wc_en op g n) xo xr xn (wc_eU op g n mo v1) (wc_eU op g n ma v2) (wc_eU op g n mb v3) (wc_eU op g n md v4) (wc_eU op g n mn w) := by
  rw [wc_en1 h1, wc_eU1 h1, wc_eU1 h1, wc_eU1 h1, wc_eU1 h1, wc_eU1 h1]
  exact h
theorem wc_Prog_e2 {n : Nat} {xo xr xn mo ma mb md mn : Nat → Int32} (h : wc_Prog n xo xr xn mo ma mb md mn) {op g w : Int32} {v1 v2 v3 v4 : Int32} (h1 : ¬ wc_bad op g) (h2 : 24 ≤ n) : wc_Prog (wc_en op g n) xo xr xn (wc_eU op g n mo v1) (wc_eU op g n ma v2) (wc_eU op g n mb v3) (wc_eU op g n md v4) (wc_eU op g n mn w) := by
  rw [wc_en2 h1 h2, wc_eU2 h1 h2, wc_eU2 h1 h2, wc_eU2 h1 h2, wc_eU2 h1 h2, wc_eU2 h1 h2]
  exact h
def wc_dr (n : Nat) : Int32 := if n = 0 then -1 else nI (n - 1)
/-- one step of the machine that is not outside and not full: registers, calls, returns, position, over -/
def wc_nx (o a b d ip : Nat) (w : Int32) (ro : Nat → Int32) (k : Nat) (bk : Nat → Int32) : (Nat → Int32) × Nat × (Nat → Int32) × Int32 × Int32 := match o with
  | 0 => (upd ro (4 * k + a) w, k, bk, nI (ip + 1), 0)
  | 1 => (upd ro (4 * k + a) (ro (4 * k + b) + ro (4 * k + d)), k, bk, nI (ip + 1), 0)
  | 2 => (upd ro (4 * k + a) (ro (4 * k + b) - ro (4 * k + d)), k, bk, nI (ip + 1), 0)
  | 3 => (ro, k, bk, w, 0)
  | 4 => (upd ro (4 * k + a) (ro (4 * k + b)), k, bk, nI (ip + 1), 0)
  | 5 => (wc_cl4 ro (4 * (k + 1) + 4), k + 1, upd bk (k + 1) (nI (ip + 1)), w, 0)
  | 6 => (ro, k - 1, bk, if k = 0 then nI ip else bk k, if k = 0 then 1 else 0)
  | _ => (ro, k, bk, if ro (4 * k + a) = 0 then w else nI (ip + 1), 0)
abbrev wc_G : Type := (Nat → Int32) × Nat × (Nat → Int32) × Int32 × Int32
/-- the instruction at pa is carried out -/
abbrev wc_go (n : Nat) (mo : Nat → Int32) (k : Nat) (pa : Int32) : Prop := ¬ pa < 0 ∧ ¬ nI n ≤ pa ∧ ¬ (mo pa.toNatClampNeg = nI 5 ∧ k = 29)
def wc_nxt (mo ma mb md mn : Nat → Int32) (ro : Nat → Int32) (k : Nat) (bk : Nat → Int32) (pa : Int32) : wc_G := wc_nx (mo pa.toNatClampNeg).toNatClampNeg (ma pa.toNatClampNeg).toNatClampNeg (mb pa.toNatClampNeg).toNatClampNeg (md pa.toNatClampNeg).toNatClampNeg pa.toNatClampNeg (mn pa.toNatClampNeg) ro k bk
theorem wc_nxt_eq {mo ma mb md mn ro : Nat → Int32} {k : Nat} {bk : Nat → Int32} {ip o a b d : Nat} (hp : ip < 2 ^ 31) (ho : mo ip = nI o) (ha : ma ip = nI a) (hb : mb ip = nI b) (hd : md ip = nI d) (ho2 : o < 8) (ha2 : a < 8) (hb2 : b < 8) (hd2 : d < 8) : wc_nxt mo ma mb md mn ro k bk (nI ip) = wc_nx o a b d ip (mn ip) ro k bk := by
  unfold wc_nxt
  rw [nI_clamp hp, ho, ha, hb, hd, nI_clamp (by omega), nI_clamp (by omega), nI_clamp (by omega), nI_clamp (by omega)]
def wc_rn (n : Nat) (mo ma mb md mn : Nat → Int32) : Nat → wc_G → Nat × wc_G
  | 0, g => (0, g)
  | q + 1, g => if g.2.2.2.2 = 0 then (if wc_go n mo g.2.1 g.2.2.2.1 then ((wc_rn n mo ma mb md mn q (wc_nxt mo ma mb md mn g.1 g.2.1 g.2.2.1 g.2.2.2.1)).1 + 1, (wc_rn n mo ma mb md mn q (wc_nxt mo ma mb md mn g.1 g.2.1 g.2.2.1 g.2.2.2.1)).2) else (0, (g.1, g.2.1, g.2.2.1, g.2.2.2.1, 1))) else (0, g)
theorem wc_rn_0 {n : Nat} {mo ma mb md mn : Nat → Int32} {g : wc_G} : wc_rn n mo ma mb md mn 0 g = (0, g) := rfl
theorem wc_rn_stop {n : Nat} {mo ma mb md mn : Nat → Int32} {q : Nat} {ro : Nat → Int32} {k : Nat} {bk : Nat → Int32} {pa ov : Int32} (h : ¬ ov = 0) : wc_rn n mo ma mb md mn q (ro, k, bk, pa, ov) = (0, (ro, k, bk, pa, ov)) := by
  cases q with
  | zero => rfl
  | succ q =>
    unfold wc_rn
    exact if_neg h
theorem wc_rn_out {n : Nat} {mo ma mb md mn : Nat → Int32} {q : Nat} {ro : Nat → Int32} {k : Nat} {bk : Nat → Int32} {pa ov : Int32} (h0 : ov = 0) (h : ¬ wc_go n mo k pa) : wc_rn n mo ma mb md mn (q + 1) (ro, k, bk, pa, ov) = (0, (ro, k, bk, pa, 1)) := by
  rw [wc_rn]
  exact (if_pos h0).trans (if_neg h)
theorem wc_rn_go {n : Nat} {mo ma mb md mn : Nat → Int32} {q : Nat} {ro : Nat → Int32} {k : Nat} {bk : Nat → Int32} {pa ov : Int32} (h0 : ov = 0) (h : wc_go n mo k pa) : wc_rn n mo ma mb md mn (q + 1) (ro, k, bk, pa, ov) = ((wc_rn n mo ma mb md mn q (wc_nxt mo ma mb md mn ro k bk pa)).1 + 1, (wc_rn n mo ma mb md mn q (wc_nxt mo ma mb md mn ro k bk pa)).2) := by
  rw [wc_rn]
  exact (if_pos h0).trans (if_pos h)
/-- how many steps a run is asked for -/
def wc_cnt (x : Int32) : Nat := if x < 0 then 0 else if x ≤ nI 200 then x.toNatClampNeg else 200
theorem wc_cnt1 {x : Int32} (h : x < 0) : wc_cnt x = 0 := if_pos h
theorem wc_cnt2 {j : Nat} (h : j < 2 ^ 31) (h2 : j ≤ 200) : wc_cnt (nI j) = j := by
  unfold wc_cnt
  rw [if_neg (nI_pos h), if_pos (nI_le h2 (by omega)), nI_clamp h]
theorem wc_cnt3 {x : Int32} (h : ¬ x < 0) (h2 : ¬ x ≤ nI 200) : wc_cnt x = 200 := (if_neg h).trans (if_neg h2)
/-- the digest: one call's eight registers, then all calls -/
def wc_dgi (ro : Nat → Int32) (q : Nat) : Nat → Int32 → Int32
  | 0, v => v
  | r + 1, v => wc_dgi ro q r v + nI (8 * q + r + 1) * ro (4 * q + r)
def wc_dgo (ro : Nat → Int32) : Nat → Int32
  | 0 => 0
  | q + 1 => wc_dgi ro q 8 (wc_dgo ro q)
/-- a register's number, looked at -/
def wc_isr (x : Int32) : Int32 := if ¬ x < 0 ∧ x < nI 8 then 1 else 0
theorem wc_isr_cases (x : Int32) : (wc_isr x = 0 ∧ ¬ (¬ x < 0 ∧ x < nI 8)) ∨ (wc_isr x = 1 ∧ ∃ j, j < 8 ∧ x = nI j) := by
  by_cases h : ¬ x < 0 ∧ x < nI 8
  · refine Or.inr ⟨if_pos h, ?_⟩
    obtain ⟨j, hj, rfl⟩ := nI_of h.1
    exact ⟨j, (nI_ltI hj (by omega)).mp h.2, rfl⟩
  · exact Or.inl ⟨if_neg h, h⟩
theorem wc_78 (x : Int32) : x < nI 8 ↔ ¬ nI 7 < x := by
  rw [Int32.lt_iff_toInt_lt, Int32.lt_iff_toInt_lt, nI_toInt (by omega), nI_toInt (by omega)]
  omega
def wc_be (d x : Int32) (k : Nat) (ro : Nat → Int32) : Int32 := if ¬ d < 0 ∧ d ≤ nI k ∧ ¬ x < 0 ∧ x < nI 8 then ro (4 * (k - d.toNatClampNeg) + x.toNatClampNeg) else 0
theorem wc_be1 {q j k : Nat} {ro : Nat → Int32} (hk : k < 2 ^ 31) (hq : q ≤ k) (hj : j < 8) : wc_be (nI q) (nI j) k ro = ro (4 * (k - q) + j) := by
  unfold wc_be
  rw [if_pos ⟨nI_pos (by omega), nI_le hq hk, nI_pos (by omega), nI_lt hj (by omega)⟩, nI_clamp (by omega), nI_clamp (by omega)]
theorem wc_be2 {d x : Int32} {k : Nat} {ro : Nat → Int32} (h : ¬ (¬ d < 0 ∧ d ≤ nI k ∧ ¬ x < 0 ∧ x < nI 8)) : wc_be d x k ro = 0 := if_neg h
def wc_pu (x v : Int32) (k : Nat) (ro : Nat → Int32) : Nat → Int32 := if ¬ x < 0 ∧ x < nI 8 then upd ro (4 * k + x.toNatClampNeg) v else ro
theorem wc_pu1 {j k : Nat} {v : Int32} {ro : Nat → Int32} (hj : j < 8) : wc_pu (nI j) v k ro = upd ro (4 * k + j) v := by
  unfold wc_pu
  rw [if_pos ⟨nI_pos (by omega), nI_lt hj (by omega)⟩, nI_clamp (by omega)]
theorem wc_pu2 {x v : Int32} {k : Nat} {ro : Nat → Int32} (h : ¬ (¬ x < 0 ∧ x < nI 8)) : wc_pu x v k ro = ro := if_neg h
def wc_bt (d : Int32) (k : Nat) (bk : Nat → Int32) : Int32 := if ¬ d < 0 ∧ ¬ nI k ≤ d then bk (k - d.toNatClampNeg) else -1
theorem wc_bt1 {q k : Nat} {bk : Nat → Int32} (hk : k < 2 ^ 31) (hq : q < k) : wc_bt (nI q) k bk = bk (k - q) := by
  unfold wc_bt
  rw [if_pos ⟨nI_pos (by omega), nI_ge hq hk⟩, nI_clamp (by omega)]
theorem wc_bt2 {d : Int32} {k : Nat} {bk : Nat → Int32} (h : ¬ (¬ d < 0 ∧ ¬ nI k ≤ d)) : wc_bt d k bk = -1 := if_neg h
end
section
/-! ROWS OF OUR OWN over the kit: the two objects' worlds, a call's start, arrays at a natural index, compares of naturals -/
abbrev vwCl : List vw_C := [(RX0, TX0, 12), (RX1, TX1, 12)]
abbrev wc_SX : Type := (Nat → Int32) × (Nat → Int32) × (Nat → Int32) × Nat × Int32 × Int32 × Int32 × Nat × Nat × (Nat → Int32) × (Nat → Int32) × (Nat → Int32)
/-- WindowedCalls: ops, regs, numbers, size, at, stopped, count, call, lowest, ring, memory, returns -/
def wc_wX (hh : Nat → Nat) (dd : Nat → ClassId) (xo xr xn : Nat → Int32) (n : Nat) (pa st ct : Int32) (k lo : Nat) (rg me rt : Nat → Int32) : va_W := [(hh 0, .inr (0, [.ref (hh 1), .ref (hh 2), .ref (hh 3), .int (nI n), .int pa, .int st, .int ct, .int (nI k), .int (nI lo), .ref (hh 4), .ref (hh 5), .ref (hh 6)])), (hh 1, .inl (dd 1, 24, .inl xo)), (hh 2, .inl (dd 2, 24, .inl xr)), (hh 3, .inl (dd 3, 24, .inl xn)), (hh 4, .inl (dd 4, 16, .inl rg)), (hh 5, .inl (dd 5, 128, .inl me)), (hh 6, .inl (dd 6, 30, .inl rt))]
def wc_tX (dd : Nat → ClassId) : List (ClassId × FieldType) := [(dd 1, .byte), (dd 2, .short), (dd 3, .int), (dd 4, .int), (dd 5, .int), (dd 6, .byte)]
abbrev wc_SM : Type := Nat × (Nat → Int32) × (Nat → Int32) × (Nat → Int32) × (Nat → Int32) × (Nat → Int32) × (Nat → Int32) × Nat × (Nat → Int32) × Int32 × Int32 × Int32
/-- WindowedCallsModel: size, ops, as, bs, cs, ns, row, calls, backs, at, over, carried -/
def wc_wM (hh : Nat → Nat) (dd : Nat → ClassId) (n : Nat) (mo ma mb md mn ro : Nat → Int32) (k : Nat) (bk : Nat → Int32) (pa ov ca : Int32) : va_W := [(hh 0, .inr (1, [.int (nI n), .ref (hh 1), .ref (hh 2), .ref (hh 3), .ref (hh 4), .ref (hh 5), .ref (hh 6), .int (nI k), .ref (hh 7), .int pa, .int ov, .int ca])), (hh 1, .inl (dd 1, 24, .inl mo)), (hh 2, .inl (dd 2, 24, .inl ma)), (hh 3, .inl (dd 3, 24, .inl mb)), (hh 4, .inl (dd 4, 24, .inl md)), (hh 5, .inl (dd 5, 24, .inl mn)), (hh 6, .inl (dd 6, 124, .inl ro)), (hh 7, .inl (dd 7, 30, .inl bk))]
def wc_tM (dd : Nat → ClassId) : List (ClassId × FieldType) := [(dd 1, .int), (dd 2, .int), (dd 3, .int), (dd 4, .int), (dd 5, .int), (dd 6, .int), (dd 7, .int)]
/-- a method's start, its end -/
def wc_pw (dC : Nat → ClassId) (dI : Nat → Nat → Nat) (ws : va_W) (tys : List (ClassId × FieldType)) (sz : Nat) (U : State) : Prop := U.heap.size = sz ∧ va_P (dC, dI) vwCl ws U.heap ∧ va_K (dC, dI) vwCl tys U ∧ va_D (fun _ => True) ws
abbrev wc_bX (dC : Nat → ClassId) (dI : Nat → Nat → Nat) (hh : Nat → Nat) (dd : Nat → ClassId) (A : Nat → Prop) (u : wc_SX) (t : State) : Prop := match u with
  | (xo, xr, xn, n, pa, st, ct, k, lo, rg, me, rt) => va_P (dC, dI) vwCl (wc_wX hh dd xo xr xn n pa st ct k lo rg me rt) t.heap ∧ va_K (dC, dI) vwCl (wc_tX dd) t ∧ va_D A (wc_wX hh dd xo xr xn n pa st ct k lo rg me rt)
abbrev wc_bM (dC : Nat → ClassId) (dI : Nat → Nat → Nat) (hh : Nat → Nat) (dd : Nat → ClassId) (A : Nat → Prop) (u : wc_SM) (t : State) : Prop := match u with
  | (n, mo, ma, mb, md, mn, ro, k, bk, pa, ov, ca) => va_P (dC, dI) vwCl (wc_wM hh dd n mo ma mb md mn ro k bk pa ov ca) t.heap ∧ va_K (dC, dI) vwCl (wc_tM dd) t ∧ va_D A (wc_wM hh dd n mo ma mb md mn ro k bk pa ov ca)
theorem wc_preV {s : State} {H : Heap} {dC : Nat → ClassId} {dI : Nat → Nat → Nat} {ws : va_W} {tys : List (ClassId × FieldType)} {A : Nat → Prop} {As : List Value} {b ci q0 : Nat} {q : vw_C} {fs : List Value} (hK : va_K (dC, dI) vwCl tys s) (hP : va_P (dC, dI) vwCl ws H) (hD : va_D A ws) (hc : vwCl[ci]? = some q) (he : ws[q0]? = some (b, .inr (ci, fs))) : PreV s H q.1 b (va_Pc (.ref b :: As) (wc_pw dC dI ws tys H.size)) As :=
  ⟨fun a U g mk q => by obtain ⟨q0, q1, qP, qK, qD⟩ := q; exact ⟨q0, q1, qP, va_K.moved (u := U) (U := U.calling g mk a) (Vm.Alike.refl U.vm) qK, qD⟩, va_recv hK hP hc he, fun U hU hW => ⟨rfl, by rw [hU], by rw [hU]; exact hP, va_K.moved hW.alike hK, hD.weaken (fun _ _ _ _ => trivial)⟩⟩
/-- a method that touches no cell -/
theorem wc_preV0 {s : State} {H : Heap} {dC : Nat → ClassId} {dI : Nat → Nat → Nat} {ws : va_W} {tys : List (ClassId × FieldType)} {As : List Value} {b ci q0 : Nat} {q : vw_C} {fs : List Value} (hK : va_K (dC, dI) vwCl tys s) (hP : va_P (dC, dI) vwCl ws H) (hc : vwCl[ci]? = some q) (he : ws[q0]? = some (b, .inr (ci, fs))) : PreV s H q.1 b (va_Pc (.ref b :: As) (fun U => U.heap.size = H.size)) As :=
  ⟨fun _ _ _ _ q => q, va_recv hK hP hc he, fun U hU _ => ⟨rfl, (congrArg Array.size hU : U.heap.size = H.size)⟩⟩
theorem wc_preS {s : State} {H : Heap} {As : List Value} : PreS s H (va_Pc As (fun U => U.heap.size = H.size)) As := ⟨fun _ _ _ _ q => q, fun U hU _ => ⟨rfl, (congrArg Array.size hU : U.heap.size = H.size)⟩⟩
theorem wc_keep {D : va_G} {cl : List vw_C} {ws : va_W} {H H1 : Heap} (hP : va_P D cl ws H) (hk : ∀ q : Nat, q < H.size → ¬ va_A [] H.size q → H1[q]? = H[q]?) : va_P D cl ws H1 := hP.kept (fun k q hq => hk q.1 ((hP k q hq).lt) (by
  rintro (⟨k2, e, h⟩ | h)
  · simp at h
  · exact absurd ((hP k q hq).lt) (Nat.not_lt.mpr h)))
theorem wc_free0 {A : Nat → Prop} {H0 H : Heap} {locs : List Loc} (hS : va_S A H0 H locs) (hA : ∀ q, H0.size ≤ q → A q) : ∀ q, va_A [] H.size q → A q := by
  rintro q (⟨k2, e, h⟩ | h)
  · simp at h
  · exact hA q (Nat.le_trans hS.1 h)
section WCR
variable {p : Program} {l : Launch} {e : Env} {R : Room} {s : State} {m : MethodId} {args : Array Value} {below : List Frame} {meth : Method} {c : Code} {H : Heap} {locs : List Loc} {cells slots : Nat} {Q : State → Prop}
variable {cc : ByteArray} {pc : Nat} {ls : Array Slot} {rest : List Value} {D : va_G} {cl : List vw_C} {A : Nat → Prop} {a : Nat} {tys : List (ClassId × FieldType)} {ws : va_W} {H0 : Heap}
/-- another word for the value on top -/
theorem wc_top {x y : Int32} (h : x = y) (k : W p l e R s m args below meth c H locs cells slots Q (F0 m pc ls (.int y :: rest))) : W p l e R s m args below meth c H locs cells slots Q (F0 m pc ls (.int x :: rest)) := by
  rw [h]
  exact k
theorem wc_iadd (hexec : p.tables.exec = Jvm.exec) (hb : c.code = cc) {x y : Nat} (hdg : decode cc pc = .ok (.iadd, 1)) (k : W p l e R s m args below meth c H locs cells slots Q (F0 m (pc + 1) ls (.int (nI (x + y)) :: rest))) : W p l e R s m args below meth c H locs cells slots Q (F0 m pc ls (.int (nI y) :: .int (nI x) :: rest)) := lv_iadd hexec hb hdg (wc_top (nI_add x y) k)
theorem wc_isub (hexec : p.tables.exec = Jvm.exec) (hb : c.code = cc) {x y : Nat} (h : y ≤ x) (hdg : decode cc pc = .ok (.isub, 1)) (k : W p l e R s m args below meth c H locs cells slots Q (F0 m (pc + 1) ls (.int (nI (x - y)) :: rest))) : W p l e R s m args below meth c H locs cells slots Q (F0 m pc ls (.int (nI y) :: .int (nI x) :: rest)) := lv_isub hexec hb hdg (wc_top (pk_sub h) k)
theorem wc_imul (hexec : p.tables.exec = Jvm.exec) (hb : c.code = cc) {x y : Nat} (hdg : decode cc pc = .ok (.imul, 1)) (k : W p l e R s m args below meth c H locs cells slots Q (F0 m (pc + 1) ls (.int (nI (x * y)) :: rest))) : W p l e R s m args below meth c H locs cells slots Q (F0 m pc ls (.int (nI y) :: .int (nI x) :: rest)) := lv_imul hexec hb hdg (wc_top (pk_mul x y) k)
theorem wc_irem (hexec : p.tables.exec = Jvm.exec) (hb : c.code = cc) {x y : Nat} (h : x < 2 ^ 31) (h0 : 0 < y) (hy : y < 2 ^ 31) (hdg : decode cc pc = .ok (.irem, 1)) (k : W p l e R s m args below meth c H locs cells slots Q (F0 m (pc + 1) ls (.int (nI (x % y)) :: rest))) : W p l e R s m args below meth c H locs cells slots Q (F0 m pc ls (.int (nI y) :: .int (nI x) :: rest)) := lv_irem hexec hb hdg (nI_ne0 h0 hy) (wc_top (pk_rem h h0 hy) k)
theorem wc_iald (hexec : p.tables.exec = Jvm.exec) (hb : c.code = cc) (hK : va_K D cl tys s) (hP : va_P D cl ws H) (q0 t0 : Nat) {cA : ClassId} {n : Nat} {f : Nat → Int32} (ha : ws[q0]? = some (a, .inl (cA, n, .inl f))) (ht : tys[t0]? = some (cA, .int)) {j : Nat} (hj : j < n) (hn : n < 2 ^ 31) (hdg : decode cc pc = .ok (.iaload, 1))
    (kk : W p l e R s m args below meth c H locs cells slots Q (F0 m (pc + 1) ls (.int (f j) :: rest))) : W p l e R s m args below meth c H locs cells slots Q (F0 m pc ls (.int (nI j) :: .ref a :: rest)) := va_iald hexec hb hK hP q0 t0 ha ht (vp_in_nI hj hn) hdg (wc_top (congrArg f (nI_clamp (Nat.lt_trans hj hn))) kk)
theorem wc_bald (hexec : p.tables.exec = Jvm.exec) (hb : c.code = cc) (hK : va_K D cl tys s) (hP : va_P D cl ws H) (q0 t0 : Nat) {cA : ClassId} {n : Nat} {f : Nat → Int32} (ha : ws[q0]? = some (a, .inl (cA, n, .inl f))) (ht : tys[t0]? = some (cA, .byte)) {j : Nat} (hj : j < n) (hn : n < 2 ^ 31) (hdg : decode cc pc = .ok (.baload, 1))
    (kk : W p l e R s m args below meth c H locs cells slots Q (F0 m (pc + 1) ls (.int (f j) :: rest))) : W p l e R s m args below meth c H locs cells slots Q (F0 m pc ls (.int (nI j) :: .ref a :: rest)) := va_bald hexec hb hK hP q0 t0 ha ht (vp_in_nI hj hn) hdg (wc_top (congrArg f (nI_clamp (Nat.lt_trans hj hn))) kk)
theorem wc_sald (hexec : p.tables.exec = Jvm.exec) (hb : c.code = cc) (hK : va_K D cl tys s) (hP : va_P D cl ws H) (q0 t0 : Nat) {cA : ClassId} {n : Nat} {f : Nat → Int32} (ha : ws[q0]? = some (a, .inl (cA, n, .inl f))) (ht : tys[t0]? = some (cA, .short)) {j : Nat} (hj : j < n) (hn : n < 2 ^ 31) (hdg : decode cc pc = .ok (.saload, 1))
    (kk : W p l e R s m args below meth c H locs cells slots Q (F0 m (pc + 1) ls (.int (f j) :: rest))) : W p l e R s m args below meth c H locs cells slots Q (F0 m pc ls (.int (nI j) :: .ref a :: rest)) := va_sald hexec hb hK hP q0 t0 ha ht (vp_in_nI hj hn) hdg (wc_top (congrArg f (nI_clamp (Nat.lt_trans hj hn))) kk)
theorem wc_iast (hexec : p.tables.exec = Jvm.exec) (hb : c.code = cc) (hK : va_K D cl tys s) (hP : va_P D cl ws H) (hD : va_D A ws) (hS : va_S A H0 H locs) (q0 t0 : Nat) {cA : ClassId} {n : Nat} {f : Nat → Int32} (ha : ws[q0]? = some (a, .inl (cA, n, .inl f))) (ht : tys[t0]? = some (cA, .int)) {j : Nat} {x : Int32} (hj : j < n) (hn : n < 2 ^ 31) (hdg : decode cc pc = .ok (.iastore, 1))
    (kk : ∀ (H1 : Heap) (locs1 : List Loc), va_P D cl (ws.set q0 (a, .inl (cA, n, .inl (upd f j x)))) H1 → va_D A (ws.set q0 (a, .inl (cA, n, .inl (upd f j x)))) → va_S A H0 H1 locs1 → W p l e R s m args below meth c H1 locs1 cells slots Q (F0 m (pc + 1) ls rest)) : W p l e R s m args below meth c H locs cells slots Q (F0 m pc ls (.int x :: .int (nI j) :: .ref a :: rest)) := by
  refine va_iast hexec hb hK hP hD hS q0 t0 ha ht (vp_in_nI hj hn) hdg (fun H1 locs1 h1 h2 h3 => ?_)
  rw [nI_clamp (Nat.lt_trans hj hn)] at h1 h2
  exact kk H1 locs1 h1 h2 h3
theorem wc_bast (hexec : p.tables.exec = Jvm.exec) (hb : c.code = cc) (hK : va_K D cl tys s) (hP : va_P D cl ws H) (hD : va_D A ws) (hS : va_S A H0 H locs) (q0 t0 : Nat) {cA : ClassId} {n : Nat} {f : Nat → Int32} (ha : ws[q0]? = some (a, .inl (cA, n, .inl f))) (ht : tys[t0]? = some (cA, .byte)) {j : Nat} {x : Int32} (hj : j < n) (hn : n < 2 ^ 31) (hx : vp_nar .byte x = x) (hdg : decode cc pc = .ok (.bastore, 1))
    (kk : ∀ (H1 : Heap) (locs1 : List Loc), va_P D cl (ws.set q0 (a, .inl (cA, n, .inl (upd f j x)))) H1 → va_D A (ws.set q0 (a, .inl (cA, n, .inl (upd f j x)))) → va_S A H0 H1 locs1 → W p l e R s m args below meth c H1 locs1 cells slots Q (F0 m (pc + 1) ls rest)) : W p l e R s m args below meth c H locs cells slots Q (F0 m pc ls (.int x :: .int (nI j) :: .ref a :: rest)) := by
  refine va_bast hexec hb hK hP hD hS q0 t0 ha ht (vp_in_nI hj hn) hdg (fun H1 locs1 h1 h2 h3 => ?_)
  rw [nI_clamp (Nat.lt_trans hj hn), hx] at h1 h2
  exact kk H1 locs1 h1 h2 h3
theorem wc_sast (hexec : p.tables.exec = Jvm.exec) (hb : c.code = cc) (hK : va_K D cl tys s) (hP : va_P D cl ws H) (hD : va_D A ws) (hS : va_S A H0 H locs) (q0 t0 : Nat) {cA : ClassId} {n : Nat} {f : Nat → Int32} (ha : ws[q0]? = some (a, .inl (cA, n, .inl f))) (ht : tys[t0]? = some (cA, .short)) {j : Nat} {x : Int32} (hj : j < n) (hn : n < 2 ^ 31) (hx : vp_nar .short x = x) (hdg : decode cc pc = .ok (.sastore, 1))
    (kk : ∀ (H1 : Heap) (locs1 : List Loc), va_P D cl (ws.set q0 (a, .inl (cA, n, .inl (upd f j x)))) H1 → va_D A (ws.set q0 (a, .inl (cA, n, .inl (upd f j x)))) → va_S A H0 H1 locs1 → W p l e R s m args below meth c H1 locs1 cells slots Q (F0 m (pc + 1) ls rest)) : W p l e R s m args below meth c H locs cells slots Q (F0 m pc ls (.int x :: .int (nI j) :: .ref a :: rest)) := by
  refine va_sast hexec hb hK hP hD hS q0 t0 ha ht (vp_in_nI hj hn) hdg (fun H1 locs1 h1 h2 h3 => ?_)
  rw [nI_clamp (Nat.lt_trans hj hn), hx] at h1 h2
  exact kk H1 locs1 h1 h2 h3
theorem wc_icmp_lt (hexec : p.tables.exec = Jvm.exec) (hb : c.code = cc) {x y : Nat} {off : Int} {tgt : Nat} (hx1 : x < 2 ^ 31) (hy1 : y < 2 ^ 31) (hdg : decode cc pc = .ok (.if_icmp .lt off, 3)) (ht : (pc : Int) + off = (tgt : Int)) (kt : x < y → W p l e R s m args below meth c H locs cells slots Q (F0 m tgt ls rest)) (kf : ¬ x < y → W p l e R s m args below meth c H locs cells slots Q (F0 m (pc + 3) ls rest)) : W p l e R s m args below meth c H locs cells slots Q (F0 m pc ls (.int (nI y) :: .int (nI x) :: rest)) := lv_icmp_lt hexec hb hdg ht (fun h => kt ((nI_ltI hx1 hy1).mp h)) (fun h => kf (fun h2 => h ((nI_ltI hx1 hy1).mpr h2)))
theorem wc_icmp_ge (hexec : p.tables.exec = Jvm.exec) (hb : c.code = cc) {x y : Nat} {off : Int} {tgt : Nat} (hx1 : x < 2 ^ 31) (hy1 : y < 2 ^ 31) (hdg : decode cc pc = .ok (.if_icmp .ge off, 3)) (ht : (pc : Int) + off = (tgt : Int)) (kt : y ≤ x → W p l e R s m args below meth c H locs cells slots Q (F0 m tgt ls rest)) (kf : ¬ y ≤ x → W p l e R s m args below meth c H locs cells slots Q (F0 m (pc + 3) ls rest)) : W p l e R s m args below meth c H locs cells slots Q (F0 m pc ls (.int (nI y) :: .int (nI x) :: rest)) := lv_icmp_ge hexec hb hdg ht (fun h => kt ((nI_leI hy1 hx1).mp h)) (fun h => kf (fun h2 => h ((nI_leI hy1 hx1).mpr h2)))
theorem wc_icmp_gt (hexec : p.tables.exec = Jvm.exec) (hb : c.code = cc) {x y : Nat} {off : Int} {tgt : Nat} (hx1 : x < 2 ^ 31) (hy1 : y < 2 ^ 31) (hdg : decode cc pc = .ok (.if_icmp .gt off, 3)) (ht : (pc : Int) + off = (tgt : Int)) (kt : y < x → W p l e R s m args below meth c H locs cells slots Q (F0 m tgt ls rest)) (kf : ¬ y < x → W p l e R s m args below meth c H locs cells slots Q (F0 m (pc + 3) ls rest)) : W p l e R s m args below meth c H locs cells slots Q (F0 m pc ls (.int (nI y) :: .int (nI x) :: rest)) := lv_icmp_gt hexec hb hdg ht (fun h => kt ((nI_ltI hy1 hx1).mp h)) (fun h => kf (fun h2 => h ((nI_ltI hy1 hx1).mpr h2)))
theorem wc_icmp_le (hexec : p.tables.exec = Jvm.exec) (hb : c.code = cc) {x y : Nat} {off : Int} {tgt : Nat} (hx1 : x < 2 ^ 31) (hy1 : y < 2 ^ 31) (hdg : decode cc pc = .ok (.if_icmp .le off, 3)) (ht : (pc : Int) + off = (tgt : Int)) (kt : x ≤ y → W p l e R s m args below meth c H locs cells slots Q (F0 m tgt ls rest)) (kf : ¬ x ≤ y → W p l e R s m args below meth c H locs cells slots Q (F0 m (pc + 3) ls rest)) : W p l e R s m args below meth c H locs cells slots Q (F0 m pc ls (.int (nI y) :: .int (nI x) :: rest)) := lv_icmp_le hexec hb hdg ht (fun h => kt ((nI_leI hx1 hy1).mp h)) (fun h => kf (fun h2 => h ((nI_leI hx1 hy1).mpr h2)))
theorem wc_icmp_eq (hexec : p.tables.exec = Jvm.exec) (hb : c.code = cc) {x y : Nat} {off : Int} {tgt : Nat} (hx1 : x < 2 ^ 31) (hy1 : y < 2 ^ 31) (hdg : decode cc pc = .ok (.if_icmp .eq off, 3)) (ht : (pc : Int) + off = (tgt : Int)) (kt : x = y → W p l e R s m args below meth c H locs cells slots Q (F0 m tgt ls rest)) (kf : ¬ x = y → W p l e R s m args below meth c H locs cells slots Q (F0 m (pc + 3) ls rest)) : W p l e R s m args below meth c H locs cells slots Q (F0 m pc ls (.int (nI y) :: .int (nI x) :: rest)) := lv_icmp_eq hexec hb hdg ht (fun h => kt ((nI_eq hx1 hy1).mp h)) (fun h => kf (fun h2 => h ((nI_eq hx1 hy1).mpr h2)))
theorem wc_icmp_ne (hexec : p.tables.exec = Jvm.exec) (hb : c.code = cc) {x y : Nat} {off : Int} {tgt : Nat} (hx1 : x < 2 ^ 31) (hy1 : y < 2 ^ 31) (hdg : decode cc pc = .ok (.if_icmp .ne off, 3)) (ht : (pc : Int) + off = (tgt : Int)) (kt : ¬ x = y → W p l e R s m args below meth c H locs cells slots Q (F0 m tgt ls rest)) (kf : x = y → W p l e R s m args below meth c H locs cells slots Q (F0 m (pc + 3) ls rest)) : W p l e R s m args below meth c H locs cells slots Q (F0 m pc ls (.int (nI y) :: .int (nI x) :: rest)) := lv_icmp_ne hexec hb hdg ht (fun h => kt (fun h2 => h ((nI_eq hx1 hy1).mpr h2))) (fun h => kf ((nI_eq hx1 hy1).mp h))
theorem wc_if_eq (hexec : p.tables.exec = Jvm.exec) (hb : c.code = cc) {x : Nat} {off : Int} {tgt : Nat} (hx1 : x < 2 ^ 31) (hdg : decode cc pc = .ok (.ifCond .eq off, 3)) (ht : (pc : Int) + off = (tgt : Int)) (kt : x = 0 → W p l e R s m args below meth c H locs cells slots Q (F0 m tgt ls rest)) (kf : ¬ x = 0 → W p l e R s m args below meth c H locs cells slots Q (F0 m (pc + 3) ls rest)) : W p l e R s m args below meth c H locs cells slots Q (F0 m pc ls (.int (nI x) :: rest)) := lv_if_eq hexec hb hdg ht (fun h => kt ((show nI x = 0 ↔ x = 0 by rw [← nI_0]; exact nI_eq hx1 (by omega)).mp h)) (fun h => kf (fun h2 => h ((show nI x = 0 ↔ x = 0 by rw [← nI_0]; exact nI_eq hx1 (by omega)).mpr h2)))
theorem wc_if_ne (hexec : p.tables.exec = Jvm.exec) (hb : c.code = cc) {x : Nat} {off : Int} {tgt : Nat} (hx1 : x < 2 ^ 31) (hdg : decode cc pc = .ok (.ifCond .ne off, 3)) (ht : (pc : Int) + off = (tgt : Int)) (kt : ¬ x = 0 → W p l e R s m args below meth c H locs cells slots Q (F0 m tgt ls rest)) (kf : x = 0 → W p l e R s m args below meth c H locs cells slots Q (F0 m (pc + 3) ls rest)) : W p l e R s m args below meth c H locs cells slots Q (F0 m pc ls (.int (nI x) :: rest)) := lv_if_ne hexec hb hdg ht (fun h => kt (fun h2 => h ((show nI x = 0 ↔ x = 0 by rw [← nI_0]; exact nI_eq hx1 (by omega)).mpr h2))) (fun h => kf ((show nI x = 0 ↔ x = 0 by rw [← nI_0]; exact nI_eq hx1 (by omega)).mp h))
end WCR
end
section
/-! WindowedCalls: the methods that call little -/
set_option maxHeartbeats 4000000 in
set_option maxRecDepth 100000 in
/-- placeOf(b) -/
theorem wc_placeOf (l : Launch) (sz : Nat) (j : Nat) (hj : j ≤ 64) : Met l yX0_placeOf (ws_ yX0_placeOf cX0_placeOf 1 (some .int)) ({ frames := 0, cells := 0, slots := 0, locals := 0 }) (va_Pc [.int (nI j)] (fun U => U.heap.size = sz)) (va_Qi (fun (r : Int32) (_ : Unit) => r = nI (j % 4 * 4)) (fun _ _ => True) (va_A [] sz)) 0 0 (va_A [] sz) := by
  refine Met.ofW (cc := cX0_placeOf) (maxL := 1) (ret := (some .int)) (by decide) rfl ?_
  intro p e s m args below meth c s₁ B hml hv
  obtain ⟨rfl, hsz⟩ := hv
  have hx := B.exec
  have hb := B.bytes
  have hr := B.returns
  have hts := atoms_spec (ws := ws_ yX0_placeOf cX0_placeOf 1 (some .int)) B.pre
  have hts : ∀ w ∈ lw_all, w.before _ s = true := fun w h => hts w (List.mem_cons_of_mem _ h)
  have hown : s.vm.findClass RX0 = some m.cls := findClass_of_methodNamed B.named
  have hlocks := B.notSynchronized
  subst hsz
  generalize hAe : va_A [] s.heap.size = A
  have hA : ∀ q : Nat, s.heap.size ≤ q → A q := fun q h => by rw [← hAe]; exact Or.inr h
  have hS : va_S A s.heap s.heap [] := va_S.rf
  have hl := lv_entry ([.int (nI j)]) (n := 1) (Nat.le_of_ble_eq_true rfl)
  rw [lg_entry_eq]
  generalize (lg_sl ([.int (nI j)]) ++ List.replicate (1 - (lg_sl ([.int (nI j)])).length) Slot.unset).toArray = ls at hl ⊢
  have hl : lv_has ls 1 [(0, .int (nI j))] := hl
  refine lv_iload_n hx hb dX0_placeOf_0 rfl (lv_at hl 0 rfl) ?_
  refine lv_iconst (v := nI 4) hx hb dX0_placeOf_1 (by decide +kernel) ?_
  refine wc_irem hx hb (x := j) (y := 4) (by omega) (by omega) (by omega) dX0_placeOf_2 ?_
  refine lv_iconst (v := nI 4) hx hb dX0_placeOf_3 (by decide +kernel) ?_
  refine wc_imul hx hb (x := j % 4) (y := 4) dX0_placeOf_4 ?_
  exact W.iret (v := nI ((j % 4) * 4)) hx hb hr (fun t ht hW => ⟨⟨nI ((j % 4) * 4), (), rfl, rfl, trivial⟩, hS.F ht⟩) hS.2.2 dX0_placeOf_5
set_option maxHeartbeats 4000000 in
set_option maxRecDepth 100000 in
/-- cellOf(k, r) -/
theorem wc_cellOf (l : Launch) (sz : Nat) (a j : Nat) (ha : a ≤ 32) (hj : j < 8) : Met l yX0_cellOf (ws_ yX0_cellOf cX0_cellOf 3 (some .int)) ({ frames := 1, cells := 0, slots := 0, locals := 20 }) (va_Pc [.int (nI a), .int (nI j)] (fun U => U.heap.size = sz)) (va_Qi (fun (r : Int32) (_ : Unit) => r = nI ((a + j / 4) % 4 * 4 + j % 4)) (fun _ _ => True) (va_A [] sz)) 0 0 (va_A [] sz) := by
  refine Met.ofW (cc := cX0_cellOf) (maxL := 3) (ret := (some .int)) (by decide) rfl ?_
  intro p e s m args below meth c s₁ B hml hv
  obtain ⟨rfl, hsz⟩ := hv
  have hx := B.exec
  have hb := B.bytes
  have hr := B.returns
  have hts := atoms_spec (ws := ws_ yX0_cellOf cX0_cellOf 3 (some .int)) B.pre
  have hts : ∀ w ∈ lw_all, w.before _ s = true := fun w h => hts w (List.mem_cons_of_mem _ h)
  have hown : s.vm.findClass RX0 = some m.cls := findClass_of_methodNamed B.named
  have hlocks := B.notSynchronized
  subst hsz
  generalize hAe : va_A [] s.heap.size = A
  have hA : ∀ q : Nat, s.heap.size ≤ q → A q := fun q h => by rw [← hAe]; exact Or.inr h
  have hS : va_S A s.heap s.heap [] := va_S.rf
  have hl := lv_entry ([.int (nI a), .int (nI j)]) (n := 3) (Nat.le_of_ble_eq_true rfl)
  rw [lg_entry_eq]
  generalize (lg_sl ([.int (nI a), .int (nI j)]) ++ List.replicate (3 - (lg_sl ([.int (nI a), .int (nI j)])).length) Slot.unset).toArray = ls at hl ⊢
  have hl : lv_has ls 3 [(0, .int (nI a)), (1, .int (nI j))] := hl
  refine lv_iload_n hx hb dX0_cellOf_0 rfl (lv_at hl 0 rfl) ?_
  refine lv_iload_n hx hb dX0_cellOf_1 rfl (lv_at hl 1 rfl) ?_
  refine lv_iconst (v := nI 2) hx hb dX0_cellOf_2 (by decide +kernel) ?_
  refine lv_ishr hx hb dX0_cellOf_3 ?_
  refine wc_top (show nI j >>> (nI 2 &&& 31) = nI (j / 4) from wc_sh2 hj) ?_
  refine wc_iadd hx hb (x := a) (y := j / 4) dX0_cellOf_4 ?_
  refine lv_istore_n (lv' := [(2, .int (nI (a + (j / 4)))), (0, .int (nI a)), (1, .int (nI j))]) hx hb dX0_cellOf_5 rfl hl (by decide) rfl (fun ls hl => ?_)
  refine lv_iload_n hx hb dX0_cellOf_6 rfl (lv_at hl 0 rfl) ?_
  have hFc := wc_free0 hS hA
  refine va_calli (va_runS (As := [.int (nI (a + (j / 4)))]) (rest := []) ⟨hx, hb, hml, hown, hts⟩ (wc_placeOf l s.heap.size (a + j / 4) (by omega)) (va_cwS 1 hts (lw_S q77 q78 q11 q79) rfl rfl rfl (by decide +kernel) ⟨Nat.le_of_ble_eq_true rfl, Nat.le_of_ble_eq_true rfl⟩) wc_preS rfl rfl hl.1 rfl (lv_room (Nat.le_of_ble_eq_true rfl)) dX0_cellOf_7 ⟨Nat.le_of_ble_eq_true rfl, Nat.le_of_ble_eq_true rfl⟩) hS (fun q _ h => hFc q h) hFc (fun r_7 u t H_1 locs ht hvm hw hBw hz1 hk1 hS => ?_)
  have hq_7 := hw
  refine wc_top (show r_7 = nI ((a + j / 4) % 4 * 4) from hq_7) ?_
  refine lv_iload_n hx hb dX0_cellOf_10 rfl (lv_at hl 2 rfl) ?_
  refine lv_iconst (v := nI 3) hx hb dX0_cellOf_11 (by decide +kernel) ?_
  refine lv_iand hx hb dX0_cellOf_12 ?_
  refine wc_top (show nI j &&& nI 3 = nI (j % 4) from wc_an3 hj) ?_
  refine wc_iadd hx hb (x := (a + j / 4) % 4 * 4) (y := j % 4) dX0_cellOf_13 ?_
  exact W.iret (v := nI ((a + j / 4) % 4 * 4 + (j % 4))) hx hb hr (fun t ht hW => ⟨⟨nI ((a + j / 4) % 4 * 4 + (j % 4)), (), rfl, rfl, trivial⟩, hS.F ht⟩) hS.2.2 dX0_cellOf_14
set_option maxHeartbeats 4000000 in
set_option maxRecDepth 100000 in
/-- get(r): the register of the present call -/
theorem wc_get (l : Launch) (dC : Nat → ClassId) (dI : Nat → Nat → Nat) (hh : Nat → Nat) (dd : Nat → ClassId) (sz : Nat) (xo xr xn : Nat → Int32) (n : Nat) (pa st ct : Int32) (k lo : Nat) (rg me rt : Nat → Int32) (ro : Nat → Int32) (hB : wc_Blk k lo rg me ro) (j : Nat) (hj : j < 8) : Met l yX0_get (ws_ yX0_get cX0_get 2 (some .int)) ({ frames := 2, cells := 0, slots := 0, locals := 42 }) (va_Pc [.ref (hh 0), .int (nI j)] (wc_pw dC dI (wc_wX hh dd xo xr xn n pa st ct k lo rg me rt) (wc_tX dd) sz)) (va_Qi (fun (r : Int32) (u : wc_SX) => r = ro (4 * k + j) ∧ u = (xo, xr, xn, n, pa, st, ct, k, lo, rg, me, rt)) (wc_bX dC dI hh dd (va_A (wc_wX hh dd xo xr xn n pa st ct k lo rg me rt) sz)) (va_A (wc_wX hh dd xo xr xn n pa st ct k lo rg me rt) sz)) 0 0 (va_A (wc_wX hh dd xo xr xn n pa st ct k lo rg me rt) sz) := by
  refine Met.ofW (cc := cX0_get) (maxL := 2) (ret := (some .int)) (by decide) rfl ?_
  intro p e s m args below meth c s₁ B hml hv
  obtain ⟨rfl, hsz, hP, hK, hD0⟩ := hv
  have hx := B.exec
  have hb := B.bytes
  have hr := B.returns
  have hts := atoms_spec (ws := ws_ yX0_get cX0_get 2 (some .int)) B.pre
  have hts : ∀ w ∈ lw_all, w.before _ s = true := fun w h => hts w (List.mem_cons_of_mem _ h)
  have hown : s.vm.findClass RX0 = some m.cls := findClass_of_methodNamed B.named
  have hlocks := B.notSynchronized
  subst hsz
  have hD := hD0.self (sz := s.heap.size)
  generalize hAe : va_A (wc_wX hh dd xo xr xn n pa st ct k lo rg me rt) s.heap.size = A at hD ⊢
  have hA : ∀ q : Nat, s.heap.size ≤ q → A q := fun q h => by rw [← hAe]; exact Or.inr h
  have hS : va_S A s.heap s.heap [] := va_S.rf
  have hP : va_P (dC, dI) vwCl (wc_wX hh dd xo xr xn n pa st ct k lo rg me rt) s.heap := hP
  have hl := lv_entry ([.ref (hh 0), .int (nI j)]) (n := 2) (Nat.le_of_ble_eq_true rfl)
  rw [lg_entry_eq]
  generalize (lg_sl ([.ref (hh 0), .int (nI j)]) ++ List.replicate (2 - (lg_sl ([.ref (hh 0), .int (nI j)])).length) Slot.unset).toArray = ls at hl ⊢
  have hl : lv_has ls 2 [(0, .ref (hh 0)), (1, .int (nI j))] := hl
  have hk29 := hB.2.2.1
  refine lv_aload_n hx hb dX0_get_0 rfl (lv_at hl 0 rfl) ?_
  refine va_get (D := (dC, dI)) (ci := 0) (v := .ref (hh 4)) (C := RX0) (T := TX0) (N := 12) hx hb hts in_X0 hown hK hP 0 rfl rfl 9 (by decide) (hts _ q30) (fun _ h9 => h9) rfl dX0_get_1 ?_
  refine lv_aload_n hx hb dX0_get_4 rfl (lv_at hl 0 rfl) ?_
  refine va_get (D := (dC, dI)) (ci := 0) (v := .int (nI k)) (C := RX0) (T := TX0) (N := 12) hx hb hts in_X0 hown hK hP 0 rfl rfl 7 (by decide) (hts _ q28) (fun _ h9 => h9) rfl dX0_get_5 ?_
  refine lv_iload_n hx hb dX0_get_8 rfl (lv_at hl 1 rfl) ?_
  have hFc := wc_free0 hS hA
  refine va_calli (va_runS (As := [.int (nI k), .int (nI j)]) (rest := [.ref (hh 4)]) ⟨hx, hb, hml, hown, hts⟩ (wc_cellOf l s.heap.size k j (by omega) hj) (va_cwS 2 hts (lw_S q104 q105 q11 q106) rfl rfl rfl (by decide +kernel) ⟨Nat.le_of_ble_eq_true rfl, Nat.le_of_ble_eq_true rfl⟩) wc_preS rfl rfl hl.1 rfl (lv_room (Nat.le_of_ble_eq_true rfl)) dX0_get_9 ⟨Nat.le_of_ble_eq_true rfl, Nat.le_of_ble_eq_true rfl⟩) hS (fun q _ h => hFc q h) hFc (fun r_9 u t H_1 locs ht hvm hw hBw hz1 hk1 hS => ?_)
  have hq_9 := hw
  have hP := wc_keep hP hk1
  refine wc_top (show r_9 = nI ((k + j / 4) % 4 * 4 + j % 4) from hq_9) ?_
  refine wc_iald hx hb hK hP 4 3 rfl rfl (j := (k + j / 4) % 4 * 4 + j % 4) (by omega) (by decide) dX0_get_12 ?_
  refine wc_top (show rg ((k + j / 4) % 4 * 4 + j % 4) = ro (4 * k + j) from wc_Blk_get hB hj) ?_
  exact W.iret (v := ro (4 * k + j)) hx hb hr (fun t ht hW => ⟨⟨ro (4 * k + j), (xo, xr, xn, n, pa, st, ct, k, lo, rg, me, rt), rfl, ⟨rfl, rfl⟩, by rw [ht]; exact hP, va_K.moved hW.alike hK, hD⟩, hS.F ht⟩) hS.2.2 dX0_get_13
set_option maxHeartbeats 4000000 in
set_option maxRecDepth 100000 in
/-- set(r, v) -/
theorem wc_set (l : Launch) (dC : Nat → ClassId) (dI : Nat → Nat → Nat) (hh : Nat → Nat) (dd : Nat → ClassId) (sz : Nat) (xo xr xn : Nat → Int32) (n : Nat) (pa st ct : Int32) (k lo : Nat) (rg me rt : Nat → Int32) (ro : Nat → Int32) (hB : wc_Blk k lo rg me ro) (j : Nat) (hj : j < 8) (v : Int32) : Met l yX0_set (ws_ yX0_set cX0_set 4 none) ({ frames := 2, cells := 0, slots := 0, locals := 42 }) (va_Pc [.ref (hh 0), .int (nI j), .int v] (wc_pw dC dI (wc_wX hh dd xo xr xn n pa st ct k lo rg me rt) (wc_tX dd) sz)) (va_Qv (fun (u : wc_SX) => ∃ rg' : Nat → Int32, u = (xo, xr, xn, n, pa, st, ct, k, lo, rg', me, rt) ∧ wc_Blk k lo rg' me (upd ro (4 * k + j) v)) (wc_bX dC dI hh dd (va_A (wc_wX hh dd xo xr xn n pa st ct k lo rg me rt) sz)) (va_A (wc_wX hh dd xo xr xn n pa st ct k lo rg me rt) sz)) 0 0 (va_A (wc_wX hh dd xo xr xn n pa st ct k lo rg me rt) sz) := by
  refine Met.ofW (cc := cX0_set) (maxL := 4) (ret := none) (by decide) rfl ?_
  intro p e s m args below meth c s₁ B hml hv
  obtain ⟨rfl, hsz, hP, hK, hD0⟩ := hv
  have hx := B.exec
  have hb := B.bytes
  have hr := B.returns
  have hts := atoms_spec (ws := ws_ yX0_set cX0_set 4 none) B.pre
  have hts : ∀ w ∈ lw_all, w.before _ s = true := fun w h => hts w (List.mem_cons_of_mem _ h)
  have hown : s.vm.findClass RX0 = some m.cls := findClass_of_methodNamed B.named
  have hlocks := B.notSynchronized
  subst hsz
  have hD := hD0.self (sz := s.heap.size)
  generalize hAe : va_A (wc_wX hh dd xo xr xn n pa st ct k lo rg me rt) s.heap.size = A at hD ⊢
  have hA : ∀ q : Nat, s.heap.size ≤ q → A q := fun q h => by rw [← hAe]; exact Or.inr h
  have hS : va_S A s.heap s.heap [] := va_S.rf
  have hP : va_P (dC, dI) vwCl (wc_wX hh dd xo xr xn n pa st ct k lo rg me rt) s.heap := hP
  have hl := lv_entry ([.ref (hh 0), .int (nI j), .int v]) (n := 4) (Nat.le_of_ble_eq_true rfl)
  rw [lg_entry_eq]
  generalize (lg_sl ([.ref (hh 0), .int (nI j), .int v]) ++ List.replicate (4 - (lg_sl ([.ref (hh 0), .int (nI j), .int v])).length) Slot.unset).toArray = ls at hl ⊢
  have hl : lv_has ls 4 [(0, .ref (hh 0)), (1, .int (nI j)), (2, .int v)] := hl
  have hk29 := hB.2.2.1
  refine lv_aload_n hx hb dX0_set_0 rfl (lv_at hl 0 rfl) ?_
  refine va_get (D := (dC, dI)) (ci := 0) (v := .int (nI k)) (C := RX0) (T := TX0) (N := 12) hx hb hts in_X0 hown hK hP 0 rfl rfl 7 (by decide) (hts _ q28) (fun _ h9 => h9) rfl dX0_set_1 ?_
  refine lv_iload_n hx hb dX0_set_4 rfl (lv_at hl 1 rfl) ?_
  have hFc := wc_free0 hS hA
  refine va_calli (va_runS (As := [.int (nI k), .int (nI j)]) (rest := []) ⟨hx, hb, hml, hown, hts⟩ (wc_cellOf l s.heap.size k j (by omega) hj) (va_cwS 2 hts (lw_S q104 q105 q11 q106) rfl rfl rfl (by decide +kernel) ⟨Nat.le_of_ble_eq_true rfl, Nat.le_of_ble_eq_true rfl⟩) wc_preS rfl rfl hl.1 rfl (lv_room (Nat.le_of_ble_eq_true rfl)) dX0_set_5 ⟨Nat.le_of_ble_eq_true rfl, Nat.le_of_ble_eq_true rfl⟩) hS (fun q _ h => hFc q h) hFc (fun r_5 u t H_1 locs ht hvm hw hBw hz1 hk1 hS => ?_)
  have hq_5 := hw
  have hP := wc_keep hP hk1
  refine wc_top (show r_5 = nI ((k + j / 4) % 4 * 4 + j % 4) from hq_5) ?_
  refine lv_istore_n (lv' := [(3, .int (nI ((k + j / 4) % 4 * 4 + j % 4))), (0, .ref (hh 0)), (1, .int (nI j)), (2, .int v)]) hx hb dX0_set_8 rfl hl (by decide) rfl (fun ls hl => ?_)
  refine lv_aload_n hx hb dX0_set_9 rfl (lv_at hl 1 rfl) ?_
  refine va_get (D := (dC, dI)) (ci := 0) (v := .ref (hh 4)) (C := RX0) (T := TX0) (N := 12) hx hb hts in_X0 hown hK hP 0 rfl rfl 9 (by decide) (hts _ q30) (fun _ h9 => h9) rfl dX0_set_10 ?_
  refine lv_iload_n hx hb dX0_set_13 rfl (lv_at hl 0 rfl) ?_
  refine lv_iload_n hx hb dX0_set_14 rfl (lv_at hl 3 rfl) ?_
  refine wc_iast hx hb hK hP hD hS 4 3 rfl rfl (j := (k + j / 4) % 4 * 4 + j % 4) (by omega) (by decide) dX0_set_15 (fun H_2 locs hP hD hS => ?_)
  have hP : va_P (dC, dI) vwCl (wc_wX hh dd xo xr xn n pa st ct k lo (upd rg ((k + j / 4) % 4 * 4 + j % 4) v) me rt) H_2 := hP
  have hD : va_D A (wc_wX hh dd xo xr xn n pa st ct k lo (upd rg ((k + j / 4) % 4 * 4 + j % 4) v) me rt) := hD
  exact W.vret hx hb hr (fun t ht hW => ⟨⟨(xo, xr, xn, n, pa, st, ct, k, lo, upd rg ((k + j / 4) % 4 * 4 + j % 4) v, me, rt), rfl, ⟨_, rfl, wc_Blk_set hB hj v⟩, by rw [ht]; exact hP, va_K.moved hW.alike hK, hD⟩, hS.F ht⟩) hS.2.2 dX0_set_16
set_option maxHeartbeats 4000000 in
set_option maxRecDepth 100000 in
/-- registerOf(k, r): of any call -/
theorem wc_registerOf (l : Launch) (dC : Nat → ClassId) (dI : Nat → Nat → Nat) (hh : Nat → Nat) (dd : Nat → ClassId) (sz : Nat) (xo xr xn : Nat → Int32) (n : Nat) (pa st ct : Int32) (k lo : Nat) (rg me rt : Nat → Int32) (ro : Nat → Int32) (hB : wc_Blk k lo rg me ro) (a j : Nat) (ha : a ≤ k) (hj : j < 8) : Met l yX0_registerOf (ws_ yX0_registerOf cX0_registerOf 4 (some .int)) ({ frames := 2, cells := 0, slots := 0, locals := 42 }) (va_Pc [.ref (hh 0), .int (nI a), .int (nI j)] (wc_pw dC dI (wc_wX hh dd xo xr xn n pa st ct k lo rg me rt) (wc_tX dd) sz)) (va_Qi (fun (r : Int32) (u : wc_SX) => r = ro (4 * a + j) ∧ u = (xo, xr, xn, n, pa, st, ct, k, lo, rg, me, rt)) (wc_bX dC dI hh dd (va_A (wc_wX hh dd xo xr xn n pa st ct k lo rg me rt) sz)) (va_A (wc_wX hh dd xo xr xn n pa st ct k lo rg me rt) sz)) 0 0 (va_A (wc_wX hh dd xo xr xn n pa st ct k lo rg me rt) sz) := by
  refine Met.ofW (cc := cX0_registerOf) (maxL := 4) (ret := (some .int)) (by decide) rfl ?_
  intro p e s m args below meth c s₁ B hml hv
  obtain ⟨rfl, hsz, hP, hK, hD0⟩ := hv
  have hx := B.exec
  have hb := B.bytes
  have hr := B.returns
  have hts := atoms_spec (ws := ws_ yX0_registerOf cX0_registerOf 4 (some .int)) B.pre
  have hts : ∀ w ∈ lw_all, w.before _ s = true := fun w h => hts w (List.mem_cons_of_mem _ h)
  have hown : s.vm.findClass RX0 = some m.cls := findClass_of_methodNamed B.named
  have hlocks := B.notSynchronized
  subst hsz
  have hD := hD0.self (sz := s.heap.size)
  generalize hAe : va_A (wc_wX hh dd xo xr xn n pa st ct k lo rg me rt) s.heap.size = A at hD ⊢
  have hA : ∀ q : Nat, s.heap.size ≤ q → A q := fun q h => by rw [← hAe]; exact Or.inr h
  have hS : va_S A s.heap s.heap [] := va_S.rf
  have hP : va_P (dC, dI) vwCl (wc_wX hh dd xo xr xn n pa st ct k lo rg me rt) s.heap := hP
  have hl := lv_entry ([.ref (hh 0), .int (nI a), .int (nI j)]) (n := 4) (Nat.le_of_ble_eq_true rfl)
  rw [lg_entry_eq]
  generalize (lg_sl ([.ref (hh 0), .int (nI a), .int (nI j)]) ++ List.replicate (4 - (lg_sl ([.ref (hh 0), .int (nI a), .int (nI j)])).length) Slot.unset).toArray = ls at hl ⊢
  have hl : lv_has ls 4 [(0, .ref (hh 0)), (1, .int (nI a)), (2, .int (nI j))] := hl
  have hk29 := hB.2.2.1
  have hlo := hB.1
  refine lv_iload_n hx hb dX0_registerOf_0 rfl (lv_at hl 1 rfl) ?_
  refine lv_iload_n hx hb dX0_registerOf_1 rfl (lv_at hl 2 rfl) ?_
  refine lv_iconst (v := nI 2) hx hb dX0_registerOf_2 (by decide +kernel) ?_
  refine lv_ishr hx hb dX0_registerOf_3 ?_
  refine wc_top (show nI j >>> (nI 2 &&& 31) = nI (j / 4) from wc_sh2 hj) ?_
  refine wc_iadd hx hb (x := a) (y := j / 4) dX0_registerOf_4 ?_
  refine lv_istore_n (lv' := [(3, .int (nI (a + (j / 4)))), (0, .ref (hh 0)), (1, .int (nI a)), (2, .int (nI j))]) hx hb dX0_registerOf_5 rfl hl (by decide) rfl (fun ls hl => ?_)
  refine lv_iload_n hx hb dX0_registerOf_6 rfl (lv_at hl 0 rfl) ?_
  refine lv_aload_n hx hb dX0_registerOf_7 rfl (lv_at hl 1 rfl) ?_
  refine va_get (D := (dC, dI)) (ci := 0) (v := .int (nI lo)) (C := RX0) (T := TX0) (N := 12) hx hb hts in_X0 hown hK hP 0 rfl rfl 8 (by decide) (hts _ q29) (fun _ h9 => h9) rfl dX0_registerOf_8 ?_
  refine wc_icmp_lt (tgt := 27) hx hb (x := a + (j / 4)) (y := lo) (by omega) (by omega) dX0_registerOf_11 (by decide) (fun c_11 => ?_) (fun c_11 => ?_)
  · refine lv_aload_n hx hb dX0_registerOf_27 rfl (lv_at hl 1 rfl) ?_
    refine va_get (D := (dC, dI)) (ci := 0) (v := .ref (hh 5)) (C := RX0) (T := TX0) (N := 12) hx hb hts in_X0 hown hK hP 0 rfl rfl 10 (by decide) (hts _ q31) (fun _ h9 => h9) rfl dX0_registerOf_28 ?_
    refine lv_iload_n hx hb dX0_registerOf_31 rfl (lv_at hl 0 rfl) ?_
    refine lv_iconst (v := nI 4) hx hb dX0_registerOf_32 (by decide +kernel) ?_
    refine wc_imul hx hb (x := a + (j / 4)) (y := 4) dX0_registerOf_33 ?_
    refine lv_iload_n hx hb dX0_registerOf_34 rfl (lv_at hl 3 rfl) ?_
    refine lv_iconst (v := nI 3) hx hb dX0_registerOf_35 (by decide +kernel) ?_
    refine lv_iand hx hb dX0_registerOf_36 ?_
    refine wc_top (show nI j &&& nI 3 = nI (j % 4) from wc_an3 hj) ?_
    refine wc_iadd hx hb (x := (a + (j / 4)) * 4) (y := j % 4) dX0_registerOf_37 ?_
    refine wc_iald hx hb hK hP 5 4 rfl rfl (j := (a + (j / 4)) * 4 + (j % 4)) (by omega) (by decide) dX0_registerOf_38 ?_
    refine wc_top (show me ((a + (j / 4)) * 4 + (j % 4)) = ro (4 * a + j) from wc_Blk_mem hB hj ha c_11) ?_
    exact W.iret (v := ro (4 * a + j)) hx hb hr (fun t ht hW => ⟨⟨ro (4 * a + j), (xo, xr, xn, n, pa, st, ct, k, lo, rg, me, rt), rfl, ⟨rfl, rfl⟩, by rw [ht]; exact hP, va_K.moved hW.alike hK, hD⟩, hS.F ht⟩) hS.2.2 dX0_registerOf_39
  · refine lv_aload_n hx hb dX0_registerOf_14 rfl (lv_at hl 1 rfl) ?_
    refine va_get (D := (dC, dI)) (ci := 0) (v := .ref (hh 4)) (C := RX0) (T := TX0) (N := 12) hx hb hts in_X0 hown hK hP 0 rfl rfl 9 (by decide) (hts _ q30) (fun _ h9 => h9) rfl dX0_registerOf_15 ?_
    refine lv_iload_n hx hb dX0_registerOf_18 rfl (lv_at hl 2 rfl) ?_
    refine lv_iload_n hx hb dX0_registerOf_19 rfl (lv_at hl 3 rfl) ?_
    have hFc := wc_free0 hS hA
    refine va_calli (va_runS (As := [.int (nI a), .int (nI j)]) (rest := [.ref (hh 4)]) ⟨hx, hb, hml, hown, hts⟩ (wc_cellOf l s.heap.size a j (by omega) hj) (va_cwS 2 hts (lw_S q104 q105 q11 q106) rfl rfl rfl (by decide +kernel) ⟨Nat.le_of_ble_eq_true rfl, Nat.le_of_ble_eq_true rfl⟩) wc_preS rfl rfl hl.1 rfl (lv_room (Nat.le_of_ble_eq_true rfl)) dX0_registerOf_20 ⟨Nat.le_of_ble_eq_true rfl, Nat.le_of_ble_eq_true rfl⟩) hS (fun q _ h => hFc q h) hFc (fun r_20 u t H_1 locs ht hvm hw hBw hz1 hk1 hS => ?_)
    have hq_20 := hw
    have hP := wc_keep hP hk1
    refine wc_top (show r_20 = nI ((a + j / 4) % 4 * 4 + j % 4) from hq_20) ?_
    refine wc_iald hx hb hK hP 4 3 rfl rfl (j := (a + j / 4) % 4 * 4 + j % 4) (by omega) (by decide) dX0_registerOf_23 ?_
    refine lv_goto (tgt := 39) hx hb dX0_registerOf_24 (by decide) ?_
    refine wc_top (show rg ((a + j / 4) % 4 * 4 + j % 4) = ro (4 * a + j) from wc_Blk_ring hB hj ha (by omega)) ?_
    exact W.iret (v := ro (4 * a + j)) hx hb hr (fun t ht hW => ⟨⟨ro (4 * a + j), (xo, xr, xn, n, pa, st, ct, k, lo, rg, me, rt), rfl, ⟨rfl, rfl⟩, by rw [ht]; exact hP, va_K.moved hW.alike hK, hD⟩, hS.F ht⟩) hS.2.2 dX0_registerOf_39
set_option maxHeartbeats 4000000 in
set_option maxRecDepth 100000 in
/-- clearBlock(b) -/
theorem wc_clearBlock (l : Launch) (dC : Nat → ClassId) (dI : Nat → Nat → Nat) (hh : Nat → Nat) (dd : Nat → ClassId) (sz : Nat) (xo xr xn : Nat → Int32) (n : Nat) (pa st ct : Int32) (k lo : Nat) (rg me rt : Nat → Int32) (j : Nat) (hj : j ≤ 31) : Met l yX0_clearBlock (ws_ yX0_clearBlock cX0_clearBlock 4 none) ({ frames := 1, cells := 0, slots := 0, locals := 20 }) (va_Pc [.ref (hh 0), .int (nI j)] (wc_pw dC dI (wc_wX hh dd xo xr xn n pa st ct k lo rg me rt) (wc_tX dd) sz)) (va_Qv (fun (u : wc_SX) => u = (xo, xr, xn, n, pa, st, ct, k, lo, wc_cl4 rg (j % 4 * 4), me, rt)) (wc_bX dC dI hh dd (va_A (wc_wX hh dd xo xr xn n pa st ct k lo rg me rt) sz)) (va_A (wc_wX hh dd xo xr xn n pa st ct k lo rg me rt) sz)) 0 0 (va_A (wc_wX hh dd xo xr xn n pa st ct k lo rg me rt) sz) := by
  refine Met.ofW (cc := cX0_clearBlock) (maxL := 4) (ret := none) (by decide) rfl ?_
  intro p e s m args below meth c s₁ B hml hv
  obtain ⟨rfl, hsz, hP, hK, hD0⟩ := hv
  have hx := B.exec
  have hb := B.bytes
  have hr := B.returns
  have hts := atoms_spec (ws := ws_ yX0_clearBlock cX0_clearBlock 4 none) B.pre
  have hts : ∀ w ∈ lw_all, w.before _ s = true := fun w h => hts w (List.mem_cons_of_mem _ h)
  have hown : s.vm.findClass RX0 = some m.cls := findClass_of_methodNamed B.named
  have hlocks := B.notSynchronized
  subst hsz
  have hD := hD0.self (sz := s.heap.size)
  generalize hAe : va_A (wc_wX hh dd xo xr xn n pa st ct k lo rg me rt) s.heap.size = A at hD ⊢
  have hA : ∀ q : Nat, s.heap.size ≤ q → A q := fun q h => by rw [← hAe]; exact Or.inr h
  have hS : va_S A s.heap s.heap [] := va_S.rf
  have hP : va_P (dC, dI) vwCl (wc_wX hh dd xo xr xn n pa st ct k lo rg me rt) s.heap := hP
  have hl := lv_entry ([.ref (hh 0), .int (nI j)]) (n := 4) (Nat.le_of_ble_eq_true rfl)
  rw [lg_entry_eq]
  generalize (lg_sl ([.ref (hh 0), .int (nI j)]) ++ List.replicate (4 - (lg_sl ([.ref (hh 0), .int (nI j)])).length) Slot.unset).toArray = ls at hl ⊢
  have hl : lv_has ls 4 [(0, .ref (hh 0)), (1, .int (nI j))] := hl
  refine lv_iload_n hx hb dX0_clearBlock_0 rfl (lv_at hl 1 rfl) ?_
  have hFc := wc_free0 hS hA
  refine va_calli (va_runS (As := [.int (nI j)]) (rest := []) ⟨hx, hb, hml, hown, hts⟩ (wc_placeOf l s.heap.size j (by omega)) (va_cwS 1 hts (lw_S q77 q78 q11 q79) rfl rfl rfl (by decide +kernel) ⟨Nat.le_of_ble_eq_true rfl, Nat.le_of_ble_eq_true rfl⟩) wc_preS rfl rfl hl.1 rfl (lv_room (Nat.le_of_ble_eq_true rfl)) dX0_clearBlock_1 ⟨Nat.le_of_ble_eq_true rfl, Nat.le_of_ble_eq_true rfl⟩) hS (fun q _ h => hFc q h) hFc (fun r_1 u t H_1 locs ht hvm hw hBw hz1 hk1 hS => ?_)
  have hq_1 := hw
  have hP := wc_keep hP hk1
  refine wc_top (show r_1 = nI (j % 4 * 4) from hq_1) ?_
  refine lv_istore_n (lv' := [(2, .int (nI (j % 4 * 4))), (0, .ref (hh 0)), (1, .int (nI j))]) hx hb dX0_clearBlock_4 rfl hl (by decide) rfl (fun ls hl => ?_)
  refine lv_iconst (v := nI 0) hx hb dX0_clearBlock_5 (by decide +kernel) ?_
  refine lv_istore_n (lv' := [(3, .int (nI 0)), (2, .int (nI (j % 4 * 4))), (0, .ref (hh 0)), (1, .int (nI j))]) hx hb dX0_clearBlock_6 rfl hl (by decide) rfl (fun ls hl => ?_)
  refine lv_iload_n hx hb dX0_clearBlock_7 rfl (lv_at hl 0 rfl) ?_
  refine lv_iconst (v := nI 4) hx hb dX0_clearBlock_8 (by decide +kernel) ?_
  refine wc_icmp_ge (tgt := 27) hx hb (x := 0) (y := 4) (by omega) (by omega) dX0_clearBlock_9 (by decide) (fun c_9 => ?_) (fun c_9 => ?_)
  · exact absurd c_9 (by omega)
  · refine lv_aload_n hx hb dX0_clearBlock_12 rfl (lv_at hl 2 rfl) ?_
    refine va_get (D := (dC, dI)) (ci := 0) (v := .ref (hh 4)) (C := RX0) (T := TX0) (N := 12) hx hb hts in_X0 hown hK hP 0 rfl rfl 9 (by decide) (hts _ q30) (fun _ h9 => h9) rfl dX0_clearBlock_13 ?_
    refine lv_iload_n hx hb dX0_clearBlock_16 rfl (lv_at hl 1 rfl) ?_
    refine lv_iload_n hx hb dX0_clearBlock_17 rfl (lv_at hl 0 rfl) ?_
    refine wc_iadd hx hb (x := j % 4 * 4) (y := 0) dX0_clearBlock_18 ?_
    refine lv_iconst (v := nI 0) hx hb dX0_clearBlock_19 (by decide +kernel) ?_
    refine wc_iast hx hb hK hP hD hS 4 3 rfl rfl (j := j % 4 * 4 + 0) (by omega) (by decide) dX0_clearBlock_20 (fun H_2 locs hP hD hS => ?_)
    have hP : va_P (dC, dI) vwCl (wc_wX hh dd xo xr xn n pa st ct k lo (upd rg (j % 4 * 4 + 0) (nI 0)) me rt) H_2 := hP
    have hD : va_D A (wc_wX hh dd xo xr xn n pa st ct k lo (upd rg (j % 4 * 4 + 0) (nI 0)) me rt) := hD
    refine lv_iinc (v := nI 1) (lv' := [(3, .int (nI 1)), (2, .int (nI (j % 4 * 4))), (0, .ref (hh 0)), (1, .int (nI j))]) hx hb dX0_clearBlock_21 hl (k := 0) rfl (by first | exact nI_add _ _ | decide +kernel) (by decide) rfl (fun ls hl => ?_)
    refine lv_goto (tgt := 7) hx hb dX0_clearBlock_24 (by decide) ?_
    refine lv_iload_n hx hb dX0_clearBlock_7 rfl (lv_at hl 0 rfl) ?_
    refine lv_iconst (v := nI 4) hx hb dX0_clearBlock_8 (by decide +kernel) ?_
    refine wc_icmp_ge (tgt := 27) hx hb (x := 1) (y := 4) (by omega) (by omega) dX0_clearBlock_9 (by decide) (fun c_9 => ?_) (fun c_9 => ?_)
    · exact absurd c_9 (by omega)
    · refine lv_aload_n hx hb dX0_clearBlock_12 rfl (lv_at hl 2 rfl) ?_
      refine va_get (D := (dC, dI)) (ci := 0) (v := .ref (hh 4)) (C := RX0) (T := TX0) (N := 12) hx hb hts in_X0 hown hK hP 0 rfl rfl 9 (by decide) (hts _ q30) (fun _ h9 => h9) rfl dX0_clearBlock_13 ?_
      refine lv_iload_n hx hb dX0_clearBlock_16 rfl (lv_at hl 1 rfl) ?_
      refine lv_iload_n hx hb dX0_clearBlock_17 rfl (lv_at hl 0 rfl) ?_
      refine wc_iadd hx hb (x := j % 4 * 4) (y := 1) dX0_clearBlock_18 ?_
      refine lv_iconst (v := nI 0) hx hb dX0_clearBlock_19 (by decide +kernel) ?_
      refine wc_iast hx hb hK hP hD hS 4 3 rfl rfl (j := j % 4 * 4 + 1) (by omega) (by decide) dX0_clearBlock_20 (fun H_3 locs hP hD hS => ?_)
      have hP : va_P (dC, dI) vwCl (wc_wX hh dd xo xr xn n pa st ct k lo (upd (upd rg (j % 4 * 4 + 0) (nI 0)) (j % 4 * 4 + 1) (nI 0)) me rt) H_3 := hP
      have hD : va_D A (wc_wX hh dd xo xr xn n pa st ct k lo (upd (upd rg (j % 4 * 4 + 0) (nI 0)) (j % 4 * 4 + 1) (nI 0)) me rt) := hD
      refine lv_iinc (v := nI 2) (lv' := [(3, .int (nI 2)), (2, .int (nI (j % 4 * 4))), (0, .ref (hh 0)), (1, .int (nI j))]) hx hb dX0_clearBlock_21 hl (k := 0) rfl (by first | exact nI_add _ _ | decide +kernel) (by decide) rfl (fun ls hl => ?_)
      refine lv_goto (tgt := 7) hx hb dX0_clearBlock_24 (by decide) ?_
      refine lv_iload_n hx hb dX0_clearBlock_7 rfl (lv_at hl 0 rfl) ?_
      refine lv_iconst (v := nI 4) hx hb dX0_clearBlock_8 (by decide +kernel) ?_
      refine wc_icmp_ge (tgt := 27) hx hb (x := 2) (y := 4) (by omega) (by omega) dX0_clearBlock_9 (by decide) (fun c_9 => ?_) (fun c_9 => ?_)
      · exact absurd c_9 (by omega)
      · refine lv_aload_n hx hb dX0_clearBlock_12 rfl (lv_at hl 2 rfl) ?_
        refine va_get (D := (dC, dI)) (ci := 0) (v := .ref (hh 4)) (C := RX0) (T := TX0) (N := 12) hx hb hts in_X0 hown hK hP 0 rfl rfl 9 (by decide) (hts _ q30) (fun _ h9 => h9) rfl dX0_clearBlock_13 ?_
        refine lv_iload_n hx hb dX0_clearBlock_16 rfl (lv_at hl 1 rfl) ?_
        refine lv_iload_n hx hb dX0_clearBlock_17 rfl (lv_at hl 0 rfl) ?_
        refine wc_iadd hx hb (x := j % 4 * 4) (y := 2) dX0_clearBlock_18 ?_
        refine lv_iconst (v := nI 0) hx hb dX0_clearBlock_19 (by decide +kernel) ?_
        refine wc_iast hx hb hK hP hD hS 4 3 rfl rfl (j := j % 4 * 4 + 2) (by omega) (by decide) dX0_clearBlock_20 (fun H_4 locs hP hD hS => ?_)
        have hP : va_P (dC, dI) vwCl (wc_wX hh dd xo xr xn n pa st ct k lo (upd (upd (upd rg (j % 4 * 4 + 0) (nI 0)) (j % 4 * 4 + 1) (nI 0)) (j % 4 * 4 + 2) (nI 0)) me rt) H_4 := hP
        have hD : va_D A (wc_wX hh dd xo xr xn n pa st ct k lo (upd (upd (upd rg (j % 4 * 4 + 0) (nI 0)) (j % 4 * 4 + 1) (nI 0)) (j % 4 * 4 + 2) (nI 0)) me rt) := hD
        refine lv_iinc (v := nI 3) (lv' := [(3, .int (nI 3)), (2, .int (nI (j % 4 * 4))), (0, .ref (hh 0)), (1, .int (nI j))]) hx hb dX0_clearBlock_21 hl (k := 0) rfl (by first | exact nI_add _ _ | decide +kernel) (by decide) rfl (fun ls hl => ?_)
        refine lv_goto (tgt := 7) hx hb dX0_clearBlock_24 (by decide) ?_
        refine lv_iload_n hx hb dX0_clearBlock_7 rfl (lv_at hl 0 rfl) ?_
        refine lv_iconst (v := nI 4) hx hb dX0_clearBlock_8 (by decide +kernel) ?_
        refine wc_icmp_ge (tgt := 27) hx hb (x := 3) (y := 4) (by omega) (by omega) dX0_clearBlock_9 (by decide) (fun c_9 => ?_) (fun c_9 => ?_)
        · exact absurd c_9 (by omega)
        · refine lv_aload_n hx hb dX0_clearBlock_12 rfl (lv_at hl 2 rfl) ?_
          refine va_get (D := (dC, dI)) (ci := 0) (v := .ref (hh 4)) (C := RX0) (T := TX0) (N := 12) hx hb hts in_X0 hown hK hP 0 rfl rfl 9 (by decide) (hts _ q30) (fun _ h9 => h9) rfl dX0_clearBlock_13 ?_
          refine lv_iload_n hx hb dX0_clearBlock_16 rfl (lv_at hl 1 rfl) ?_
          refine lv_iload_n hx hb dX0_clearBlock_17 rfl (lv_at hl 0 rfl) ?_
          refine wc_iadd hx hb (x := j % 4 * 4) (y := 3) dX0_clearBlock_18 ?_
          refine lv_iconst (v := nI 0) hx hb dX0_clearBlock_19 (by decide +kernel) ?_
          refine wc_iast hx hb hK hP hD hS 4 3 rfl rfl (j := j % 4 * 4 + 3) (by omega) (by decide) dX0_clearBlock_20 (fun H_5 locs hP hD hS => ?_)
          have hP : va_P (dC, dI) vwCl (wc_wX hh dd xo xr xn n pa st ct k lo (upd (upd (upd (upd rg (j % 4 * 4 + 0) (nI 0)) (j % 4 * 4 + 1) (nI 0)) (j % 4 * 4 + 2) (nI 0)) (j % 4 * 4 + 3) (nI 0)) me rt) H_5 := hP
          have hD : va_D A (wc_wX hh dd xo xr xn n pa st ct k lo (upd (upd (upd (upd rg (j % 4 * 4 + 0) (nI 0)) (j % 4 * 4 + 1) (nI 0)) (j % 4 * 4 + 2) (nI 0)) (j % 4 * 4 + 3) (nI 0)) me rt) := hD
          refine lv_iinc (v := nI 4) (lv' := [(3, .int (nI 4)), (2, .int (nI (j % 4 * 4))), (0, .ref (hh 0)), (1, .int (nI j))]) hx hb dX0_clearBlock_21 hl (k := 0) rfl (by first | exact nI_add _ _ | decide +kernel) (by decide) rfl (fun ls hl => ?_)
          refine lv_goto (tgt := 7) hx hb dX0_clearBlock_24 (by decide) ?_
          refine lv_iload_n hx hb dX0_clearBlock_7 rfl (lv_at hl 0 rfl) ?_
          refine lv_iconst (v := nI 4) hx hb dX0_clearBlock_8 (by decide +kernel) ?_
          refine wc_icmp_ge (tgt := 27) hx hb (x := 4) (y := 4) (by omega) (by omega) dX0_clearBlock_9 (by decide) (fun c_9 => ?_) (fun c_9 => ?_)
          · exact W.vret hx hb hr (fun t ht hW => ⟨⟨(xo, xr, xn, n, pa, st, ct, k, lo, upd (upd (upd (upd rg (j % 4 * 4 + 0) (nI 0)) (j % 4 * 4 + 1) (nI 0)) (j % 4 * 4 + 2) (nI 0)) (j % 4 * 4 + 3) (nI 0), me, rt), rfl, rfl, by rw [ht]; exact hP, va_K.moved hW.alike hK, hD⟩, hS.F ht⟩) hS.2.2 dX0_clearBlock_27
          · exact absurd c_9 (by omega)
set_option maxHeartbeats 4000000 in
set_option maxRecDepth 100000 in
/-- value(op, x, y, n) -/
theorem wc_value (l : Launch) (sz : Nat) (o : Nat) (ho : o < 8) (x y v : Int32) : Met l yX0_value (ws_ yX0_value cX0_value 4 (some .int)) ({ frames := 0, cells := 0, slots := 0, locals := 0 }) (va_Pc [.int (nI o), .int x, .int y, .int v] (fun U => U.heap.size = sz)) (va_Qi (fun (r : Int32) (_ : Unit) => r = if o = 0 then v else if o = 1 then x + y else if o = 2 then x - y else x) (fun _ _ => True) (va_A [] sz)) 0 0 (va_A [] sz) := by
  refine Met.ofW (cc := cX0_value) (maxL := 4) (ret := (some .int)) (by decide) rfl ?_
  intro p e s m args below meth c s₁ B hml hv
  obtain ⟨rfl, hsz⟩ := hv
  have hx := B.exec
  have hb := B.bytes
  have hr := B.returns
  have hts := atoms_spec (ws := ws_ yX0_value cX0_value 4 (some .int)) B.pre
  have hts : ∀ w ∈ lw_all, w.before _ s = true := fun w h => hts w (List.mem_cons_of_mem _ h)
  have hown : s.vm.findClass RX0 = some m.cls := findClass_of_methodNamed B.named
  have hlocks := B.notSynchronized
  subst hsz
  generalize hAe : va_A [] s.heap.size = A
  have hA : ∀ q : Nat, s.heap.size ≤ q → A q := fun q h => by rw [← hAe]; exact Or.inr h
  have hS : va_S A s.heap s.heap [] := va_S.rf
  have hl := lv_entry ([.int (nI o), .int x, .int y, .int v]) (n := 4) (Nat.le_of_ble_eq_true rfl)
  rw [lg_entry_eq]
  generalize (lg_sl ([.int (nI o), .int x, .int y, .int v]) ++ List.replicate (4 - (lg_sl ([.int (nI o), .int x, .int y, .int v])).length) Slot.unset).toArray = ls at hl ⊢
  have hl : lv_has ls 4 [(0, .int (nI o)), (1, .int x), (2, .int y), (3, .int v)] := hl
  refine lv_iload_n hx hb dX0_value_0 rfl (lv_at hl 0 rfl) ?_
  refine wc_if_ne (tgt := 6) hx hb (x := o) (by omega) dX0_value_1 (by decide) (fun c_1 => ?_) (fun c_1 => ?_)
  · refine lv_iload_n hx hb dX0_value_6 rfl (lv_at hl 0 rfl) ?_
    refine lv_iconst (v := nI 1) hx hb dX0_value_7 (by decide +kernel) ?_
    refine wc_icmp_ne (tgt := 15) hx hb (x := o) (y := 1) (by omega) (by omega) dX0_value_8 (by decide) (fun c_8 => ?_) (fun c_8 => ?_)
    · refine lv_iload_n hx hb dX0_value_15 rfl (lv_at hl 0 rfl) ?_
      refine lv_iconst (v := nI 2) hx hb dX0_value_16 (by decide +kernel) ?_
      refine wc_icmp_ne (tgt := 26) hx hb (x := o) (y := 2) (by omega) (by omega) dX0_value_17 (by decide) (fun c_17 => ?_) (fun c_17 => ?_)
      · refine lv_iload_n hx hb dX0_value_26 rfl (lv_at hl 1 rfl) ?_
        exact W.iret (v := x) hx hb hr (fun t ht hW => ⟨⟨x, (), rfl, by rw [if_neg c_1, if_neg c_8, if_neg c_17], trivial⟩, hS.F ht⟩) hS.2.2 dX0_value_27
      · refine lv_iload_n hx hb dX0_value_20 rfl (lv_at hl 1 rfl) ?_
        refine lv_iload_n hx hb dX0_value_21 rfl (lv_at hl 2 rfl) ?_
        refine lv_isub hx hb dX0_value_22 ?_
        refine lv_goto (tgt := 27) hx hb dX0_value_23 (by decide) ?_
        exact W.iret (v := x - y) hx hb hr (fun t ht hW => ⟨⟨x - y, (), rfl, by rw [if_neg c_1, if_neg c_8, if_pos c_17], trivial⟩, hS.F ht⟩) hS.2.2 dX0_value_27
    · refine lv_iload_n hx hb dX0_value_11 rfl (lv_at hl 1 rfl) ?_
      refine lv_iload_n hx hb dX0_value_12 rfl (lv_at hl 2 rfl) ?_
      refine lv_iadd hx hb dX0_value_13 ?_
      exact W.iret (v := x + y) hx hb hr (fun t ht hW => ⟨⟨x + y, (), rfl, by rw [if_neg c_1, if_pos c_8], trivial⟩, hS.F ht⟩) hS.2.2 dX0_value_14
  · refine lv_iload_n hx hb dX0_value_4 rfl (lv_at hl 3 rfl) ?_
    exact W.iret (v := v) hx hb hr (fun t ht hW => ⟨⟨v, (), rfl, by rw [if_pos c_1], trivial⟩, hS.F ht⟩) hS.2.2 dX0_value_5
set_option maxHeartbeats 4000000 in
set_option maxRecDepth 100000 in
/-- isRegister(r) -/
theorem wc_isRegister (l : Launch) (sz : Nat) (x : Int32) : Met l yX0_isRegister (ws_ yX0_isRegister cX0_isRegister 1 (some .boolean)) ({ frames := 0, cells := 0, slots := 0, locals := 0 }) (va_Pc [.int x] (fun U => U.heap.size = sz)) (va_Qi (fun (r : Int32) (_ : Unit) => r = wc_isr x) (fun _ _ => True) (va_A [] sz)) 0 0 (va_A [] sz) := by
  refine Met.ofW (cc := cX0_isRegister) (maxL := 1) (ret := (some .boolean)) (by decide) rfl ?_
  intro p e s m args below meth c s₁ B hml hv
  obtain ⟨rfl, hsz⟩ := hv
  have hx := B.exec
  have hb := B.bytes
  have hr := B.returns
  have hts := atoms_spec (ws := ws_ yX0_isRegister cX0_isRegister 1 (some .boolean)) B.pre
  have hts : ∀ w ∈ lw_all, w.before _ s = true := fun w h => hts w (List.mem_cons_of_mem _ h)
  have hown : s.vm.findClass RX0 = some m.cls := findClass_of_methodNamed B.named
  have hlocks := B.notSynchronized
  subst hsz
  generalize hAe : va_A [] s.heap.size = A
  have hA : ∀ q : Nat, s.heap.size ≤ q → A q := fun q h => by rw [← hAe]; exact Or.inr h
  have hS : va_S A s.heap s.heap [] := va_S.rf
  have hl := lv_entry ([.int x]) (n := 1) (Nat.le_of_ble_eq_true rfl)
  rw [lg_entry_eq]
  generalize (lg_sl ([.int x]) ++ List.replicate (1 - (lg_sl ([.int x])).length) Slot.unset).toArray = ls at hl ⊢
  have hl : lv_has ls 1 [(0, .int x)] := hl
  refine lv_iload_n hx hb dX0_isRegister_0 rfl (lv_at hl 0 rfl) ?_
  refine lv_if_lt (tgt := 14) hx hb dX0_isRegister_1 (by decide) (fun c_1 => ?_) (fun c_1 => ?_)
  · refine lv_iconst (v := 0) hx hb dX0_isRegister_14 (by decide +kernel) ?_
    exact W.zret (v := 0) hx hb hr rfl (fun t ht hW => ⟨⟨0, (), rfl, (if_neg (fun h => h.1 c_1)).symm, trivial⟩, hS.F ht⟩) hS.2.2 dX0_isRegister_15
  · refine lv_iload_n hx hb dX0_isRegister_4 rfl (lv_at hl 0 rfl) ?_
    refine lv_bipush (v := nI 8) hx hb dX0_isRegister_5 (by decide +kernel) ?_
    refine lv_icmp_ge (tgt := 14) hx hb dX0_isRegister_7 (by decide) (fun c_7 => ?_) (fun c_7 => ?_)
    · refine lv_iconst (v := 0) hx hb dX0_isRegister_14 (by decide +kernel) ?_
      exact W.zret (v := 0) hx hb hr rfl (fun t ht hW => ⟨⟨0, (), rfl, (if_neg (fun h => (Int32.not_lt.mpr c_7) h.2)).symm, trivial⟩, hS.F ht⟩) hS.2.2 dX0_isRegister_15
    · refine lv_iconst (v := 1) hx hb dX0_isRegister_10 (by decide +kernel) ?_
      refine lv_goto (tgt := 15) hx hb dX0_isRegister_11 (by decide) ?_
      exact W.zret (v := 1) hx hb hr rfl (fun t ht hW => ⟨⟨1, (), rfl, (if_pos ⟨c_1, Int32.not_le.mp c_7⟩).symm, trivial⟩, hS.F ht⟩) hS.2.2 dX0_isRegister_15
set_option maxHeartbeats 4000000 in
set_option maxRecDepth 100000 in
/-- halted() -/
theorem wc_halted (l : Launch) (dC : Nat → ClassId) (dI : Nat → Nat → Nat) (hh : Nat → Nat) (dd : Nat → ClassId) (sz : Nat) (xo xr xn : Nat → Int32) (n : Nat) (pa st ct : Int32) (k lo : Nat) (rg me rt : Nat → Int32) (hst : st = 0 ∨ st = 1) : Met l yX0_halted (ws_ yX0_halted cX0_halted 1 (some .boolean)) ({ frames := 0, cells := 0, slots := 0, locals := 0 }) (va_Pc [.ref (hh 0)] (wc_pw dC dI (wc_wX hh dd xo xr xn n pa st ct k lo rg me rt) (wc_tX dd) sz)) (va_Qi (fun (r : Int32) (u : wc_SX) => r = st ∧ u = (xo, xr, xn, n, pa, st, ct, k, lo, rg, me, rt)) (wc_bX dC dI hh dd (va_A (wc_wX hh dd xo xr xn n pa st ct k lo rg me rt) sz)) (va_A (wc_wX hh dd xo xr xn n pa st ct k lo rg me rt) sz)) 0 0 (va_A (wc_wX hh dd xo xr xn n pa st ct k lo rg me rt) sz) := by
  refine Met.ofW (cc := cX0_halted) (maxL := 1) (ret := (some .boolean)) (by decide) rfl ?_
  intro p e s m args below meth c s₁ B hml hv
  obtain ⟨rfl, hsz, hP, hK, hD0⟩ := hv
  have hx := B.exec
  have hb := B.bytes
  have hr := B.returns
  have hts := atoms_spec (ws := ws_ yX0_halted cX0_halted 1 (some .boolean)) B.pre
  have hts : ∀ w ∈ lw_all, w.before _ s = true := fun w h => hts w (List.mem_cons_of_mem _ h)
  have hown : s.vm.findClass RX0 = some m.cls := findClass_of_methodNamed B.named
  have hlocks := B.notSynchronized
  subst hsz
  have hD := hD0.self (sz := s.heap.size)
  generalize hAe : va_A (wc_wX hh dd xo xr xn n pa st ct k lo rg me rt) s.heap.size = A at hD ⊢
  have hA : ∀ q : Nat, s.heap.size ≤ q → A q := fun q h => by rw [← hAe]; exact Or.inr h
  have hS : va_S A s.heap s.heap [] := va_S.rf
  have hP : va_P (dC, dI) vwCl (wc_wX hh dd xo xr xn n pa st ct k lo rg me rt) s.heap := hP
  have hl := lv_entry ([.ref (hh 0)]) (n := 1) (Nat.le_of_ble_eq_true rfl)
  rw [lg_entry_eq]
  generalize (lg_sl ([.ref (hh 0)]) ++ List.replicate (1 - (lg_sl ([.ref (hh 0)])).length) Slot.unset).toArray = ls at hl ⊢
  have hl : lv_has ls 1 [(0, .ref (hh 0))] := hl
  refine lv_aload_n hx hb dX0_halted_0 rfl (lv_at hl 0 rfl) ?_
  refine va_get (D := (dC, dI)) (ci := 0) (v := .int st) (C := RX0) (T := TX0) (N := 12) hx hb hts in_X0 hown hK hP 0 rfl rfl 5 (by decide) (hts _ q26) (fun _ h9 => h9) rfl dX0_halted_1 ?_
  exact W.zret (v := st) hx hb hr (by rcases hst with h | h <;> rw [h] <;> rfl) (fun t ht hW => ⟨⟨st, (xo, xr, xn, n, pa, st, ct, k, lo, rg, me, rt), rfl, ⟨rfl, rfl⟩, by rw [ht]; exact hP, va_K.moved hW.alike hK, hD⟩, hS.F ht⟩) hS.2.2 dX0_halted_4
set_option maxHeartbeats 4000000 in
set_option maxRecDepth 100000 in
/-- position() -/
theorem wc_position (l : Launch) (dC : Nat → ClassId) (dI : Nat → Nat → Nat) (hh : Nat → Nat) (dd : Nat → ClassId) (sz : Nat) (xo xr xn : Nat → Int32) (n : Nat) (pa st ct : Int32) (k lo : Nat) (rg me rt : Nat → Int32) : Met l yX0_position (ws_ yX0_position cX0_position 1 (some .int)) ({ frames := 0, cells := 0, slots := 0, locals := 0 }) (va_Pc [.ref (hh 0)] (wc_pw dC dI (wc_wX hh dd xo xr xn n pa st ct k lo rg me rt) (wc_tX dd) sz)) (va_Qi (fun (r : Int32) (u : wc_SX) => r = pa ∧ u = (xo, xr, xn, n, pa, st, ct, k, lo, rg, me, rt)) (wc_bX dC dI hh dd (va_A (wc_wX hh dd xo xr xn n pa st ct k lo rg me rt) sz)) (va_A (wc_wX hh dd xo xr xn n pa st ct k lo rg me rt) sz)) 0 0 (va_A (wc_wX hh dd xo xr xn n pa st ct k lo rg me rt) sz) := by
  refine Met.ofW (cc := cX0_position) (maxL := 1) (ret := (some .int)) (by decide) rfl ?_
  intro p e s m args below meth c s₁ B hml hv
  obtain ⟨rfl, hsz, hP, hK, hD0⟩ := hv
  have hx := B.exec
  have hb := B.bytes
  have hr := B.returns
  have hts := atoms_spec (ws := ws_ yX0_position cX0_position 1 (some .int)) B.pre
  have hts : ∀ w ∈ lw_all, w.before _ s = true := fun w h => hts w (List.mem_cons_of_mem _ h)
  have hown : s.vm.findClass RX0 = some m.cls := findClass_of_methodNamed B.named
  have hlocks := B.notSynchronized
  subst hsz
  have hD := hD0.self (sz := s.heap.size)
  generalize hAe : va_A (wc_wX hh dd xo xr xn n pa st ct k lo rg me rt) s.heap.size = A at hD ⊢
  have hA : ∀ q : Nat, s.heap.size ≤ q → A q := fun q h => by rw [← hAe]; exact Or.inr h
  have hS : va_S A s.heap s.heap [] := va_S.rf
  have hP : va_P (dC, dI) vwCl (wc_wX hh dd xo xr xn n pa st ct k lo rg me rt) s.heap := hP
  have hl := lv_entry ([.ref (hh 0)]) (n := 1) (Nat.le_of_ble_eq_true rfl)
  rw [lg_entry_eq]
  generalize (lg_sl ([.ref (hh 0)]) ++ List.replicate (1 - (lg_sl ([.ref (hh 0)])).length) Slot.unset).toArray = ls at hl ⊢
  have hl : lv_has ls 1 [(0, .ref (hh 0))] := hl
  refine lv_aload_n hx hb dX0_position_0 rfl (lv_at hl 0 rfl) ?_
  refine va_get (D := (dC, dI)) (ci := 0) (v := .int pa) (C := RX0) (T := TX0) (N := 12) hx hb hts in_X0 hown hK hP 0 rfl rfl 4 (by decide) (hts _ q25) (fun _ h9 => h9) rfl dX0_position_1 ?_
  exact W.iret (v := pa) hx hb hr (fun t ht hW => ⟨⟨pa, (xo, xr, xn, n, pa, st, ct, k, lo, rg, me, rt), rfl, ⟨rfl, rfl⟩, by rw [ht]; exact hP, va_K.moved hW.alike hK, hD⟩, hS.F ht⟩) hS.2.2 dX0_position_4
set_option maxHeartbeats 4000000 in
set_option maxRecDepth 100000 in
/-- depth() -/
theorem wc_depth (l : Launch) (dC : Nat → ClassId) (dI : Nat → Nat → Nat) (hh : Nat → Nat) (dd : Nat → ClassId) (sz : Nat) (xo xr xn : Nat → Int32) (n : Nat) (pa st ct : Int32) (k lo : Nat) (rg me rt : Nat → Int32) : Met l yX0_depth (ws_ yX0_depth cX0_depth 1 (some .int)) ({ frames := 0, cells := 0, slots := 0, locals := 0 }) (va_Pc [.ref (hh 0)] (wc_pw dC dI (wc_wX hh dd xo xr xn n pa st ct k lo rg me rt) (wc_tX dd) sz)) (va_Qi (fun (r : Int32) (u : wc_SX) => r = nI (k + 1) ∧ u = (xo, xr, xn, n, pa, st, ct, k, lo, rg, me, rt)) (wc_bX dC dI hh dd (va_A (wc_wX hh dd xo xr xn n pa st ct k lo rg me rt) sz)) (va_A (wc_wX hh dd xo xr xn n pa st ct k lo rg me rt) sz)) 0 0 (va_A (wc_wX hh dd xo xr xn n pa st ct k lo rg me rt) sz) := by
  refine Met.ofW (cc := cX0_depth) (maxL := 1) (ret := (some .int)) (by decide) rfl ?_
  intro p e s m args below meth c s₁ B hml hv
  obtain ⟨rfl, hsz, hP, hK, hD0⟩ := hv
  have hx := B.exec
  have hb := B.bytes
  have hr := B.returns
  have hts := atoms_spec (ws := ws_ yX0_depth cX0_depth 1 (some .int)) B.pre
  have hts : ∀ w ∈ lw_all, w.before _ s = true := fun w h => hts w (List.mem_cons_of_mem _ h)
  have hown : s.vm.findClass RX0 = some m.cls := findClass_of_methodNamed B.named
  have hlocks := B.notSynchronized
  subst hsz
  have hD := hD0.self (sz := s.heap.size)
  generalize hAe : va_A (wc_wX hh dd xo xr xn n pa st ct k lo rg me rt) s.heap.size = A at hD ⊢
  have hA : ∀ q : Nat, s.heap.size ≤ q → A q := fun q h => by rw [← hAe]; exact Or.inr h
  have hS : va_S A s.heap s.heap [] := va_S.rf
  have hP : va_P (dC, dI) vwCl (wc_wX hh dd xo xr xn n pa st ct k lo rg me rt) s.heap := hP
  have hl := lv_entry ([.ref (hh 0)]) (n := 1) (Nat.le_of_ble_eq_true rfl)
  rw [lg_entry_eq]
  generalize (lg_sl ([.ref (hh 0)]) ++ List.replicate (1 - (lg_sl ([.ref (hh 0)])).length) Slot.unset).toArray = ls at hl ⊢
  have hl : lv_has ls 1 [(0, .ref (hh 0))] := hl
  refine lv_aload_n hx hb dX0_depth_0 rfl (lv_at hl 0 rfl) ?_
  refine va_get (D := (dC, dI)) (ci := 0) (v := .int (nI k)) (C := RX0) (T := TX0) (N := 12) hx hb hts in_X0 hown hK hP 0 rfl rfl 7 (by decide) (hts _ q28) (fun _ h9 => h9) rfl dX0_depth_1 ?_
  refine lv_iconst (v := nI 1) hx hb dX0_depth_4 (by decide +kernel) ?_
  refine wc_iadd hx hb (x := k) (y := 1) dX0_depth_5 ?_
  exact W.iret (v := nI (k + 1)) hx hb hr (fun t ht hW => ⟨⟨nI (k + 1), (xo, xr, xn, n, pa, st, ct, k, lo, rg, me, rt), rfl, ⟨rfl, rfl⟩, by rw [ht]; exact hP, va_K.moved hW.alike hK, hD⟩, hS.F ht⟩) hS.2.2 dX0_depth_6
set_option maxHeartbeats 4000000 in
set_option maxRecDepth 100000 in
/-- done() -/
theorem wc_done (l : Launch) (dC : Nat → ClassId) (dI : Nat → Nat → Nat) (hh : Nat → Nat) (dd : Nat → ClassId) (sz : Nat) (xo xr xn : Nat → Int32) (n : Nat) (pa st ct : Int32) (k lo : Nat) (rg me rt : Nat → Int32) : Met l yX0_done (ws_ yX0_done cX0_done 1 (some .int)) ({ frames := 0, cells := 0, slots := 0, locals := 0 }) (va_Pc [.ref (hh 0)] (wc_pw dC dI (wc_wX hh dd xo xr xn n pa st ct k lo rg me rt) (wc_tX dd) sz)) (va_Qi (fun (r : Int32) (u : wc_SX) => r = ct ∧ u = (xo, xr, xn, n, pa, st, ct, k, lo, rg, me, rt)) (wc_bX dC dI hh dd (va_A (wc_wX hh dd xo xr xn n pa st ct k lo rg me rt) sz)) (va_A (wc_wX hh dd xo xr xn n pa st ct k lo rg me rt) sz)) 0 0 (va_A (wc_wX hh dd xo xr xn n pa st ct k lo rg me rt) sz) := by
  refine Met.ofW (cc := cX0_done) (maxL := 1) (ret := (some .int)) (by decide) rfl ?_
  intro p e s m args below meth c s₁ B hml hv
  obtain ⟨rfl, hsz, hP, hK, hD0⟩ := hv
  have hx := B.exec
  have hb := B.bytes
  have hr := B.returns
  have hts := atoms_spec (ws := ws_ yX0_done cX0_done 1 (some .int)) B.pre
  have hts : ∀ w ∈ lw_all, w.before _ s = true := fun w h => hts w (List.mem_cons_of_mem _ h)
  have hown : s.vm.findClass RX0 = some m.cls := findClass_of_methodNamed B.named
  have hlocks := B.notSynchronized
  subst hsz
  have hD := hD0.self (sz := s.heap.size)
  generalize hAe : va_A (wc_wX hh dd xo xr xn n pa st ct k lo rg me rt) s.heap.size = A at hD ⊢
  have hA : ∀ q : Nat, s.heap.size ≤ q → A q := fun q h => by rw [← hAe]; exact Or.inr h
  have hS : va_S A s.heap s.heap [] := va_S.rf
  have hP : va_P (dC, dI) vwCl (wc_wX hh dd xo xr xn n pa st ct k lo rg me rt) s.heap := hP
  have hl := lv_entry ([.ref (hh 0)]) (n := 1) (Nat.le_of_ble_eq_true rfl)
  rw [lg_entry_eq]
  generalize (lg_sl ([.ref (hh 0)]) ++ List.replicate (1 - (lg_sl ([.ref (hh 0)])).length) Slot.unset).toArray = ls at hl ⊢
  have hl : lv_has ls 1 [(0, .ref (hh 0))] := hl
  refine lv_aload_n hx hb dX0_done_0 rfl (lv_at hl 0 rfl) ?_
  refine va_get (D := (dC, dI)) (ci := 0) (v := .int ct) (C := RX0) (T := TX0) (N := 12) hx hb hts in_X0 hown hK hP 0 rfl rfl 6 (by decide) (hts _ q27) (fun _ h9 => h9) rfl dX0_done_1 ?_
  exact W.iret (v := ct) hx hb hr (fun t ht hW => ⟨⟨ct, (xo, xr, xn, n, pa, st, ct, k, lo, rg, me, rt), rfl, ⟨rfl, rfl⟩, by rw [ht]; exact hP, va_K.moved hW.alike hK, hD⟩, hS.F ht⟩) hS.2.2 dX0_done_4
set_option maxHeartbeats 4000000 in
set_option maxRecDepth 100000 in
/-- drop() -/
theorem wc_drop (l : Launch) (dC : Nat → ClassId) (dI : Nat → Nat → Nat) (hh : Nat → Nat) (dd : Nat → ClassId) (sz : Nat) (xo xr xn : Nat → Int32) (n : Nat) (pa st ct : Int32) (k lo : Nat) (rg me rt : Nat → Int32) (hn : n ≤ 24) : Met l yX0_drop (ws_ yX0_drop cX0_drop 1 (some .int)) ({ frames := 0, cells := 0, slots := 0, locals := 0 }) (va_Pc [.ref (hh 0)] (wc_pw dC dI (wc_wX hh dd xo xr xn n pa st ct k lo rg me rt) (wc_tX dd) sz)) (va_Qi (fun (r : Int32) (u : wc_SX) => r = wc_dr n ∧ u = (xo, xr, xn, n - 1, pa, st, ct, k, lo, rg, me, rt)) (wc_bX dC dI hh dd (va_A (wc_wX hh dd xo xr xn n pa st ct k lo rg me rt) sz)) (va_A (wc_wX hh dd xo xr xn n pa st ct k lo rg me rt) sz)) 0 0 (va_A (wc_wX hh dd xo xr xn n pa st ct k lo rg me rt) sz) := by
  refine Met.ofW (cc := cX0_drop) (maxL := 1) (ret := (some .int)) (by decide) rfl ?_
  intro p e s m args below meth c s₁ B hml hv
  obtain ⟨rfl, hsz, hP, hK, hD0⟩ := hv
  have hx := B.exec
  have hb := B.bytes
  have hr := B.returns
  have hts := atoms_spec (ws := ws_ yX0_drop cX0_drop 1 (some .int)) B.pre
  have hts : ∀ w ∈ lw_all, w.before _ s = true := fun w h => hts w (List.mem_cons_of_mem _ h)
  have hown : s.vm.findClass RX0 = some m.cls := findClass_of_methodNamed B.named
  have hlocks := B.notSynchronized
  subst hsz
  have hD := hD0.self (sz := s.heap.size)
  generalize hAe : va_A (wc_wX hh dd xo xr xn n pa st ct k lo rg me rt) s.heap.size = A at hD ⊢
  have hA : ∀ q : Nat, s.heap.size ≤ q → A q := fun q h => by rw [← hAe]; exact Or.inr h
  have hS : va_S A s.heap s.heap [] := va_S.rf
  have hP : va_P (dC, dI) vwCl (wc_wX hh dd xo xr xn n pa st ct k lo rg me rt) s.heap := hP
  have hl := lv_entry ([.ref (hh 0)]) (n := 1) (Nat.le_of_ble_eq_true rfl)
  rw [lg_entry_eq]
  generalize (lg_sl ([.ref (hh 0)]) ++ List.replicate (1 - (lg_sl ([.ref (hh 0)])).length) Slot.unset).toArray = ls at hl ⊢
  have hl : lv_has ls 1 [(0, .ref (hh 0))] := hl
  refine lv_aload_n hx hb dX0_drop_0 rfl (lv_at hl 0 rfl) ?_
  refine va_get (D := (dC, dI)) (ci := 0) (v := .int (nI n)) (C := RX0) (T := TX0) (N := 12) hx hb hts in_X0 hown hK hP 0 rfl rfl 3 (by decide) (hts _ q24) (fun _ h9 => h9) rfl dX0_drop_1 ?_
  refine wc_if_ne (tgt := 9) hx hb (x := n) (by omega) dX0_drop_4 (by decide) (fun c_4 => ?_) (fun c_4 => ?_)
  · refine lv_aload_n hx hb dX0_drop_9 rfl (lv_at hl 0 rfl) ?_
    refine lv_dup hx hb dX0_drop_10 rfl ?_
    refine va_get (D := (dC, dI)) (ci := 0) (v := .int (nI n)) (C := RX0) (T := TX0) (N := 12) hx hb hts in_X0 hown hK hP 0 rfl rfl 3 (by decide) (hts _ q24) (fun _ h9 => h9) rfl dX0_drop_11 ?_
    refine lv_iconst (v := nI 1) hx hb dX0_drop_14 (by decide +kernel) ?_
    refine wc_isub hx hb (x := n) (y := 1) (by omega) dX0_drop_15 ?_
    refine va_put (D := (dC, dI)) (ci := 0) (v := .int (nI (n - 1))) (ty := .int) (C := RX0) (T := TX0) (N := 12) hx hb hts in_X0 tyX0 tyX0_ok nmX0 hown hK hP hD hS 0 rfl rfl 3 (by decide) (hts _ q24) (fun _ h9 => h9) rfl (by decide +kernel) rfl rfl (Nat.le_of_ble_eq_true rfl) dX0_drop_16 (fun H_1 locs hP hD hS => ?_)
    have hP : va_P (dC, dI) vwCl (wc_wX hh dd xo xr xn (n - 1) pa st ct k lo rg me rt) H_1 := hP
    have hD : va_D A (wc_wX hh dd xo xr xn (n - 1) pa st ct k lo rg me rt) := hD
    refine lv_aload_n hx hb dX0_drop_19 rfl (lv_at hl 0 rfl) ?_
    refine va_get (D := (dC, dI)) (ci := 0) (v := .int (nI (n - 1))) (C := RX0) (T := TX0) (N := 12) hx hb hts in_X0 hown hK hP 0 rfl rfl 3 (by decide) (hts _ q24) (fun _ h9 => h9) rfl dX0_drop_20 ?_
    exact W.iret (v := nI (n - 1)) hx hb hr (fun t ht hW => ⟨⟨nI (n - 1), (xo, xr, xn, n - 1, pa, st, ct, k, lo, rg, me, rt), rfl, ⟨(if_neg c_4).symm, rfl⟩, by rw [ht]; exact hP, va_K.moved hW.alike hK, hD⟩, hS.F ht⟩) hS.2.2 dX0_drop_23
  · refine lv_iconst (v := (-1)) hx hb dX0_drop_7 (by decide +kernel) ?_
    exact W.iret (v := (-1)) hx hb hr (fun t ht hW => ⟨⟨(-1), (xo, xr, xn, n, pa, st, ct, k, lo, rg, me, rt), rfl, ⟨(if_pos c_4).symm, by rw [c_4]⟩, by rw [ht]; exact hP, va_K.moved hW.alike hK, hD⟩, hS.F ht⟩) hS.2.2 dX0_drop_8
set_option maxHeartbeats 4000000 in
set_option maxRecDepth 100000 in
/-- emit(op, regs, n) -/
theorem wc_emit (l : Launch) (dC : Nat → ClassId) (dI : Nat → Nat → Nat) (hh : Nat → Nat) (dd : Nat → ClassId) (sz : Nat) (xo xr xn : Nat → Int32) (n : Nat) (pa st ct : Int32) (k lo : Nat) (rg me rt : Nat → Int32) (mo ma mb md mn : Nat → Int32) (hG : wc_Prog n xo xr xn mo ma mb md mn) (op g v : Int32) : Met l yX0_emit (ws_ yX0_emit cX0_emit 4 (some .int)) ({ frames := 0, cells := 0, slots := 0, locals := 0 }) (va_Pc [.ref (hh 0), .int op, .int g, .int v] (wc_pw dC dI (wc_wX hh dd xo xr xn n pa st ct k lo rg me rt) (wc_tX dd) sz)) (va_Qi (fun (r : Int32) (u : wc_SX) => r = wc_er op g n ∧ ∃ xo' xr' xn' : Nat → Int32, u = (xo', xr', xn', wc_en op g n, pa, st, ct, k, lo, rg, me, rt) ∧ wc_Prog (wc_en op g n) xo' xr' xn' (wc_eU op g n mo op) (wc_eU op g n ma (g &&& nI 7)) (wc_eU op g n mb ((g >>> (nI 3 &&& 31)) &&& nI 7)) (wc_eU op g n md (g >>> (nI 6 &&& 31))) (wc_eU op g n mn v)) (wc_bX dC dI hh dd (va_A (wc_wX hh dd xo xr xn n pa st ct k lo rg me rt) sz)) (va_A (wc_wX hh dd xo xr xn n pa st ct k lo rg me rt) sz)) 0 0 (va_A (wc_wX hh dd xo xr xn n pa st ct k lo rg me rt) sz) := by
  refine Met.ofW (cc := cX0_emit) (maxL := 4) (ret := (some .int)) (by decide) rfl ?_
  intro p e s m args below meth c s₁ B hml hv
  obtain ⟨rfl, hsz, hP, hK, hD0⟩ := hv
  have hx := B.exec
  have hb := B.bytes
  have hr := B.returns
  have hts := atoms_spec (ws := ws_ yX0_emit cX0_emit 4 (some .int)) B.pre
  have hts : ∀ w ∈ lw_all, w.before _ s = true := fun w h => hts w (List.mem_cons_of_mem _ h)
  have hown : s.vm.findClass RX0 = some m.cls := findClass_of_methodNamed B.named
  have hlocks := B.notSynchronized
  subst hsz
  have hD := hD0.self (sz := s.heap.size)
  generalize hAe : va_A (wc_wX hh dd xo xr xn n pa st ct k lo rg me rt) s.heap.size = A at hD ⊢
  have hA : ∀ q : Nat, s.heap.size ≤ q → A q := fun q h => by rw [← hAe]; exact Or.inr h
  have hS : va_S A s.heap s.heap [] := va_S.rf
  have hP : va_P (dC, dI) vwCl (wc_wX hh dd xo xr xn n pa st ct k lo rg me rt) s.heap := hP
  have hl := lv_entry ([.ref (hh 0), .int op, .int g, .int v]) (n := 4) (Nat.le_of_ble_eq_true rfl)
  rw [lg_entry_eq]
  generalize (lg_sl ([.ref (hh 0), .int op, .int g, .int v]) ++ List.replicate (4 - (lg_sl ([.ref (hh 0), .int op, .int g, .int v])).length) Slot.unset).toArray = ls at hl ⊢
  have hl : lv_has ls 4 [(0, .ref (hh 0)), (1, .int op), (2, .int g), (3, .int v)] := hl
  have hn24 := hG.1
  refine lv_iload_n hx hb dX0_emit_0 rfl (lv_at hl 1 rfl) ?_
  refine lv_if_lt (tgt := 21) hx hb dX0_emit_1 (by decide) (fun c_1 => ?_) (fun c_1 => ?_)
  · refine lv_iconst (v := (-1)) hx hb dX0_emit_21 (by decide +kernel) ?_
    have hbd : wc_bad op g := Or.inl c_1
    exact W.iret (v := (-1)) hx hb hr (fun t ht hW => ⟨⟨(-1), (xo, xr, xn, n, pa, st, ct, k, lo, rg, me, rt), rfl, ⟨(wc_er1 hbd).symm, xo, xr, xn, by rw [wc_en1 hbd], wc_Prog_e1 hG hbd⟩, by rw [ht]; exact hP, va_K.moved hW.alike hK, hD⟩, hS.F ht⟩) hS.2.2 dX0_emit_22
  · refine lv_iload_n hx hb dX0_emit_4 rfl (lv_at hl 1 rfl) ?_
    refine lv_bipush (v := nI 7) hx hb dX0_emit_5 (by decide +kernel) ?_
    refine lv_icmp_gt (tgt := 21) hx hb dX0_emit_7 (by decide) (fun c_7 => ?_) (fun c_7 => ?_)
    · refine lv_iconst (v := (-1)) hx hb dX0_emit_21 (by decide +kernel) ?_
      have hbd : wc_bad op g := Or.inr (Or.inl c_7)
      exact W.iret (v := (-1)) hx hb hr (fun t ht hW => ⟨⟨(-1), (xo, xr, xn, n, pa, st, ct, k, lo, rg, me, rt), rfl, ⟨(wc_er1 hbd).symm, xo, xr, xn, by rw [wc_en1 hbd], wc_Prog_e1 hG hbd⟩, by rw [ht]; exact hP, va_K.moved hW.alike hK, hD⟩, hS.F ht⟩) hS.2.2 dX0_emit_22
    · refine lv_iload_n hx hb dX0_emit_10 rfl (lv_at hl 2 rfl) ?_
      refine lv_if_lt (tgt := 21) hx hb dX0_emit_11 (by decide) (fun c_11 => ?_) (fun c_11 => ?_)
      · refine lv_iconst (v := (-1)) hx hb dX0_emit_21 (by decide +kernel) ?_
        have hbd : wc_bad op g := Or.inr (Or.inr (Or.inl c_11))
        exact W.iret (v := (-1)) hx hb hr (fun t ht hW => ⟨⟨(-1), (xo, xr, xn, n, pa, st, ct, k, lo, rg, me, rt), rfl, ⟨(wc_er1 hbd).symm, xo, xr, xn, by rw [wc_en1 hbd], wc_Prog_e1 hG hbd⟩, by rw [ht]; exact hP, va_K.moved hW.alike hK, hD⟩, hS.F ht⟩) hS.2.2 dX0_emit_22
      · refine lv_iload_n hx hb dX0_emit_14 rfl (lv_at hl 2 rfl) ?_
        refine lv_sipush (v := nI 511) hx hb dX0_emit_15 (by decide +kernel) ?_
        refine lv_icmp_le (tgt := 23) hx hb dX0_emit_18 (by decide) (fun c_18 => ?_) (fun c_18 => ?_)
        · refine lv_aload_n hx hb dX0_emit_23 rfl (lv_at hl 0 rfl) ?_
          refine va_get (D := (dC, dI)) (ci := 0) (v := .int (nI n)) (C := RX0) (T := TX0) (N := 12) hx hb hts in_X0 hown hK hP 0 rfl rfl 3 (by decide) (hts _ q24) (fun _ h9 => h9) rfl dX0_emit_24 ?_
          refine lv_bipush (v := nI 24) hx hb dX0_emit_27 (by decide +kernel) ?_
          refine wc_icmp_lt (tgt := 35) hx hb (x := n) (y := 24) (by omega) (by omega) dX0_emit_29 (by decide) (fun c_29 => ?_) (fun c_29 => ?_)
          · have hnb : ¬ wc_bad op g := wc_e_nb c_1 c_7 c_11 c_18
            obtain ⟨o, q, ho, hq, eo, eg⟩ := wc_e_in c_1 c_7 c_11 c_18
            refine lv_aload_n hx hb dX0_emit_35 rfl (lv_at hl 0 rfl) ?_
            refine va_get (D := (dC, dI)) (ci := 0) (v := .ref (hh 1)) (C := RX0) (T := TX0) (N := 12) hx hb hts in_X0 hown hK hP 0 rfl rfl 0 (by decide) (hts _ q21) (fun _ h9 => h9) rfl dX0_emit_36 ?_
            refine lv_aload_n hx hb dX0_emit_39 rfl (lv_at hl 0 rfl) ?_
            refine va_get (D := (dC, dI)) (ci := 0) (v := .int (nI n)) (C := RX0) (T := TX0) (N := 12) hx hb hts in_X0 hown hK hP 0 rfl rfl 3 (by decide) (hts _ q24) (fun _ h9 => h9) rfl dX0_emit_40 ?_
            refine lv_iload_n hx hb dX0_emit_43 rfl (lv_at hl 1 rfl) ?_
            refine wc_top (show op = nI o from eo) ?_
            refine lv_i2b (v := nI o) hx hb dX0_emit_44 (wc_b8 o (by omega)) ?_
            refine wc_bast hx hb hK hP hD hS 1 0 rfl rfl (j := n) (by omega) (by decide) (wc_n8 (by omega)) dX0_emit_45 (fun H_1 locs hP hD hS => ?_)
            have hP : va_P (dC, dI) vwCl (wc_wX hh dd (upd xo n (nI o)) xr xn n pa st ct k lo rg me rt) H_1 := hP
            have hD : va_D A (wc_wX hh dd (upd xo n (nI o)) xr xn n pa st ct k lo rg me rt) := hD
            refine lv_aload_n hx hb dX0_emit_46 rfl (lv_at hl 0 rfl) ?_
            refine va_get (D := (dC, dI)) (ci := 0) (v := .ref (hh 2)) (C := RX0) (T := TX0) (N := 12) hx hb hts in_X0 hown hK hP 0 rfl rfl 1 (by decide) (hts _ q22) (fun _ h9 => h9) rfl dX0_emit_47 ?_
            refine lv_aload_n hx hb dX0_emit_50 rfl (lv_at hl 0 rfl) ?_
            refine va_get (D := (dC, dI)) (ci := 0) (v := .int (nI n)) (C := RX0) (T := TX0) (N := 12) hx hb hts in_X0 hown hK hP 0 rfl rfl 3 (by decide) (hts _ q24) (fun _ h9 => h9) rfl dX0_emit_51 ?_
            refine lv_iload_n hx hb dX0_emit_54 rfl (lv_at hl 2 rfl) ?_
            refine wc_top (show g = nI q from eg) ?_
            refine lv_i2s (v := nI q) hx hb dX0_emit_55 (wc_s16 q hq) ?_
            refine wc_sast hx hb hK hP hD hS 2 1 rfl rfl (j := n) (by omega) (by decide) (wc_n16 hq) dX0_emit_56 (fun H_2 locs hP hD hS => ?_)
            have hP : va_P (dC, dI) vwCl (wc_wX hh dd (upd xo n (nI o)) (upd xr n (nI q)) xn n pa st ct k lo rg me rt) H_2 := hP
            have hD : va_D A (wc_wX hh dd (upd xo n (nI o)) (upd xr n (nI q)) xn n pa st ct k lo rg me rt) := hD
            refine lv_aload_n hx hb dX0_emit_57 rfl (lv_at hl 0 rfl) ?_
            refine va_get (D := (dC, dI)) (ci := 0) (v := .ref (hh 3)) (C := RX0) (T := TX0) (N := 12) hx hb hts in_X0 hown hK hP 0 rfl rfl 2 (by decide) (hts _ q23) (fun _ h9 => h9) rfl dX0_emit_58 ?_
            refine lv_aload_n hx hb dX0_emit_61 rfl (lv_at hl 0 rfl) ?_
            refine va_get (D := (dC, dI)) (ci := 0) (v := .int (nI n)) (C := RX0) (T := TX0) (N := 12) hx hb hts in_X0 hown hK hP 0 rfl rfl 3 (by decide) (hts _ q24) (fun _ h9 => h9) rfl dX0_emit_62 ?_
            refine lv_iload_n hx hb dX0_emit_65 rfl (lv_at hl 3 rfl) ?_
            refine wc_iast hx hb hK hP hD hS 3 2 rfl rfl (j := n) (by omega) (by decide) dX0_emit_66 (fun H_3 locs hP hD hS => ?_)
            have hP : va_P (dC, dI) vwCl (wc_wX hh dd (upd xo n (nI o)) (upd xr n (nI q)) (upd xn n v) n pa st ct k lo rg me rt) H_3 := hP
            have hD : va_D A (wc_wX hh dd (upd xo n (nI o)) (upd xr n (nI q)) (upd xn n v) n pa st ct k lo rg me rt) := hD
            refine lv_aload_n hx hb dX0_emit_67 rfl (lv_at hl 0 rfl) ?_
            refine lv_dup hx hb dX0_emit_68 rfl ?_
            refine va_get (D := (dC, dI)) (ci := 0) (v := .int (nI n)) (C := RX0) (T := TX0) (N := 12) hx hb hts in_X0 hown hK hP 0 rfl rfl 3 (by decide) (hts _ q24) (fun _ h9 => h9) rfl dX0_emit_69 ?_
            refine lv_iconst (v := nI 1) hx hb dX0_emit_72 (by decide +kernel) ?_
            refine wc_iadd hx hb (x := n) (y := 1) dX0_emit_73 ?_
            refine va_put (D := (dC, dI)) (ci := 0) (v := .int (nI (n + 1))) (ty := .int) (C := RX0) (T := TX0) (N := 12) hx hb hts in_X0 tyX0 tyX0_ok nmX0 hown hK hP hD hS 0 rfl rfl 3 (by decide) (hts _ q24) (fun _ h9 => h9) rfl (by decide +kernel) rfl rfl (Nat.le_of_ble_eq_true rfl) dX0_emit_74 (fun H_4 locs hP hD hS => ?_)
            have hP : va_P (dC, dI) vwCl (wc_wX hh dd (upd xo n (nI o)) (upd xr n (nI q)) (upd xn n v) (n + 1) pa st ct k lo rg me rt) H_4 := hP
            have hD : va_D A (wc_wX hh dd (upd xo n (nI o)) (upd xr n (nI q)) (upd xn n v) (n + 1) pa st ct k lo rg me rt) := hD
            refine lv_aload_n hx hb dX0_emit_77 rfl (lv_at hl 0 rfl) ?_
            refine va_get (D := (dC, dI)) (ci := 0) (v := .int (nI (n + 1))) (C := RX0) (T := TX0) (N := 12) hx hb hts in_X0 hown hK hP 0 rfl rfl 3 (by decide) (hts _ q24) (fun _ h9 => h9) rfl dX0_emit_78 ?_
            refine lv_iconst (v := nI 1) hx hb dX0_emit_81 (by decide +kernel) ?_
            refine wc_isub hx hb (x := n + 1) (y := 1) (by omega) dX0_emit_82 ?_
            refine wc_top (show nI ((n + 1) - 1) = nI n from congrArg nI (by omega)) ?_
            have hnn : wc_en op g n = n + 1 := wc_en3 hnb (by omega)
            exact W.iret (v := nI n) hx hb hr (fun t ht hW => ⟨⟨nI n, (upd xo n (nI o), upd xr n (nI q), upd xn n v, n + 1, pa, st, ct, k, lo, rg, me, rt), rfl, ⟨(wc_er3 hnb (by omega)).symm, _, _, _, by rw [hnn], wc_Prog_em hG v hnb (by omega) ho hq eo eg⟩, by rw [ht]; exact hP, va_K.moved hW.alike hK, hD⟩, hS.F ht⟩) hS.2.2 dX0_emit_83
          · have hnb : ¬ wc_bad op g := wc_e_nb c_1 c_7 c_11 c_18
            refine lv_bipush (v := (-2)) hx hb dX0_emit_32 (by decide +kernel) ?_
            exact W.iret (v := (-2)) hx hb hr (fun t ht hW => ⟨⟨(-2), (xo, xr, xn, n, pa, st, ct, k, lo, rg, me, rt), rfl, ⟨(wc_er2 hnb (by omega)).symm, xo, xr, xn, by rw [wc_en2 hnb (by omega)], wc_Prog_e2 hG hnb (by omega)⟩, by rw [ht]; exact hP, va_K.moved hW.alike hK, hD⟩, hS.F ht⟩) hS.2.2 dX0_emit_34
        · refine lv_iconst (v := (-1)) hx hb dX0_emit_21 (by decide +kernel) ?_
          have hbd : wc_bad op g := Or.inr (Or.inr (Or.inr c_18))
          exact W.iret (v := (-1)) hx hb hr (fun t ht hW => ⟨⟨(-1), (xo, xr, xn, n, pa, st, ct, k, lo, rg, me, rt), rfl, ⟨(wc_er1 hbd).symm, xo, xr, xn, by rw [wc_en1 hbd], wc_Prog_e1 hG hbd⟩, by rw [ht]; exact hP, va_K.moved hW.alike hK, hD⟩, hS.F ht⟩) hS.2.2 dX0_emit_22
end
section
/-! WindowedCalls: blocks, looking -/
set_option maxHeartbeats 4000000 in
set_option maxRecDepth 100000 in
/-- restart() -/
theorem wc_restart (l : Launch) (dC : Nat → ClassId) (dI : Nat → Nat → Nat) (hh : Nat → Nat) (dd : Nat → ClassId) (sz : Nat) (xo xr xn : Nat → Int32) (n : Nat) (pa st ct : Int32) (k lo : Nat) (rg me rt : Nat → Int32) : Met l yX0_restart (ws_ yX0_restart cX0_restart 1 none) ({ frames := 2, cells := 0, slots := 0, locals := 43 }) (va_Pc [.ref (hh 0)] (wc_pw dC dI (wc_wX hh dd xo xr xn n pa st ct k lo rg me rt) (wc_tX dd) sz)) (va_Qv (fun (u : wc_SX) => u = (xo, xr, xn, n, nI 0, nI 0, nI 0, 0, 0, wc_cl4 (wc_cl4 rg (0 % 4 * 4)) (1 % 4 * 4), me, rt)) (wc_bX dC dI hh dd (va_A (wc_wX hh dd xo xr xn n pa st ct k lo rg me rt) sz)) (va_A (wc_wX hh dd xo xr xn n pa st ct k lo rg me rt) sz)) 0 0 (va_A (wc_wX hh dd xo xr xn n pa st ct k lo rg me rt) sz) := by
  refine Met.ofW (cc := cX0_restart) (maxL := 1) (ret := none) (by decide) rfl ?_
  intro p e s m args below meth c s₁ B hml hv
  obtain ⟨rfl, hsz, hP, hK, hD0⟩ := hv
  have hx := B.exec
  have hb := B.bytes
  have hr := B.returns
  have hts := atoms_spec (ws := ws_ yX0_restart cX0_restart 1 none) B.pre
  have hts : ∀ w ∈ lw_all, w.before _ s = true := fun w h => hts w (List.mem_cons_of_mem _ h)
  have hown : s.vm.findClass RX0 = some m.cls := findClass_of_methodNamed B.named
  have hlocks := B.notSynchronized
  subst hsz
  have hD := hD0.self (sz := s.heap.size)
  generalize hAe : va_A (wc_wX hh dd xo xr xn n pa st ct k lo rg me rt) s.heap.size = A at hD ⊢
  have hA : ∀ q : Nat, s.heap.size ≤ q → A q := fun q h => by rw [← hAe]; exact Or.inr h
  have hS : va_S A s.heap s.heap [] := va_S.rf
  have hP : va_P (dC, dI) vwCl (wc_wX hh dd xo xr xn n pa st ct k lo rg me rt) s.heap := hP
  have hl := lv_entry ([.ref (hh 0)]) (n := 1) (Nat.le_of_ble_eq_true rfl)
  rw [lg_entry_eq]
  generalize (lg_sl ([.ref (hh 0)]) ++ List.replicate (1 - (lg_sl ([.ref (hh 0)])).length) Slot.unset).toArray = ls at hl ⊢
  have hl : lv_has ls 1 [(0, .ref (hh 0))] := hl
  refine lv_aload_n hx hb dX0_restart_0 rfl (lv_at hl 0 rfl) ?_
  refine lv_iconst (v := nI 0) hx hb dX0_restart_1 (by decide +kernel) ?_
  refine va_put (D := (dC, dI)) (ci := 0) (v := .int (nI 0)) (ty := .int) (C := RX0) (T := TX0) (N := 12) hx hb hts in_X0 tyX0 tyX0_ok nmX0 hown hK hP hD hS 0 rfl rfl 4 (by decide) (hts _ q25) (fun _ h9 => h9) rfl (by decide +kernel) rfl rfl (Nat.le_of_ble_eq_true rfl) dX0_restart_2 (fun H_1 locs hP hD hS => ?_)
  have hP : va_P (dC, dI) vwCl (wc_wX hh dd xo xr xn n (nI 0) st ct k lo rg me rt) H_1 := hP
  have hD : va_D A (wc_wX hh dd xo xr xn n (nI 0) st ct k lo rg me rt) := hD
  refine lv_aload_n hx hb dX0_restart_5 rfl (lv_at hl 0 rfl) ?_
  refine lv_iconst (v := nI 0) hx hb dX0_restart_6 (by decide +kernel) ?_
  refine va_put (D := (dC, dI)) (ci := 0) (v := .int (nI 0)) (ty := .boolean) (C := RX0) (T := TX0) (N := 12) hx hb hts in_X0 tyX0 tyX0_ok nmX0 hown hK hP hD hS 0 rfl rfl 5 (by decide) (hts _ q26) (fun _ h9 => h9) rfl (by decide +kernel) rfl rfl (Nat.le_of_ble_eq_true rfl) dX0_restart_7 (fun H_2 locs hP hD hS => ?_)
  have hP : va_P (dC, dI) vwCl (wc_wX hh dd xo xr xn n (nI 0) (nI 0) ct k lo rg me rt) H_2 := hP
  have hD : va_D A (wc_wX hh dd xo xr xn n (nI 0) (nI 0) ct k lo rg me rt) := hD
  refine lv_aload_n hx hb dX0_restart_10 rfl (lv_at hl 0 rfl) ?_
  refine lv_iconst (v := nI 0) hx hb dX0_restart_11 (by decide +kernel) ?_
  refine va_put (D := (dC, dI)) (ci := 0) (v := .int (nI 0)) (ty := .int) (C := RX0) (T := TX0) (N := 12) hx hb hts in_X0 tyX0 tyX0_ok nmX0 hown hK hP hD hS 0 rfl rfl 6 (by decide) (hts _ q27) (fun _ h9 => h9) rfl (by decide +kernel) rfl rfl (Nat.le_of_ble_eq_true rfl) dX0_restart_12 (fun H_3 locs hP hD hS => ?_)
  have hP : va_P (dC, dI) vwCl (wc_wX hh dd xo xr xn n (nI 0) (nI 0) (nI 0) k lo rg me rt) H_3 := hP
  have hD : va_D A (wc_wX hh dd xo xr xn n (nI 0) (nI 0) (nI 0) k lo rg me rt) := hD
  refine lv_aload_n hx hb dX0_restart_15 rfl (lv_at hl 0 rfl) ?_
  refine lv_iconst (v := nI 0) hx hb dX0_restart_16 (by decide +kernel) ?_
  refine va_put (D := (dC, dI)) (ci := 0) (v := .int (nI 0)) (ty := .int) (C := RX0) (T := TX0) (N := 12) hx hb hts in_X0 tyX0 tyX0_ok nmX0 hown hK hP hD hS 0 rfl rfl 7 (by decide) (hts _ q28) (fun _ h9 => h9) rfl (by decide +kernel) rfl rfl (Nat.le_of_ble_eq_true rfl) dX0_restart_17 (fun H_4 locs hP hD hS => ?_)
  have hP : va_P (dC, dI) vwCl (wc_wX hh dd xo xr xn n (nI 0) (nI 0) (nI 0) 0 lo rg me rt) H_4 := hP
  have hD : va_D A (wc_wX hh dd xo xr xn n (nI 0) (nI 0) (nI 0) 0 lo rg me rt) := hD
  refine lv_aload_n hx hb dX0_restart_20 rfl (lv_at hl 0 rfl) ?_
  refine lv_iconst (v := nI 0) hx hb dX0_restart_21 (by decide +kernel) ?_
  refine va_put (D := (dC, dI)) (ci := 0) (v := .int (nI 0)) (ty := .int) (C := RX0) (T := TX0) (N := 12) hx hb hts in_X0 tyX0 tyX0_ok nmX0 hown hK hP hD hS 0 rfl rfl 8 (by decide) (hts _ q29) (fun _ h9 => h9) rfl (by decide +kernel) rfl rfl (Nat.le_of_ble_eq_true rfl) dX0_restart_22 (fun H_5 locs hP hD hS => ?_)
  have hP : va_P (dC, dI) vwCl (wc_wX hh dd xo xr xn n (nI 0) (nI 0) (nI 0) 0 0 rg me rt) H_5 := hP
  have hD : va_D A (wc_wX hh dd xo xr xn n (nI 0) (nI 0) (nI 0) 0 0 rg me rt) := hD
  refine lv_aload_n hx hb dX0_restart_25 rfl (lv_at hl 0 rfl) ?_
  refine lv_iconst (v := nI 0) hx hb dX0_restart_26 (by decide +kernel) ?_
  have hFc := va_free (wc := wc_wX hh dd xo xr xn n (nI 0) (nI 0) (nI 0) 0 0 rg me rt) hD hS hA [0, 1, 2, 3, 4, 5, 6] rfl
  refine va_callv (va_runV (As := [.int (nI 0)]) (rest := []) ⟨hx, hb, hml, hown, hts⟩ (wc_clearBlock l dC dI hh dd H_5.size xo xr xn n (nI 0) (nI 0) (nI 0) 0 0 rg me rt 0 (by omega)) (cwV 1 hts (lw_V q73 q75 qs0 q11 q76) rfl rfl rfl (by decide +kernel) ⟨Nat.le_of_ble_eq_true rfl, Nat.le_of_ble_eq_true rfl⟩) (wc_preV hK hP hD (ci := 0) (q0 := 0) rfl rfl) rfl rfl hl.1 rfl (lv_room (Nat.le_of_ble_eq_true rfl)) dX0_restart_27 ⟨Nat.le_of_ble_eq_true rfl, Nat.le_of_ble_eq_true rfl⟩) hS (fun q _ h => hFc q h) hFc (fun u t H_6 locs ht hvm hw hBw hz1 hk1 hS => ?_)
  subst hw
  obtain ⟨hP1, hK1, hD1⟩ := hBw
  rw [ht] at hP1
  have hP : va_P (dC, dI) vwCl (wc_wX hh dd xo xr xn n (nI 0) (nI 0) (nI 0) 0 0 (wc_cl4 rg (0 % 4 * 4)) me rt) H_6 := hP1
  have hD : va_D A (wc_wX hh dd xo xr xn n (nI 0) (nI 0) (nI 0) 0 0 (wc_cl4 rg (0 % 4 * 4)) me rt) := hD1.weaken (fun _ q _ h => hFc q.1 h)
  refine lv_aload_n hx hb dX0_restart_30 rfl (lv_at hl 0 rfl) ?_
  refine lv_iconst (v := nI 1) hx hb dX0_restart_31 (by decide +kernel) ?_
  have hFc := va_free (wc := wc_wX hh dd xo xr xn n (nI 0) (nI 0) (nI 0) 0 0 (wc_cl4 rg (0 % 4 * 4)) me rt) hD hS hA [0, 1, 2, 3, 4, 5, 6] rfl
  refine va_callv (va_runV (As := [.int (nI 1)]) (rest := []) ⟨hx, hb, hml, hown, hts⟩ (wc_clearBlock l dC dI hh dd H_6.size xo xr xn n (nI 0) (nI 0) (nI 0) 0 0 (wc_cl4 rg (0 % 4 * 4)) me rt 1 (by omega)) (cwV 1 hts (lw_V q73 q75 qs0 q11 q76) rfl rfl rfl (by decide +kernel) ⟨Nat.le_of_ble_eq_true rfl, Nat.le_of_ble_eq_true rfl⟩) (wc_preV hK hP hD (ci := 0) (q0 := 0) rfl rfl) rfl rfl hl.1 rfl (lv_room (Nat.le_of_ble_eq_true rfl)) dX0_restart_32 ⟨Nat.le_of_ble_eq_true rfl, Nat.le_of_ble_eq_true rfl⟩) hS (fun q _ h => hFc q h) hFc (fun u t H_7 locs ht hvm hw hBw hz1 hk1 hS => ?_)
  subst hw
  obtain ⟨hP1, hK1, hD1⟩ := hBw
  rw [ht] at hP1
  have hP : va_P (dC, dI) vwCl (wc_wX hh dd xo xr xn n (nI 0) (nI 0) (nI 0) 0 0 (wc_cl4 (wc_cl4 rg (0 % 4 * 4)) (1 % 4 * 4)) me rt) H_7 := hP1
  have hD : va_D A (wc_wX hh dd xo xr xn n (nI 0) (nI 0) (nI 0) 0 0 (wc_cl4 (wc_cl4 rg (0 % 4 * 4)) (1 % 4 * 4)) me rt) := hD1.weaken (fun _ q _ h => hFc q.1 h)
  exact W.vret hx hb hr (fun t ht hW => ⟨⟨(xo, xr, xn, n, nI 0, nI 0, nI 0, 0, 0, wc_cl4 (wc_cl4 rg (0 % 4 * 4)) (1 % 4 * 4), me, rt), rfl, rfl, by rw [ht]; exact hP, va_K.moved hW.alike hK, hD⟩, hS.F ht⟩) hS.2.2 dX0_restart_35
set_option maxHeartbeats 4000000 in
set_option maxRecDepth 100000 in
/-- enter() -/
theorem wc_enter (l : Launch) (dC : Nat → ClassId) (dI : Nat → Nat → Nat) (hh : Nat → Nat) (dd : Nat → ClassId) (sz : Nat) (xo xr xn : Nat → Int32) (n : Nat) (pa st ct : Int32) (k lo : Nat) (rg me rt : Nat → Int32) (ro : Nat → Int32) (hBk : wc_Blk k lo rg me ro) (hk : k ≤ 28) : Met l yX0_enter (ws_ yX0_enter cX0_enter 3 none) ({ frames := 2, cells := 0, slots := 0, locals := 43 }) (va_Pc [.ref (hh 0)] (wc_pw dC dI (wc_wX hh dd xo xr xn n pa st ct k lo rg me rt) (wc_tX dd) sz)) (va_Qv (fun (u : wc_SX) => ∃ (lo' : Nat) (rg' me' : Nat → Int32), u = (xo, xr, xn, n, pa, st, ct, k + 1, lo', rg', me', rt) ∧ wc_Blk (k + 1) lo' rg' me' (wc_cl4 ro (4 * (k + 1) + 4))) (wc_bX dC dI hh dd (va_A (wc_wX hh dd xo xr xn n pa st ct k lo rg me rt) sz)) (va_A (wc_wX hh dd xo xr xn n pa st ct k lo rg me rt) sz)) 0 0 (va_A (wc_wX hh dd xo xr xn n pa st ct k lo rg me rt) sz) := by
  refine Met.ofW (cc := cX0_enter) (maxL := 3) (ret := none) (by decide) rfl ?_
  intro p e s m args below meth c s₁ B hml hv
  obtain ⟨rfl, hsz, hP, hK, hD0⟩ := hv
  have hx := B.exec
  have hb := B.bytes
  have hr := B.returns
  have hts := atoms_spec (ws := ws_ yX0_enter cX0_enter 3 none) B.pre
  have hts : ∀ w ∈ lw_all, w.before _ s = true := fun w h => hts w (List.mem_cons_of_mem _ h)
  have hown : s.vm.findClass RX0 = some m.cls := findClass_of_methodNamed B.named
  have hlocks := B.notSynchronized
  subst hsz
  have hD := hD0.self (sz := s.heap.size)
  generalize hAe : va_A (wc_wX hh dd xo xr xn n pa st ct k lo rg me rt) s.heap.size = A at hD ⊢
  have hA : ∀ q : Nat, s.heap.size ≤ q → A q := fun q h => by rw [← hAe]; exact Or.inr h
  have hS : va_S A s.heap s.heap [] := va_S.rf
  have hP : va_P (dC, dI) vwCl (wc_wX hh dd xo xr xn n pa st ct k lo rg me rt) s.heap := hP
  have hl := lv_entry ([.ref (hh 0)]) (n := 3) (Nat.le_of_ble_eq_true rfl)
  rw [lg_entry_eq]
  generalize (lg_sl ([.ref (hh 0)]) ++ List.replicate (3 - (lg_sl ([.ref (hh 0)])).length) Slot.unset).toArray = ls at hl ⊢
  have hl : lv_has ls 3 [(0, .ref (hh 0))] := hl
  have hlo := hBk.1
  refine lv_aload_n hx hb dX0_enter_0 rfl (lv_at hl 0 rfl) ?_
  refine lv_dup hx hb dX0_enter_1 rfl ?_
  refine va_get (D := (dC, dI)) (ci := 0) (v := .int (nI k)) (C := RX0) (T := TX0) (N := 12) hx hb hts in_X0 hown hK hP 0 rfl rfl 7 (by decide) (hts _ q28) (fun _ h9 => h9) rfl dX0_enter_2 ?_
  refine lv_iconst (v := nI 1) hx hb dX0_enter_5 (by decide +kernel) ?_
  refine wc_iadd hx hb (x := k) (y := 1) dX0_enter_6 ?_
  refine va_put (D := (dC, dI)) (ci := 0) (v := .int (nI (k + 1))) (ty := .int) (C := RX0) (T := TX0) (N := 12) hx hb hts in_X0 tyX0 tyX0_ok nmX0 hown hK hP hD hS 0 rfl rfl 7 (by decide) (hts _ q28) (fun _ h9 => h9) rfl (by decide +kernel) rfl rfl (Nat.le_of_ble_eq_true rfl) dX0_enter_7 (fun H_1 locs hP hD hS => ?_)
  have hP : va_P (dC, dI) vwCl (wc_wX hh dd xo xr xn n pa st ct (k + 1) lo rg me rt) H_1 := hP
  have hD : va_D A (wc_wX hh dd xo xr xn n pa st ct (k + 1) lo rg me rt) := hD
  refine lv_aload_n hx hb dX0_enter_10 rfl (lv_at hl 0 rfl) ?_
  refine va_get (D := (dC, dI)) (ci := 0) (v := .int (nI (k + 1))) (C := RX0) (T := TX0) (N := 12) hx hb hts in_X0 hown hK hP 0 rfl rfl 7 (by decide) (hts _ q28) (fun _ h9 => h9) rfl dX0_enter_11 ?_
  refine lv_iconst (v := nI 1) hx hb dX0_enter_14 (by decide +kernel) ?_
  refine wc_iadd hx hb (x := k + 1) (y := 1) dX0_enter_15 ?_
  refine lv_aload_n hx hb dX0_enter_16 rfl (lv_at hl 0 rfl) ?_
  refine va_get (D := (dC, dI)) (ci := 0) (v := .int (nI lo)) (C := RX0) (T := TX0) (N := 12) hx hb hts in_X0 hown hK hP 0 rfl rfl 8 (by decide) (hts _ q29) (fun _ h9 => h9) rfl dX0_enter_17 ?_
  refine lv_iconst (v := nI 4) hx hb dX0_enter_20 (by decide +kernel) ?_
  refine wc_iadd hx hb (x := lo) (y := 4) dX0_enter_21 ?_
  refine wc_icmp_lt (tgt := 77) hx hb (x := k + 1 + 1) (y := lo + 4) (by omega) (by omega) dX0_enter_22 (by decide) (fun c_22 => ?_) (fun c_22 => ?_)
  · refine lv_aload_n hx hb dX0_enter_77 rfl (lv_at hl 0 rfl) ?_
    refine lv_aload_n hx hb dX0_enter_78 rfl (lv_at hl 0 rfl) ?_
    refine va_get (D := (dC, dI)) (ci := 0) (v := .int (nI (k + 1))) (C := RX0) (T := TX0) (N := 12) hx hb hts in_X0 hown hK hP 0 rfl rfl 7 (by decide) (hts _ q28) (fun _ h9 => h9) rfl dX0_enter_79 ?_
    refine lv_iconst (v := nI 1) hx hb dX0_enter_82 (by decide +kernel) ?_
    refine wc_iadd hx hb (x := k + 1) (y := 1) dX0_enter_83 ?_
    have hFc := va_free (wc := wc_wX hh dd xo xr xn n pa st ct (k + 1) lo rg me rt) hD hS hA [0, 1, 2, 3, 4, 5, 6] rfl
    refine va_callv (va_runV (As := [.int (nI (k + 1 + 1))]) (rest := []) ⟨hx, hb, hml, hown, hts⟩ (wc_clearBlock l dC dI hh dd H_1.size xo xr xn n pa st ct (k + 1) lo rg me rt (k + 1 + 1) (by omega)) (cwV 1 hts (lw_V q73 q75 qs0 q11 q76) rfl rfl rfl (by decide +kernel) ⟨Nat.le_of_ble_eq_true rfl, Nat.le_of_ble_eq_true rfl⟩) (wc_preV hK hP hD (ci := 0) (q0 := 0) rfl rfl) rfl rfl hl.1 rfl (lv_room (Nat.le_of_ble_eq_true rfl)) dX0_enter_84 ⟨Nat.le_of_ble_eq_true rfl, Nat.le_of_ble_eq_true rfl⟩) hS (fun q _ h => hFc q h) hFc (fun u t H_2 locs ht hvm hw hBw hz1 hk1 hS => ?_)
    subst hw
    obtain ⟨hP1, hK1, hD1⟩ := hBw
    rw [ht] at hP1
    have hP : va_P (dC, dI) vwCl (wc_wX hh dd xo xr xn n pa st ct (k + 1) lo (wc_cl4 rg ((k + 1 + 1) % 4 * 4)) me rt) H_2 := hP1
    have hD : va_D A (wc_wX hh dd xo xr xn n pa st ct (k + 1) lo (wc_cl4 rg ((k + 1 + 1) % 4 * 4)) me rt) := hD1.weaken (fun _ q _ h => hFc q.1 h)
    exact W.vret hx hb hr (fun t ht hW => ⟨⟨(xo, xr, xn, n, pa, st, ct, k + 1, lo, wc_cl4 rg ((k + 1 + 1) % 4 * 4), me, rt), rfl, ⟨_, _, _, rfl, wc_Blk_enterB hBk hk (by omega)⟩, by rw [ht]; exact hP, va_K.moved hW.alike hK, hD⟩, hS.F ht⟩) hS.2.2 dX0_enter_87
  · refine lv_aload_n hx hb dX0_enter_25 rfl (lv_at hl 0 rfl) ?_
    refine va_get (D := (dC, dI)) (ci := 0) (v := .int (nI lo)) (C := RX0) (T := TX0) (N := 12) hx hb hts in_X0 hown hK hP 0 rfl rfl 8 (by decide) (hts _ q29) (fun _ h9 => h9) rfl dX0_enter_26 ?_
    have hFc := wc_free0 hS hA
    refine va_calli (va_runS (As := [.int (nI lo)]) (rest := []) ⟨hx, hb, hml, hown, hts⟩ (wc_placeOf l H_1.size lo (by omega)) (va_cwS 1 hts (lw_S q77 q78 q11 q79) rfl rfl rfl (by decide +kernel) ⟨Nat.le_of_ble_eq_true rfl, Nat.le_of_ble_eq_true rfl⟩) wc_preS rfl rfl hl.1 rfl (lv_room (Nat.le_of_ble_eq_true rfl)) dX0_enter_29 ⟨Nat.le_of_ble_eq_true rfl, Nat.le_of_ble_eq_true rfl⟩) hS (fun q _ h => hFc q h) hFc (fun r_29 u t H_3 locs ht hvm hw hBw hz1 hk1 hS => ?_)
    have hq_29 := hw
    have hP := wc_keep hP hk1
    refine wc_top (show r_29 = nI (lo % 4 * 4) from hq_29) ?_
    refine lv_istore_n (lv' := [(1, .int (nI (lo % 4 * 4))), (0, .ref (hh 0))]) hx hb dX0_enter_32 rfl hl (by decide) rfl (fun ls hl => ?_)
    refine lv_iconst (v := nI 0) hx hb dX0_enter_33 (by decide +kernel) ?_
    refine lv_istore_n (lv' := [(2, .int (nI 0)), (1, .int (nI (lo % 4 * 4))), (0, .ref (hh 0))]) hx hb dX0_enter_34 rfl hl (by decide) rfl (fun ls hl => ?_)
    refine lv_iload_n hx hb dX0_enter_35 rfl (lv_at hl 0 rfl) ?_
    refine lv_iconst (v := nI 4) hx hb dX0_enter_36 (by decide +kernel) ?_
    refine wc_icmp_ge (tgt := 67) hx hb (x := 0) (y := 4) (by omega) (by omega) dX0_enter_37 (by decide) (fun c_37 => ?_) (fun c_37 => ?_)
    · exact absurd c_37 (by omega)
    · refine lv_aload_n hx hb dX0_enter_40 rfl (lv_at hl 2 rfl) ?_
      refine va_get (D := (dC, dI)) (ci := 0) (v := .ref (hh 5)) (C := RX0) (T := TX0) (N := 12) hx hb hts in_X0 hown hK hP 0 rfl rfl 10 (by decide) (hts _ q31) (fun _ h9 => h9) rfl dX0_enter_41 ?_
      refine lv_aload_n hx hb dX0_enter_44 rfl (lv_at hl 2 rfl) ?_
      refine va_get (D := (dC, dI)) (ci := 0) (v := .int (nI lo)) (C := RX0) (T := TX0) (N := 12) hx hb hts in_X0 hown hK hP 0 rfl rfl 8 (by decide) (hts _ q29) (fun _ h9 => h9) rfl dX0_enter_45 ?_
      refine lv_iconst (v := nI 4) hx hb dX0_enter_48 (by decide +kernel) ?_
      refine wc_imul hx hb (x := lo) (y := 4) dX0_enter_49 ?_
      refine lv_iload_n hx hb dX0_enter_50 rfl (lv_at hl 0 rfl) ?_
      refine wc_iadd hx hb (x := lo * 4) (y := 0) dX0_enter_51 ?_
      refine lv_aload_n hx hb dX0_enter_52 rfl (lv_at hl 2 rfl) ?_
      refine va_get (D := (dC, dI)) (ci := 0) (v := .ref (hh 4)) (C := RX0) (T := TX0) (N := 12) hx hb hts in_X0 hown hK hP 0 rfl rfl 9 (by decide) (hts _ q30) (fun _ h9 => h9) rfl dX0_enter_53 ?_
      refine lv_iload_n hx hb dX0_enter_56 rfl (lv_at hl 1 rfl) ?_
      refine lv_iload_n hx hb dX0_enter_57 rfl (lv_at hl 0 rfl) ?_
      refine wc_iadd hx hb (x := lo % 4 * 4) (y := 0) dX0_enter_58 ?_
      refine wc_iald hx hb hK hP 4 3 rfl rfl (j := lo % 4 * 4 + 0) (by omega) (by decide) dX0_enter_59 ?_
      refine wc_iast hx hb hK hP hD hS 5 4 rfl rfl (j := lo * 4 + 0) (by omega) (by decide) dX0_enter_60 (fun H_4 locs hP hD hS => ?_)
      have hP : va_P (dC, dI) vwCl (wc_wX hh dd xo xr xn n pa st ct (k + 1) lo rg (upd me (lo * 4 + 0) (rg (lo % 4 * 4 + 0))) rt) H_4 := hP
      have hD : va_D A (wc_wX hh dd xo xr xn n pa st ct (k + 1) lo rg (upd me (lo * 4 + 0) (rg (lo % 4 * 4 + 0))) rt) := hD
      refine lv_iinc (v := nI 1) (lv' := [(2, .int (nI 1)), (1, .int (nI (lo % 4 * 4))), (0, .ref (hh 0))]) hx hb dX0_enter_61 hl (k := 0) rfl (by first | exact nI_add _ _ | decide +kernel) (by decide) rfl (fun ls hl => ?_)
      refine lv_goto (tgt := 35) hx hb dX0_enter_64 (by decide) ?_
      refine lv_iload_n hx hb dX0_enter_35 rfl (lv_at hl 0 rfl) ?_
      refine lv_iconst (v := nI 4) hx hb dX0_enter_36 (by decide +kernel) ?_
      refine wc_icmp_ge (tgt := 67) hx hb (x := 1) (y := 4) (by omega) (by omega) dX0_enter_37 (by decide) (fun c_37 => ?_) (fun c_37 => ?_)
      · exact absurd c_37 (by omega)
      · refine lv_aload_n hx hb dX0_enter_40 rfl (lv_at hl 2 rfl) ?_
        refine va_get (D := (dC, dI)) (ci := 0) (v := .ref (hh 5)) (C := RX0) (T := TX0) (N := 12) hx hb hts in_X0 hown hK hP 0 rfl rfl 10 (by decide) (hts _ q31) (fun _ h9 => h9) rfl dX0_enter_41 ?_
        refine lv_aload_n hx hb dX0_enter_44 rfl (lv_at hl 2 rfl) ?_
        refine va_get (D := (dC, dI)) (ci := 0) (v := .int (nI lo)) (C := RX0) (T := TX0) (N := 12) hx hb hts in_X0 hown hK hP 0 rfl rfl 8 (by decide) (hts _ q29) (fun _ h9 => h9) rfl dX0_enter_45 ?_
        refine lv_iconst (v := nI 4) hx hb dX0_enter_48 (by decide +kernel) ?_
        refine wc_imul hx hb (x := lo) (y := 4) dX0_enter_49 ?_
        refine lv_iload_n hx hb dX0_enter_50 rfl (lv_at hl 0 rfl) ?_
        refine wc_iadd hx hb (x := lo * 4) (y := 1) dX0_enter_51 ?_
        refine lv_aload_n hx hb dX0_enter_52 rfl (lv_at hl 2 rfl) ?_
        refine va_get (D := (dC, dI)) (ci := 0) (v := .ref (hh 4)) (C := RX0) (T := TX0) (N := 12) hx hb hts in_X0 hown hK hP 0 rfl rfl 9 (by decide) (hts _ q30) (fun _ h9 => h9) rfl dX0_enter_53 ?_
        refine lv_iload_n hx hb dX0_enter_56 rfl (lv_at hl 1 rfl) ?_
        refine lv_iload_n hx hb dX0_enter_57 rfl (lv_at hl 0 rfl) ?_
        refine wc_iadd hx hb (x := lo % 4 * 4) (y := 1) dX0_enter_58 ?_
        refine wc_iald hx hb hK hP 4 3 rfl rfl (j := lo % 4 * 4 + 1) (by omega) (by decide) dX0_enter_59 ?_
        refine wc_iast hx hb hK hP hD hS 5 4 rfl rfl (j := lo * 4 + 1) (by omega) (by decide) dX0_enter_60 (fun H_5 locs hP hD hS => ?_)
        have hP : va_P (dC, dI) vwCl (wc_wX hh dd xo xr xn n pa st ct (k + 1) lo rg (upd (upd me (lo * 4 + 0) (rg (lo % 4 * 4 + 0))) (lo * 4 + 1) (rg (lo % 4 * 4 + 1))) rt) H_5 := hP
        have hD : va_D A (wc_wX hh dd xo xr xn n pa st ct (k + 1) lo rg (upd (upd me (lo * 4 + 0) (rg (lo % 4 * 4 + 0))) (lo * 4 + 1) (rg (lo % 4 * 4 + 1))) rt) := hD
        refine lv_iinc (v := nI 2) (lv' := [(2, .int (nI 2)), (1, .int (nI (lo % 4 * 4))), (0, .ref (hh 0))]) hx hb dX0_enter_61 hl (k := 0) rfl (by first | exact nI_add _ _ | decide +kernel) (by decide) rfl (fun ls hl => ?_)
        refine lv_goto (tgt := 35) hx hb dX0_enter_64 (by decide) ?_
        refine lv_iload_n hx hb dX0_enter_35 rfl (lv_at hl 0 rfl) ?_
        refine lv_iconst (v := nI 4) hx hb dX0_enter_36 (by decide +kernel) ?_
        refine wc_icmp_ge (tgt := 67) hx hb (x := 2) (y := 4) (by omega) (by omega) dX0_enter_37 (by decide) (fun c_37 => ?_) (fun c_37 => ?_)
        · exact absurd c_37 (by omega)
        · refine lv_aload_n hx hb dX0_enter_40 rfl (lv_at hl 2 rfl) ?_
          refine va_get (D := (dC, dI)) (ci := 0) (v := .ref (hh 5)) (C := RX0) (T := TX0) (N := 12) hx hb hts in_X0 hown hK hP 0 rfl rfl 10 (by decide) (hts _ q31) (fun _ h9 => h9) rfl dX0_enter_41 ?_
          refine lv_aload_n hx hb dX0_enter_44 rfl (lv_at hl 2 rfl) ?_
          refine va_get (D := (dC, dI)) (ci := 0) (v := .int (nI lo)) (C := RX0) (T := TX0) (N := 12) hx hb hts in_X0 hown hK hP 0 rfl rfl 8 (by decide) (hts _ q29) (fun _ h9 => h9) rfl dX0_enter_45 ?_
          refine lv_iconst (v := nI 4) hx hb dX0_enter_48 (by decide +kernel) ?_
          refine wc_imul hx hb (x := lo) (y := 4) dX0_enter_49 ?_
          refine lv_iload_n hx hb dX0_enter_50 rfl (lv_at hl 0 rfl) ?_
          refine wc_iadd hx hb (x := lo * 4) (y := 2) dX0_enter_51 ?_
          refine lv_aload_n hx hb dX0_enter_52 rfl (lv_at hl 2 rfl) ?_
          refine va_get (D := (dC, dI)) (ci := 0) (v := .ref (hh 4)) (C := RX0) (T := TX0) (N := 12) hx hb hts in_X0 hown hK hP 0 rfl rfl 9 (by decide) (hts _ q30) (fun _ h9 => h9) rfl dX0_enter_53 ?_
          refine lv_iload_n hx hb dX0_enter_56 rfl (lv_at hl 1 rfl) ?_
          refine lv_iload_n hx hb dX0_enter_57 rfl (lv_at hl 0 rfl) ?_
          refine wc_iadd hx hb (x := lo % 4 * 4) (y := 2) dX0_enter_58 ?_
          refine wc_iald hx hb hK hP 4 3 rfl rfl (j := lo % 4 * 4 + 2) (by omega) (by decide) dX0_enter_59 ?_
          refine wc_iast hx hb hK hP hD hS 5 4 rfl rfl (j := lo * 4 + 2) (by omega) (by decide) dX0_enter_60 (fun H_6 locs hP hD hS => ?_)
          have hP : va_P (dC, dI) vwCl (wc_wX hh dd xo xr xn n pa st ct (k + 1) lo rg (upd (upd (upd me (lo * 4 + 0) (rg (lo % 4 * 4 + 0))) (lo * 4 + 1) (rg (lo % 4 * 4 + 1))) (lo * 4 + 2) (rg (lo % 4 * 4 + 2))) rt) H_6 := hP
          have hD : va_D A (wc_wX hh dd xo xr xn n pa st ct (k + 1) lo rg (upd (upd (upd me (lo * 4 + 0) (rg (lo % 4 * 4 + 0))) (lo * 4 + 1) (rg (lo % 4 * 4 + 1))) (lo * 4 + 2) (rg (lo % 4 * 4 + 2))) rt) := hD
          refine lv_iinc (v := nI 3) (lv' := [(2, .int (nI 3)), (1, .int (nI (lo % 4 * 4))), (0, .ref (hh 0))]) hx hb dX0_enter_61 hl (k := 0) rfl (by first | exact nI_add _ _ | decide +kernel) (by decide) rfl (fun ls hl => ?_)
          refine lv_goto (tgt := 35) hx hb dX0_enter_64 (by decide) ?_
          refine lv_iload_n hx hb dX0_enter_35 rfl (lv_at hl 0 rfl) ?_
          refine lv_iconst (v := nI 4) hx hb dX0_enter_36 (by decide +kernel) ?_
          refine wc_icmp_ge (tgt := 67) hx hb (x := 3) (y := 4) (by omega) (by omega) dX0_enter_37 (by decide) (fun c_37 => ?_) (fun c_37 => ?_)
          · exact absurd c_37 (by omega)
          · refine lv_aload_n hx hb dX0_enter_40 rfl (lv_at hl 2 rfl) ?_
            refine va_get (D := (dC, dI)) (ci := 0) (v := .ref (hh 5)) (C := RX0) (T := TX0) (N := 12) hx hb hts in_X0 hown hK hP 0 rfl rfl 10 (by decide) (hts _ q31) (fun _ h9 => h9) rfl dX0_enter_41 ?_
            refine lv_aload_n hx hb dX0_enter_44 rfl (lv_at hl 2 rfl) ?_
            refine va_get (D := (dC, dI)) (ci := 0) (v := .int (nI lo)) (C := RX0) (T := TX0) (N := 12) hx hb hts in_X0 hown hK hP 0 rfl rfl 8 (by decide) (hts _ q29) (fun _ h9 => h9) rfl dX0_enter_45 ?_
            refine lv_iconst (v := nI 4) hx hb dX0_enter_48 (by decide +kernel) ?_
            refine wc_imul hx hb (x := lo) (y := 4) dX0_enter_49 ?_
            refine lv_iload_n hx hb dX0_enter_50 rfl (lv_at hl 0 rfl) ?_
            refine wc_iadd hx hb (x := lo * 4) (y := 3) dX0_enter_51 ?_
            refine lv_aload_n hx hb dX0_enter_52 rfl (lv_at hl 2 rfl) ?_
            refine va_get (D := (dC, dI)) (ci := 0) (v := .ref (hh 4)) (C := RX0) (T := TX0) (N := 12) hx hb hts in_X0 hown hK hP 0 rfl rfl 9 (by decide) (hts _ q30) (fun _ h9 => h9) rfl dX0_enter_53 ?_
            refine lv_iload_n hx hb dX0_enter_56 rfl (lv_at hl 1 rfl) ?_
            refine lv_iload_n hx hb dX0_enter_57 rfl (lv_at hl 0 rfl) ?_
            refine wc_iadd hx hb (x := lo % 4 * 4) (y := 3) dX0_enter_58 ?_
            refine wc_iald hx hb hK hP 4 3 rfl rfl (j := lo % 4 * 4 + 3) (by omega) (by decide) dX0_enter_59 ?_
            refine wc_iast hx hb hK hP hD hS 5 4 rfl rfl (j := lo * 4 + 3) (by omega) (by decide) dX0_enter_60 (fun H_7 locs hP hD hS => ?_)
            have hP : va_P (dC, dI) vwCl (wc_wX hh dd xo xr xn n pa st ct (k + 1) lo rg (upd (upd (upd (upd me (lo * 4 + 0) (rg (lo % 4 * 4 + 0))) (lo * 4 + 1) (rg (lo % 4 * 4 + 1))) (lo * 4 + 2) (rg (lo % 4 * 4 + 2))) (lo * 4 + 3) (rg (lo % 4 * 4 + 3))) rt) H_7 := hP
            have hD : va_D A (wc_wX hh dd xo xr xn n pa st ct (k + 1) lo rg (upd (upd (upd (upd me (lo * 4 + 0) (rg (lo % 4 * 4 + 0))) (lo * 4 + 1) (rg (lo % 4 * 4 + 1))) (lo * 4 + 2) (rg (lo % 4 * 4 + 2))) (lo * 4 + 3) (rg (lo % 4 * 4 + 3))) rt) := hD
            refine lv_iinc (v := nI 4) (lv' := [(2, .int (nI 4)), (1, .int (nI (lo % 4 * 4))), (0, .ref (hh 0))]) hx hb dX0_enter_61 hl (k := 0) rfl (by first | exact nI_add _ _ | decide +kernel) (by decide) rfl (fun ls hl => ?_)
            refine lv_goto (tgt := 35) hx hb dX0_enter_64 (by decide) ?_
            refine lv_iload_n hx hb dX0_enter_35 rfl (lv_at hl 0 rfl) ?_
            refine lv_iconst (v := nI 4) hx hb dX0_enter_36 (by decide +kernel) ?_
            refine wc_icmp_ge (tgt := 67) hx hb (x := 4) (y := 4) (by omega) (by omega) dX0_enter_37 (by decide) (fun c_37 => ?_) (fun c_37 => ?_)
            · refine lv_aload_n hx hb dX0_enter_67 rfl (lv_at hl 2 rfl) ?_
              refine lv_dup hx hb dX0_enter_68 rfl ?_
              refine va_get (D := (dC, dI)) (ci := 0) (v := .int (nI lo)) (C := RX0) (T := TX0) (N := 12) hx hb hts in_X0 hown hK hP 0 rfl rfl 8 (by decide) (hts _ q29) (fun _ h9 => h9) rfl dX0_enter_69 ?_
              refine lv_iconst (v := nI 1) hx hb dX0_enter_72 (by decide +kernel) ?_
              refine wc_iadd hx hb (x := lo) (y := 1) dX0_enter_73 ?_
              refine va_put (D := (dC, dI)) (ci := 0) (v := .int (nI (lo + 1))) (ty := .int) (C := RX0) (T := TX0) (N := 12) hx hb hts in_X0 tyX0 tyX0_ok nmX0 hown hK hP hD hS 0 rfl rfl 8 (by decide) (hts _ q29) (fun _ h9 => h9) rfl (by decide +kernel) rfl rfl (Nat.le_of_ble_eq_true rfl) dX0_enter_74 (fun H_8 locs hP hD hS => ?_)
              have hP : va_P (dC, dI) vwCl (wc_wX hh dd xo xr xn n pa st ct (k + 1) (lo + 1) rg (upd (upd (upd (upd me (lo * 4 + 0) (rg (lo % 4 * 4 + 0))) (lo * 4 + 1) (rg (lo % 4 * 4 + 1))) (lo * 4 + 2) (rg (lo % 4 * 4 + 2))) (lo * 4 + 3) (rg (lo % 4 * 4 + 3))) rt) H_8 := hP
              have hD : va_D A (wc_wX hh dd xo xr xn n pa st ct (k + 1) (lo + 1) rg (upd (upd (upd (upd me (lo * 4 + 0) (rg (lo % 4 * 4 + 0))) (lo * 4 + 1) (rg (lo % 4 * 4 + 1))) (lo * 4 + 2) (rg (lo % 4 * 4 + 2))) (lo * 4 + 3) (rg (lo % 4 * 4 + 3))) rt) := hD
              refine lv_aload_n hx hb dX0_enter_77 rfl (lv_at hl 2 rfl) ?_
              refine lv_aload_n hx hb dX0_enter_78 rfl (lv_at hl 2 rfl) ?_
              refine va_get (D := (dC, dI)) (ci := 0) (v := .int (nI (k + 1))) (C := RX0) (T := TX0) (N := 12) hx hb hts in_X0 hown hK hP 0 rfl rfl 7 (by decide) (hts _ q28) (fun _ h9 => h9) rfl dX0_enter_79 ?_
              refine lv_iconst (v := nI 1) hx hb dX0_enter_82 (by decide +kernel) ?_
              refine wc_iadd hx hb (x := k + 1) (y := 1) dX0_enter_83 ?_
              have hFc := va_free (wc := wc_wX hh dd xo xr xn n pa st ct (k + 1) (lo + 1) rg (upd (upd (upd (upd me (lo * 4 + 0) (rg (lo % 4 * 4 + 0))) (lo * 4 + 1) (rg (lo % 4 * 4 + 1))) (lo * 4 + 2) (rg (lo % 4 * 4 + 2))) (lo * 4 + 3) (rg (lo % 4 * 4 + 3))) rt) hD hS hA [0, 1, 2, 3, 4, 5, 6] rfl
              refine va_callv (va_runV (As := [.int (nI (k + 1 + 1))]) (rest := []) ⟨hx, hb, hml, hown, hts⟩ (wc_clearBlock l dC dI hh dd H_8.size xo xr xn n pa st ct (k + 1) (lo + 1) rg (upd (upd (upd (upd me (lo * 4 + 0) (rg (lo % 4 * 4 + 0))) (lo * 4 + 1) (rg (lo % 4 * 4 + 1))) (lo * 4 + 2) (rg (lo % 4 * 4 + 2))) (lo * 4 + 3) (rg (lo % 4 * 4 + 3))) rt (k + 1 + 1) (by omega)) (cwV 1 hts (lw_V q73 q75 qs0 q11 q76) rfl rfl rfl (by decide +kernel) ⟨Nat.le_of_ble_eq_true rfl, Nat.le_of_ble_eq_true rfl⟩) (wc_preV hK hP hD (ci := 0) (q0 := 0) rfl rfl) rfl rfl hl.1 rfl (lv_room (Nat.le_of_ble_eq_true rfl)) dX0_enter_84 ⟨Nat.le_of_ble_eq_true rfl, Nat.le_of_ble_eq_true rfl⟩) hS (fun q _ h => hFc q h) hFc (fun u t H_9 locs ht hvm hw hBw hz1 hk1 hS => ?_)
              subst hw
              obtain ⟨hP1, hK1, hD1⟩ := hBw
              rw [ht] at hP1
              have hP : va_P (dC, dI) vwCl (wc_wX hh dd xo xr xn n pa st ct (k + 1) (lo + 1) (wc_cl4 rg ((k + 1 + 1) % 4 * 4)) (upd (upd (upd (upd me (lo * 4 + 0) (rg (lo % 4 * 4 + 0))) (lo * 4 + 1) (rg (lo % 4 * 4 + 1))) (lo * 4 + 2) (rg (lo % 4 * 4 + 2))) (lo * 4 + 3) (rg (lo % 4 * 4 + 3))) rt) H_9 := hP1
              have hD : va_D A (wc_wX hh dd xo xr xn n pa st ct (k + 1) (lo + 1) (wc_cl4 rg ((k + 1 + 1) % 4 * 4)) (upd (upd (upd (upd me (lo * 4 + 0) (rg (lo % 4 * 4 + 0))) (lo * 4 + 1) (rg (lo % 4 * 4 + 1))) (lo * 4 + 2) (rg (lo % 4 * 4 + 2))) (lo * 4 + 3) (rg (lo % 4 * 4 + 3))) rt) := hD1.weaken (fun _ q _ h => hFc q.1 h)
              exact W.vret hx hb hr (fun t ht hW => ⟨⟨(xo, xr, xn, n, pa, st, ct, k + 1, lo + 1, wc_cl4 rg ((k + 1 + 1) % 4 * 4), upd (upd (upd (upd me (lo * 4 + 0) (rg (lo % 4 * 4 + 0))) (lo * 4 + 1) (rg (lo % 4 * 4 + 1))) (lo * 4 + 2) (rg (lo % 4 * 4 + 2))) (lo * 4 + 3) (rg (lo % 4 * 4 + 3)), rt), rfl, ⟨_, _, _, rfl, wc_Blk_enterA hBk hk (by omega)⟩, by rw [ht]; exact hP, va_K.moved hW.alike hK, hD⟩, hS.F ht⟩) hS.2.2 dX0_enter_87
            · exact absurd c_37 (by omega)
set_option maxHeartbeats 4000000 in
set_option maxRecDepth 100000 in
/-- leave() -/
theorem wc_leave (l : Launch) (dC : Nat → ClassId) (dI : Nat → Nat → Nat) (hh : Nat → Nat) (dd : Nat → ClassId) (sz : Nat) (xo xr xn : Nat → Int32) (n : Nat) (pa st ct : Int32) (k lo : Nat) (rg me rt : Nat → Int32) (ro : Nat → Int32) (hBk : wc_Blk k lo rg me ro) (hk : 1 ≤ k) : Met l yX0_leave (ws_ yX0_leave cX0_leave 3 none) ({ frames := 1, cells := 0, slots := 0, locals := 20 }) (va_Pc [.ref (hh 0)] (wc_pw dC dI (wc_wX hh dd xo xr xn n pa st ct k lo rg me rt) (wc_tX dd) sz)) (va_Qv (fun (u : wc_SX) => ∃ (lo' : Nat) (rg' : Nat → Int32), u = (xo, xr, xn, n, pa, st, ct, k - 1, lo', rg', me, rt) ∧ wc_Blk (k - 1) lo' rg' me ro) (wc_bX dC dI hh dd (va_A (wc_wX hh dd xo xr xn n pa st ct k lo rg me rt) sz)) (va_A (wc_wX hh dd xo xr xn n pa st ct k lo rg me rt) sz)) 0 0 (va_A (wc_wX hh dd xo xr xn n pa st ct k lo rg me rt) sz) := by
  refine Met.ofW (cc := cX0_leave) (maxL := 3) (ret := none) (by decide) rfl ?_
  intro p e s m args below meth c s₁ B hml hv
  obtain ⟨rfl, hsz, hP, hK, hD0⟩ := hv
  have hx := B.exec
  have hb := B.bytes
  have hr := B.returns
  have hts := atoms_spec (ws := ws_ yX0_leave cX0_leave 3 none) B.pre
  have hts : ∀ w ∈ lw_all, w.before _ s = true := fun w h => hts w (List.mem_cons_of_mem _ h)
  have hown : s.vm.findClass RX0 = some m.cls := findClass_of_methodNamed B.named
  have hlocks := B.notSynchronized
  subst hsz
  have hD := hD0.self (sz := s.heap.size)
  generalize hAe : va_A (wc_wX hh dd xo xr xn n pa st ct k lo rg me rt) s.heap.size = A at hD ⊢
  have hA : ∀ q : Nat, s.heap.size ≤ q → A q := fun q h => by rw [← hAe]; exact Or.inr h
  have hS : va_S A s.heap s.heap [] := va_S.rf
  have hP : va_P (dC, dI) vwCl (wc_wX hh dd xo xr xn n pa st ct k lo rg me rt) s.heap := hP
  have hl := lv_entry ([.ref (hh 0)]) (n := 3) (Nat.le_of_ble_eq_true rfl)
  rw [lg_entry_eq]
  generalize (lg_sl ([.ref (hh 0)]) ++ List.replicate (3 - (lg_sl ([.ref (hh 0)])).length) Slot.unset).toArray = ls at hl ⊢
  have hl : lv_has ls 3 [(0, .ref (hh 0))] := hl
  have hlo := hBk.1
  have hk29 := hBk.2.2.1
  refine lv_aload_n hx hb dX0_leave_0 rfl (lv_at hl 0 rfl) ?_
  refine lv_dup hx hb dX0_leave_1 rfl ?_
  refine va_get (D := (dC, dI)) (ci := 0) (v := .int (nI k)) (C := RX0) (T := TX0) (N := 12) hx hb hts in_X0 hown hK hP 0 rfl rfl 7 (by decide) (hts _ q28) (fun _ h9 => h9) rfl dX0_leave_2 ?_
  refine lv_iconst (v := nI 1) hx hb dX0_leave_5 (by decide +kernel) ?_
  refine wc_isub hx hb (x := k) (y := 1) (by omega) dX0_leave_6 ?_
  refine va_put (D := (dC, dI)) (ci := 0) (v := .int (nI (k - 1))) (ty := .int) (C := RX0) (T := TX0) (N := 12) hx hb hts in_X0 tyX0 tyX0_ok nmX0 hown hK hP hD hS 0 rfl rfl 7 (by decide) (hts _ q28) (fun _ h9 => h9) rfl (by decide +kernel) rfl rfl (Nat.le_of_ble_eq_true rfl) dX0_leave_7 (fun H_1 locs hP hD hS => ?_)
  have hP : va_P (dC, dI) vwCl (wc_wX hh dd xo xr xn n pa st ct (k - 1) lo rg me rt) H_1 := hP
  have hD : va_D A (wc_wX hh dd xo xr xn n pa st ct (k - 1) lo rg me rt) := hD
  refine lv_aload_n hx hb dX0_leave_10 rfl (lv_at hl 0 rfl) ?_
  refine va_get (D := (dC, dI)) (ci := 0) (v := .int (nI (k - 1))) (C := RX0) (T := TX0) (N := 12) hx hb hts in_X0 hown hK hP 0 rfl rfl 7 (by decide) (hts _ q28) (fun _ h9 => h9) rfl dX0_leave_11 ?_
  refine lv_aload_n hx hb dX0_leave_14 rfl (lv_at hl 0 rfl) ?_
  refine va_get (D := (dC, dI)) (ci := 0) (v := .int (nI lo)) (C := RX0) (T := TX0) (N := 12) hx hb hts in_X0 hown hK hP 0 rfl rfl 8 (by decide) (hts _ q29) (fun _ h9 => h9) rfl dX0_leave_15 ?_
  refine wc_icmp_ge (tgt := 73) hx hb (x := k - 1) (y := lo) (by omega) (by omega) dX0_leave_18 (by decide) (fun c_18 => ?_) (fun c_18 => ?_)
  · exact W.vret hx hb hr (fun t ht hW => ⟨⟨(xo, xr, xn, n, pa, st, ct, k - 1, lo, rg, me, rt), rfl, ⟨_, _, rfl, wc_Blk_leaveB hBk hk c_18⟩, by rw [ht]; exact hP, va_K.moved hW.alike hK, hD⟩, hS.F ht⟩) hS.2.2 dX0_leave_73
  · refine lv_aload_n hx hb dX0_leave_21 rfl (lv_at hl 0 rfl) ?_
    refine lv_dup hx hb dX0_leave_22 rfl ?_
    refine va_get (D := (dC, dI)) (ci := 0) (v := .int (nI lo)) (C := RX0) (T := TX0) (N := 12) hx hb hts in_X0 hown hK hP 0 rfl rfl 8 (by decide) (hts _ q29) (fun _ h9 => h9) rfl dX0_leave_23 ?_
    refine lv_iconst (v := nI 1) hx hb dX0_leave_26 (by decide +kernel) ?_
    refine wc_isub hx hb (x := lo) (y := 1) (by omega) dX0_leave_27 ?_
    refine va_put (D := (dC, dI)) (ci := 0) (v := .int (nI (lo - 1))) (ty := .int) (C := RX0) (T := TX0) (N := 12) hx hb hts in_X0 tyX0 tyX0_ok nmX0 hown hK hP hD hS 0 rfl rfl 8 (by decide) (hts _ q29) (fun _ h9 => h9) rfl (by decide +kernel) rfl rfl (Nat.le_of_ble_eq_true rfl) dX0_leave_28 (fun H_2 locs hP hD hS => ?_)
    have hP : va_P (dC, dI) vwCl (wc_wX hh dd xo xr xn n pa st ct (k - 1) (lo - 1) rg me rt) H_2 := hP
    have hD : va_D A (wc_wX hh dd xo xr xn n pa st ct (k - 1) (lo - 1) rg me rt) := hD
    refine lv_aload_n hx hb dX0_leave_31 rfl (lv_at hl 0 rfl) ?_
    refine va_get (D := (dC, dI)) (ci := 0) (v := .int (nI (lo - 1))) (C := RX0) (T := TX0) (N := 12) hx hb hts in_X0 hown hK hP 0 rfl rfl 8 (by decide) (hts _ q29) (fun _ h9 => h9) rfl dX0_leave_32 ?_
    have hFc := wc_free0 hS hA
    refine va_calli (va_runS (As := [.int (nI (lo - 1))]) (rest := []) ⟨hx, hb, hml, hown, hts⟩ (wc_placeOf l H_2.size (lo - 1) (by omega)) (va_cwS 1 hts (lw_S q77 q78 q11 q79) rfl rfl rfl (by decide +kernel) ⟨Nat.le_of_ble_eq_true rfl, Nat.le_of_ble_eq_true rfl⟩) wc_preS rfl rfl hl.1 rfl (lv_room (Nat.le_of_ble_eq_true rfl)) dX0_leave_35 ⟨Nat.le_of_ble_eq_true rfl, Nat.le_of_ble_eq_true rfl⟩) hS (fun q _ h => hFc q h) hFc (fun r_35 u t H_3 locs ht hvm hw hBw hz1 hk1 hS => ?_)
    have hq_35 := hw
    have hP := wc_keep hP hk1
    refine wc_top (show r_35 = nI ((lo - 1) % 4 * 4) from hq_35) ?_
    refine lv_istore_n (lv' := [(1, .int (nI ((lo - 1) % 4 * 4))), (0, .ref (hh 0))]) hx hb dX0_leave_38 rfl hl (by decide) rfl (fun ls hl => ?_)
    refine lv_iconst (v := nI 0) hx hb dX0_leave_39 (by decide +kernel) ?_
    refine lv_istore_n (lv' := [(2, .int (nI 0)), (1, .int (nI ((lo - 1) % 4 * 4))), (0, .ref (hh 0))]) hx hb dX0_leave_40 rfl hl (by decide) rfl (fun ls hl => ?_)
    refine lv_iload_n hx hb dX0_leave_41 rfl (lv_at hl 0 rfl) ?_
    refine lv_iconst (v := nI 4) hx hb dX0_leave_42 (by decide +kernel) ?_
    refine wc_icmp_ge (tgt := 73) hx hb (x := 0) (y := 4) (by omega) (by omega) dX0_leave_43 (by decide) (fun c_43 => ?_) (fun c_43 => ?_)
    · exact absurd c_43 (by omega)
    · refine lv_aload_n hx hb dX0_leave_46 rfl (lv_at hl 2 rfl) ?_
      refine va_get (D := (dC, dI)) (ci := 0) (v := .ref (hh 4)) (C := RX0) (T := TX0) (N := 12) hx hb hts in_X0 hown hK hP 0 rfl rfl 9 (by decide) (hts _ q30) (fun _ h9 => h9) rfl dX0_leave_47 ?_
      refine lv_iload_n hx hb dX0_leave_50 rfl (lv_at hl 1 rfl) ?_
      refine lv_iload_n hx hb dX0_leave_51 rfl (lv_at hl 0 rfl) ?_
      refine wc_iadd hx hb (x := (lo - 1) % 4 * 4) (y := 0) dX0_leave_52 ?_
      refine lv_aload_n hx hb dX0_leave_53 rfl (lv_at hl 2 rfl) ?_
      refine va_get (D := (dC, dI)) (ci := 0) (v := .ref (hh 5)) (C := RX0) (T := TX0) (N := 12) hx hb hts in_X0 hown hK hP 0 rfl rfl 10 (by decide) (hts _ q31) (fun _ h9 => h9) rfl dX0_leave_54 ?_
      refine lv_aload_n hx hb dX0_leave_57 rfl (lv_at hl 2 rfl) ?_
      refine va_get (D := (dC, dI)) (ci := 0) (v := .int (nI (lo - 1))) (C := RX0) (T := TX0) (N := 12) hx hb hts in_X0 hown hK hP 0 rfl rfl 8 (by decide) (hts _ q29) (fun _ h9 => h9) rfl dX0_leave_58 ?_
      refine lv_iconst (v := nI 4) hx hb dX0_leave_61 (by decide +kernel) ?_
      refine wc_imul hx hb (x := lo - 1) (y := 4) dX0_leave_62 ?_
      refine lv_iload_n hx hb dX0_leave_63 rfl (lv_at hl 0 rfl) ?_
      refine wc_iadd hx hb (x := (lo - 1) * 4) (y := 0) dX0_leave_64 ?_
      refine wc_iald hx hb hK hP 5 4 rfl rfl (j := (lo - 1) * 4 + 0) (by omega) (by decide) dX0_leave_65 ?_
      refine wc_iast hx hb hK hP hD hS 4 3 rfl rfl (j := (lo - 1) % 4 * 4 + 0) (by omega) (by decide) dX0_leave_66 (fun H_4 locs hP hD hS => ?_)
      have hP : va_P (dC, dI) vwCl (wc_wX hh dd xo xr xn n pa st ct (k - 1) (lo - 1) (upd rg ((lo - 1) % 4 * 4 + 0) (me ((lo - 1) * 4 + 0))) me rt) H_4 := hP
      have hD : va_D A (wc_wX hh dd xo xr xn n pa st ct (k - 1) (lo - 1) (upd rg ((lo - 1) % 4 * 4 + 0) (me ((lo - 1) * 4 + 0))) me rt) := hD
      refine lv_iinc (v := nI 1) (lv' := [(2, .int (nI 1)), (1, .int (nI ((lo - 1) % 4 * 4))), (0, .ref (hh 0))]) hx hb dX0_leave_67 hl (k := 0) rfl (by first | exact nI_add _ _ | decide +kernel) (by decide) rfl (fun ls hl => ?_)
      refine lv_goto (tgt := 41) hx hb dX0_leave_70 (by decide) ?_
      refine lv_iload_n hx hb dX0_leave_41 rfl (lv_at hl 0 rfl) ?_
      refine lv_iconst (v := nI 4) hx hb dX0_leave_42 (by decide +kernel) ?_
      refine wc_icmp_ge (tgt := 73) hx hb (x := 1) (y := 4) (by omega) (by omega) dX0_leave_43 (by decide) (fun c_43 => ?_) (fun c_43 => ?_)
      · exact absurd c_43 (by omega)
      · refine lv_aload_n hx hb dX0_leave_46 rfl (lv_at hl 2 rfl) ?_
        refine va_get (D := (dC, dI)) (ci := 0) (v := .ref (hh 4)) (C := RX0) (T := TX0) (N := 12) hx hb hts in_X0 hown hK hP 0 rfl rfl 9 (by decide) (hts _ q30) (fun _ h9 => h9) rfl dX0_leave_47 ?_
        refine lv_iload_n hx hb dX0_leave_50 rfl (lv_at hl 1 rfl) ?_
        refine lv_iload_n hx hb dX0_leave_51 rfl (lv_at hl 0 rfl) ?_
        refine wc_iadd hx hb (x := (lo - 1) % 4 * 4) (y := 1) dX0_leave_52 ?_
        refine lv_aload_n hx hb dX0_leave_53 rfl (lv_at hl 2 rfl) ?_
        refine va_get (D := (dC, dI)) (ci := 0) (v := .ref (hh 5)) (C := RX0) (T := TX0) (N := 12) hx hb hts in_X0 hown hK hP 0 rfl rfl 10 (by decide) (hts _ q31) (fun _ h9 => h9) rfl dX0_leave_54 ?_
        refine lv_aload_n hx hb dX0_leave_57 rfl (lv_at hl 2 rfl) ?_
        refine va_get (D := (dC, dI)) (ci := 0) (v := .int (nI (lo - 1))) (C := RX0) (T := TX0) (N := 12) hx hb hts in_X0 hown hK hP 0 rfl rfl 8 (by decide) (hts _ q29) (fun _ h9 => h9) rfl dX0_leave_58 ?_
        refine lv_iconst (v := nI 4) hx hb dX0_leave_61 (by decide +kernel) ?_
        refine wc_imul hx hb (x := lo - 1) (y := 4) dX0_leave_62 ?_
        refine lv_iload_n hx hb dX0_leave_63 rfl (lv_at hl 0 rfl) ?_
        refine wc_iadd hx hb (x := (lo - 1) * 4) (y := 1) dX0_leave_64 ?_
        refine wc_iald hx hb hK hP 5 4 rfl rfl (j := (lo - 1) * 4 + 1) (by omega) (by decide) dX0_leave_65 ?_
        refine wc_iast hx hb hK hP hD hS 4 3 rfl rfl (j := (lo - 1) % 4 * 4 + 1) (by omega) (by decide) dX0_leave_66 (fun H_5 locs hP hD hS => ?_)
        have hP : va_P (dC, dI) vwCl (wc_wX hh dd xo xr xn n pa st ct (k - 1) (lo - 1) (upd (upd rg ((lo - 1) % 4 * 4 + 0) (me ((lo - 1) * 4 + 0))) ((lo - 1) % 4 * 4 + 1) (me ((lo - 1) * 4 + 1))) me rt) H_5 := hP
        have hD : va_D A (wc_wX hh dd xo xr xn n pa st ct (k - 1) (lo - 1) (upd (upd rg ((lo - 1) % 4 * 4 + 0) (me ((lo - 1) * 4 + 0))) ((lo - 1) % 4 * 4 + 1) (me ((lo - 1) * 4 + 1))) me rt) := hD
        refine lv_iinc (v := nI 2) (lv' := [(2, .int (nI 2)), (1, .int (nI ((lo - 1) % 4 * 4))), (0, .ref (hh 0))]) hx hb dX0_leave_67 hl (k := 0) rfl (by first | exact nI_add _ _ | decide +kernel) (by decide) rfl (fun ls hl => ?_)
        refine lv_goto (tgt := 41) hx hb dX0_leave_70 (by decide) ?_
        refine lv_iload_n hx hb dX0_leave_41 rfl (lv_at hl 0 rfl) ?_
        refine lv_iconst (v := nI 4) hx hb dX0_leave_42 (by decide +kernel) ?_
        refine wc_icmp_ge (tgt := 73) hx hb (x := 2) (y := 4) (by omega) (by omega) dX0_leave_43 (by decide) (fun c_43 => ?_) (fun c_43 => ?_)
        · exact absurd c_43 (by omega)
        · refine lv_aload_n hx hb dX0_leave_46 rfl (lv_at hl 2 rfl) ?_
          refine va_get (D := (dC, dI)) (ci := 0) (v := .ref (hh 4)) (C := RX0) (T := TX0) (N := 12) hx hb hts in_X0 hown hK hP 0 rfl rfl 9 (by decide) (hts _ q30) (fun _ h9 => h9) rfl dX0_leave_47 ?_
          refine lv_iload_n hx hb dX0_leave_50 rfl (lv_at hl 1 rfl) ?_
          refine lv_iload_n hx hb dX0_leave_51 rfl (lv_at hl 0 rfl) ?_
          refine wc_iadd hx hb (x := (lo - 1) % 4 * 4) (y := 2) dX0_leave_52 ?_
          refine lv_aload_n hx hb dX0_leave_53 rfl (lv_at hl 2 rfl) ?_
          refine va_get (D := (dC, dI)) (ci := 0) (v := .ref (hh 5)) (C := RX0) (T := TX0) (N := 12) hx hb hts in_X0 hown hK hP 0 rfl rfl 10 (by decide) (hts _ q31) (fun _ h9 => h9) rfl dX0_leave_54 ?_
          refine lv_aload_n hx hb dX0_leave_57 rfl (lv_at hl 2 rfl) ?_
          refine va_get (D := (dC, dI)) (ci := 0) (v := .int (nI (lo - 1))) (C := RX0) (T := TX0) (N := 12) hx hb hts in_X0 hown hK hP 0 rfl rfl 8 (by decide) (hts _ q29) (fun _ h9 => h9) rfl dX0_leave_58 ?_
          refine lv_iconst (v := nI 4) hx hb dX0_leave_61 (by decide +kernel) ?_
          refine wc_imul hx hb (x := lo - 1) (y := 4) dX0_leave_62 ?_
          refine lv_iload_n hx hb dX0_leave_63 rfl (lv_at hl 0 rfl) ?_
          refine wc_iadd hx hb (x := (lo - 1) * 4) (y := 2) dX0_leave_64 ?_
          refine wc_iald hx hb hK hP 5 4 rfl rfl (j := (lo - 1) * 4 + 2) (by omega) (by decide) dX0_leave_65 ?_
          refine wc_iast hx hb hK hP hD hS 4 3 rfl rfl (j := (lo - 1) % 4 * 4 + 2) (by omega) (by decide) dX0_leave_66 (fun H_6 locs hP hD hS => ?_)
          have hP : va_P (dC, dI) vwCl (wc_wX hh dd xo xr xn n pa st ct (k - 1) (lo - 1) (upd (upd (upd rg ((lo - 1) % 4 * 4 + 0) (me ((lo - 1) * 4 + 0))) ((lo - 1) % 4 * 4 + 1) (me ((lo - 1) * 4 + 1))) ((lo - 1) % 4 * 4 + 2) (me ((lo - 1) * 4 + 2))) me rt) H_6 := hP
          have hD : va_D A (wc_wX hh dd xo xr xn n pa st ct (k - 1) (lo - 1) (upd (upd (upd rg ((lo - 1) % 4 * 4 + 0) (me ((lo - 1) * 4 + 0))) ((lo - 1) % 4 * 4 + 1) (me ((lo - 1) * 4 + 1))) ((lo - 1) % 4 * 4 + 2) (me ((lo - 1) * 4 + 2))) me rt) := hD
          refine lv_iinc (v := nI 3) (lv' := [(2, .int (nI 3)), (1, .int (nI ((lo - 1) % 4 * 4))), (0, .ref (hh 0))]) hx hb dX0_leave_67 hl (k := 0) rfl (by first | exact nI_add _ _ | decide +kernel) (by decide) rfl (fun ls hl => ?_)
          refine lv_goto (tgt := 41) hx hb dX0_leave_70 (by decide) ?_
          refine lv_iload_n hx hb dX0_leave_41 rfl (lv_at hl 0 rfl) ?_
          refine lv_iconst (v := nI 4) hx hb dX0_leave_42 (by decide +kernel) ?_
          refine wc_icmp_ge (tgt := 73) hx hb (x := 3) (y := 4) (by omega) (by omega) dX0_leave_43 (by decide) (fun c_43 => ?_) (fun c_43 => ?_)
          · exact absurd c_43 (by omega)
          · refine lv_aload_n hx hb dX0_leave_46 rfl (lv_at hl 2 rfl) ?_
            refine va_get (D := (dC, dI)) (ci := 0) (v := .ref (hh 4)) (C := RX0) (T := TX0) (N := 12) hx hb hts in_X0 hown hK hP 0 rfl rfl 9 (by decide) (hts _ q30) (fun _ h9 => h9) rfl dX0_leave_47 ?_
            refine lv_iload_n hx hb dX0_leave_50 rfl (lv_at hl 1 rfl) ?_
            refine lv_iload_n hx hb dX0_leave_51 rfl (lv_at hl 0 rfl) ?_
            refine wc_iadd hx hb (x := (lo - 1) % 4 * 4) (y := 3) dX0_leave_52 ?_
            refine lv_aload_n hx hb dX0_leave_53 rfl (lv_at hl 2 rfl) ?_
            refine va_get (D := (dC, dI)) (ci := 0) (v := .ref (hh 5)) (C := RX0) (T := TX0) (N := 12) hx hb hts in_X0 hown hK hP 0 rfl rfl 10 (by decide) (hts _ q31) (fun _ h9 => h9) rfl dX0_leave_54 ?_
            refine lv_aload_n hx hb dX0_leave_57 rfl (lv_at hl 2 rfl) ?_
            refine va_get (D := (dC, dI)) (ci := 0) (v := .int (nI (lo - 1))) (C := RX0) (T := TX0) (N := 12) hx hb hts in_X0 hown hK hP 0 rfl rfl 8 (by decide) (hts _ q29) (fun _ h9 => h9) rfl dX0_leave_58 ?_
            refine lv_iconst (v := nI 4) hx hb dX0_leave_61 (by decide +kernel) ?_
            refine wc_imul hx hb (x := lo - 1) (y := 4) dX0_leave_62 ?_
            refine lv_iload_n hx hb dX0_leave_63 rfl (lv_at hl 0 rfl) ?_
            refine wc_iadd hx hb (x := (lo - 1) * 4) (y := 3) dX0_leave_64 ?_
            refine wc_iald hx hb hK hP 5 4 rfl rfl (j := (lo - 1) * 4 + 3) (by omega) (by decide) dX0_leave_65 ?_
            refine wc_iast hx hb hK hP hD hS 4 3 rfl rfl (j := (lo - 1) % 4 * 4 + 3) (by omega) (by decide) dX0_leave_66 (fun H_7 locs hP hD hS => ?_)
            have hP : va_P (dC, dI) vwCl (wc_wX hh dd xo xr xn n pa st ct (k - 1) (lo - 1) (upd (upd (upd (upd rg ((lo - 1) % 4 * 4 + 0) (me ((lo - 1) * 4 + 0))) ((lo - 1) % 4 * 4 + 1) (me ((lo - 1) * 4 + 1))) ((lo - 1) % 4 * 4 + 2) (me ((lo - 1) * 4 + 2))) ((lo - 1) % 4 * 4 + 3) (me ((lo - 1) * 4 + 3))) me rt) H_7 := hP
            have hD : va_D A (wc_wX hh dd xo xr xn n pa st ct (k - 1) (lo - 1) (upd (upd (upd (upd rg ((lo - 1) % 4 * 4 + 0) (me ((lo - 1) * 4 + 0))) ((lo - 1) % 4 * 4 + 1) (me ((lo - 1) * 4 + 1))) ((lo - 1) % 4 * 4 + 2) (me ((lo - 1) * 4 + 2))) ((lo - 1) % 4 * 4 + 3) (me ((lo - 1) * 4 + 3))) me rt) := hD
            refine lv_iinc (v := nI 4) (lv' := [(2, .int (nI 4)), (1, .int (nI ((lo - 1) % 4 * 4))), (0, .ref (hh 0))]) hx hb dX0_leave_67 hl (k := 0) rfl (by first | exact nI_add _ _ | decide +kernel) (by decide) rfl (fun ls hl => ?_)
            refine lv_goto (tgt := 41) hx hb dX0_leave_70 (by decide) ?_
            refine lv_iload_n hx hb dX0_leave_41 rfl (lv_at hl 0 rfl) ?_
            refine lv_iconst (v := nI 4) hx hb dX0_leave_42 (by decide +kernel) ?_
            refine wc_icmp_ge (tgt := 73) hx hb (x := 4) (y := 4) (by omega) (by omega) dX0_leave_43 (by decide) (fun c_43 => ?_) (fun c_43 => ?_)
            · exact W.vret hx hb hr (fun t ht hW => ⟨⟨(xo, xr, xn, n, pa, st, ct, k - 1, lo - 1, upd (upd (upd (upd rg ((lo - 1) % 4 * 4 + 0) (me ((lo - 1) * 4 + 0))) ((lo - 1) % 4 * 4 + 1) (me ((lo - 1) * 4 + 1))) ((lo - 1) % 4 * 4 + 2) (me ((lo - 1) * 4 + 2))) ((lo - 1) % 4 * 4 + 3) (me ((lo - 1) * 4 + 3)), me, rt), rfl, ⟨_, _, rfl, wc_Blk_leaveA hBk hk (by omega)⟩, by rw [ht]; exact hP, va_K.moved hW.alike hK, hD⟩, hS.F ht⟩) hS.2.2 dX0_leave_73
            · exact absurd c_43 (by omega)
set_option maxHeartbeats 4000000 in
set_option maxRecDepth 100000 in
/-- goBack() at the first call -/
theorem wc_goBack0 (l : Launch) (dC : Nat → ClassId) (dI : Nat → Nat → Nat) (hh : Nat → Nat) (dd : Nat → ClassId) (sz : Nat) (xo xr xn : Nat → Int32) (n : Nat) (pa st ct : Int32) (lo : Nat) (rg me rt : Nat → Int32) : Met l yX0_goBack (ws_ yX0_goBack cX0_goBack 1 none) ({ frames := 2, cells := 0, slots := 0, locals := 42 }) (va_Pc [.ref (hh 0)] (wc_pw dC dI (wc_wX hh dd xo xr xn n pa st ct 0 lo rg me rt) (wc_tX dd) sz)) (va_Qv (fun (u : wc_SX) => u = (xo, xr, xn, n, pa, 1, ct, 0, lo, rg, me, rt)) (wc_bX dC dI hh dd (va_A (wc_wX hh dd xo xr xn n pa st ct 0 lo rg me rt) sz)) (va_A (wc_wX hh dd xo xr xn n pa st ct 0 lo rg me rt) sz)) 0 0 (va_A (wc_wX hh dd xo xr xn n pa st ct 0 lo rg me rt) sz) := by
  refine Met.ofW (cc := cX0_goBack) (maxL := 1) (ret := none) (by decide) rfl ?_
  intro p e s m args below meth c s₁ B hml hv
  obtain ⟨rfl, hsz, hP, hK, hD0⟩ := hv
  have hx := B.exec
  have hb := B.bytes
  have hr := B.returns
  have hts := atoms_spec (ws := ws_ yX0_goBack cX0_goBack 1 none) B.pre
  have hts : ∀ w ∈ lw_all, w.before _ s = true := fun w h => hts w (List.mem_cons_of_mem _ h)
  have hown : s.vm.findClass RX0 = some m.cls := findClass_of_methodNamed B.named
  have hlocks := B.notSynchronized
  subst hsz
  have hD := hD0.self (sz := s.heap.size)
  generalize hAe : va_A (wc_wX hh dd xo xr xn n pa st ct 0 lo rg me rt) s.heap.size = A at hD ⊢
  have hA : ∀ q : Nat, s.heap.size ≤ q → A q := fun q h => by rw [← hAe]; exact Or.inr h
  have hS : va_S A s.heap s.heap [] := va_S.rf
  have hP : va_P (dC, dI) vwCl (wc_wX hh dd xo xr xn n pa st ct 0 lo rg me rt) s.heap := hP
  have hl := lv_entry ([.ref (hh 0)]) (n := 1) (Nat.le_of_ble_eq_true rfl)
  rw [lg_entry_eq]
  generalize (lg_sl ([.ref (hh 0)]) ++ List.replicate (1 - (lg_sl ([.ref (hh 0)])).length) Slot.unset).toArray = ls at hl ⊢
  have hl : lv_has ls 1 [(0, .ref (hh 0))] := hl
  refine lv_aload_n hx hb dX0_goBack_0 rfl (lv_at hl 0 rfl) ?_
  refine va_get (D := (dC, dI)) (ci := 0) (v := .int (nI 0)) (C := RX0) (T := TX0) (N := 12) hx hb hts in_X0 hown hK hP 0 rfl rfl 7 (by decide) (hts _ q28) (fun _ h9 => h9) rfl dX0_goBack_1 ?_
  refine wc_if_ne (tgt := 13) hx hb (x := 0) (by omega) dX0_goBack_4 (by decide) (fun c_4 => ?_) (fun c_4 => ?_)
  · exact absurd c_4 (by omega)
  · refine lv_aload_n hx hb dX0_goBack_7 rfl (lv_at hl 0 rfl) ?_
    refine lv_iconst (v := 1) hx hb dX0_goBack_8 (by decide +kernel) ?_
    refine va_put (D := (dC, dI)) (ci := 0) (v := .int 1) (ty := .boolean) (C := RX0) (T := TX0) (N := 12) hx hb hts in_X0 tyX0 tyX0_ok nmX0 hown hK hP hD hS 0 rfl rfl 5 (by decide) (hts _ q26) (fun _ h9 => h9) rfl (by decide +kernel) rfl rfl (Nat.le_of_ble_eq_true rfl) dX0_goBack_9 (fun H_1 locs hP hD hS => ?_)
    have hP : va_P (dC, dI) vwCl (wc_wX hh dd xo xr xn n pa 1 ct 0 lo rg me rt) H_1 := hP
    have hD : va_D A (wc_wX hh dd xo xr xn n pa 1 ct 0 lo rg me rt) := hD
    exact W.vret hx hb hr (fun t ht hW => ⟨⟨(xo, xr, xn, n, pa, 1, ct, 0, lo, rg, me, rt), rfl, rfl, by rw [ht]; exact hP, va_K.moved hW.alike hK, hD⟩, hS.F ht⟩) hS.2.2 dX0_goBack_12
set_option maxHeartbeats 4000000 in
set_option maxRecDepth 100000 in
/-- goBack() at a later call -/
theorem wc_goBack1 (l : Launch) (dC : Nat → ClassId) (dI : Nat → Nat → Nat) (hh : Nat → Nat) (dd : Nat → ClassId) (sz : Nat) (xo xr xn : Nat → Int32) (n : Nat) (pa st ct : Int32) (k lo : Nat) (rg me rt : Nat → Int32) (ro bk : Nat → Int32) (hBk : wc_Blk k lo rg me ro) (hR : wc_Ret k rt bk) (hk : 1 ≤ k) : Met l yX0_goBack (ws_ yX0_goBack cX0_goBack 1 none) ({ frames := 2, cells := 0, slots := 0, locals := 42 }) (va_Pc [.ref (hh 0)] (wc_pw dC dI (wc_wX hh dd xo xr xn n pa st ct k lo rg me rt) (wc_tX dd) sz)) (va_Qv (fun (u : wc_SX) => ∃ (lo' : Nat) (rg' : Nat → Int32), u = (xo, xr, xn, n, bk k, st, ct, k - 1, lo', rg', me, rt) ∧ wc_Blk (k - 1) lo' rg' me ro) (wc_bX dC dI hh dd (va_A (wc_wX hh dd xo xr xn n pa st ct k lo rg me rt) sz)) (va_A (wc_wX hh dd xo xr xn n pa st ct k lo rg me rt) sz)) 0 0 (va_A (wc_wX hh dd xo xr xn n pa st ct k lo rg me rt) sz) := by
  refine Met.ofW (cc := cX0_goBack) (maxL := 1) (ret := none) (by decide) rfl ?_
  intro p e s m args below meth c s₁ B hml hv
  obtain ⟨rfl, hsz, hP, hK, hD0⟩ := hv
  have hx := B.exec
  have hb := B.bytes
  have hr := B.returns
  have hts := atoms_spec (ws := ws_ yX0_goBack cX0_goBack 1 none) B.pre
  have hts : ∀ w ∈ lw_all, w.before _ s = true := fun w h => hts w (List.mem_cons_of_mem _ h)
  have hown : s.vm.findClass RX0 = some m.cls := findClass_of_methodNamed B.named
  have hlocks := B.notSynchronized
  subst hsz
  have hD := hD0.self (sz := s.heap.size)
  generalize hAe : va_A (wc_wX hh dd xo xr xn n pa st ct k lo rg me rt) s.heap.size = A at hD ⊢
  have hA : ∀ q : Nat, s.heap.size ≤ q → A q := fun q h => by rw [← hAe]; exact Or.inr h
  have hS : va_S A s.heap s.heap [] := va_S.rf
  have hP : va_P (dC, dI) vwCl (wc_wX hh dd xo xr xn n pa st ct k lo rg me rt) s.heap := hP
  have hl := lv_entry ([.ref (hh 0)]) (n := 1) (Nat.le_of_ble_eq_true rfl)
  rw [lg_entry_eq]
  generalize (lg_sl ([.ref (hh 0)]) ++ List.replicate (1 - (lg_sl ([.ref (hh 0)])).length) Slot.unset).toArray = ls at hl ⊢
  have hl : lv_has ls 1 [(0, .ref (hh 0))] := hl
  have hk29 := hBk.2.2.1
  obtain ⟨w9, hw9, e1, e2⟩ := hR k hk (Nat.le_refl k)
  refine lv_aload_n hx hb dX0_goBack_0 rfl (lv_at hl 0 rfl) ?_
  refine va_get (D := (dC, dI)) (ci := 0) (v := .int (nI k)) (C := RX0) (T := TX0) (N := 12) hx hb hts in_X0 hown hK hP 0 rfl rfl 7 (by decide) (hts _ q28) (fun _ h9 => h9) rfl dX0_goBack_1 ?_
  refine wc_if_ne (tgt := 13) hx hb (x := k) (by omega) dX0_goBack_4 (by decide) (fun c_4 => ?_) (fun c_4 => ?_)
  · refine lv_aload_n hx hb dX0_goBack_13 rfl (lv_at hl 0 rfl) ?_
    refine lv_aload_n hx hb dX0_goBack_14 rfl (lv_at hl 0 rfl) ?_
    refine va_get (D := (dC, dI)) (ci := 0) (v := .ref (hh 6)) (C := RX0) (T := TX0) (N := 12) hx hb hts in_X0 hown hK hP 0 rfl rfl 11 (by decide) (hts _ q32) (fun _ h9 => h9) rfl dX0_goBack_15 ?_
    refine lv_aload_n hx hb dX0_goBack_18 rfl (lv_at hl 0 rfl) ?_
    refine va_get (D := (dC, dI)) (ci := 0) (v := .int (nI k)) (C := RX0) (T := TX0) (N := 12) hx hb hts in_X0 hown hK hP 0 rfl rfl 7 (by decide) (hts _ q28) (fun _ h9 => h9) rfl dX0_goBack_19 ?_
    refine wc_bald hx hb hK hP 6 5 rfl rfl (j := k) (by omega) (by decide) dX0_goBack_22 ?_
    refine wc_top (show rt k = bk k from e1.trans e2.symm) ?_
    refine va_put (D := (dC, dI)) (ci := 0) (v := .int (bk k)) (ty := .int) (C := RX0) (T := TX0) (N := 12) hx hb hts in_X0 tyX0 tyX0_ok nmX0 hown hK hP hD hS 0 rfl rfl 4 (by decide) (hts _ q25) (fun _ h9 => h9) rfl (by decide +kernel) rfl rfl (Nat.le_of_ble_eq_true rfl) dX0_goBack_23 (fun H_1 locs hP hD hS => ?_)
    have hP : va_P (dC, dI) vwCl (wc_wX hh dd xo xr xn n (bk k) st ct k lo rg me rt) H_1 := hP
    have hD : va_D A (wc_wX hh dd xo xr xn n (bk k) st ct k lo rg me rt) := hD
    refine lv_aload_n hx hb dX0_goBack_26 rfl (lv_at hl 0 rfl) ?_
    have hFc := va_free (wc := wc_wX hh dd xo xr xn n (bk k) st ct k lo rg me rt) hD hS hA [0, 1, 2, 3, 4, 5, 6] rfl
    refine va_callv (va_runV (As := []) (rest := []) ⟨hx, hb, hml, hown, hts⟩ (wc_leave l dC dI hh dd H_1.size xo xr xn n (bk k) st ct k lo rg me rt ro hBk hk) (cwV 0 hts (lw_V q96 q98 qs4 q11 q99) rfl rfl rfl (by decide +kernel) ⟨Nat.le_of_ble_eq_true rfl, Nat.le_of_ble_eq_true rfl⟩) (wc_preV hK hP hD (ci := 0) (q0 := 0) rfl rfl) rfl rfl hl.1 rfl (lv_room (Nat.le_of_ble_eq_true rfl)) dX0_goBack_27 ⟨Nat.le_of_ble_eq_true rfl, Nat.le_of_ble_eq_true rfl⟩) hS (fun q _ h => hFc q h) hFc (fun u t H_2 locs ht hvm hw hBw hz1 hk1 hS => ?_)
    obtain ⟨lo', rg', rfl, hBk'⟩ := hw
    obtain ⟨hP1, hK1, hD1⟩ := hBw
    rw [ht] at hP1
    have hP : va_P (dC, dI) vwCl (wc_wX hh dd xo xr xn n (bk k) st ct (k - 1) lo' rg' me rt) H_2 := hP1
    have hD : va_D A (wc_wX hh dd xo xr xn n (bk k) st ct (k - 1) lo' rg' me rt) := hD1.weaken (fun _ q _ h => hFc q.1 h)
    exact W.vret hx hb hr (fun t ht hW => ⟨⟨(xo, xr, xn, n, bk k, st, ct, k - 1, lo', rg', me, rt), rfl, ⟨lo', rg', rfl, hBk'⟩, by rw [ht]; exact hP, va_K.moved hW.alike hK, hD⟩, hS.F ht⟩) hS.2.2 dX0_goBack_30
  · exact absurd c_4 (by omega)
set_option maxHeartbeats 4000000 in
set_option maxRecDepth 100000 in
/-- register(r) -/
theorem wc_register (l : Launch) (dC : Nat → ClassId) (dI : Nat → Nat → Nat) (hh : Nat → Nat) (dd : Nat → ClassId) (sz : Nat) (xo xr xn : Nat → Int32) (n : Nat) (pa st ct : Int32) (k lo : Nat) (rg me rt : Nat → Int32) (ro : Nat → Int32) (hBk : wc_Blk k lo rg me ro) (x : Int32) : Met l yX0_register (ws_ yX0_register cX0_register 2 (some .int)) ({ frames := 3, cells := 0, slots := 0, locals := 63 }) (va_Pc [.ref (hh 0), .int x] (wc_pw dC dI (wc_wX hh dd xo xr xn n pa st ct k lo rg me rt) (wc_tX dd) sz)) (va_Qi (fun (r : Int32) (u : wc_SX) => r = wc_be (nI 0) x k ro ∧ u = (xo, xr, xn, n, pa, st, ct, k, lo, rg, me, rt)) (wc_bX dC dI hh dd (va_A (wc_wX hh dd xo xr xn n pa st ct k lo rg me rt) sz)) (va_A (wc_wX hh dd xo xr xn n pa st ct k lo rg me rt) sz)) 0 0 (va_A (wc_wX hh dd xo xr xn n pa st ct k lo rg me rt) sz) := by
  refine Met.ofW (cc := cX0_register) (maxL := 2) (ret := (some .int)) (by decide) rfl ?_
  intro p e s m args below meth c s₁ B hml hv
  obtain ⟨rfl, hsz, hP, hK, hD0⟩ := hv
  have hx := B.exec
  have hb := B.bytes
  have hr := B.returns
  have hts := atoms_spec (ws := ws_ yX0_register cX0_register 2 (some .int)) B.pre
  have hts : ∀ w ∈ lw_all, w.before _ s = true := fun w h => hts w (List.mem_cons_of_mem _ h)
  have hown : s.vm.findClass RX0 = some m.cls := findClass_of_methodNamed B.named
  have hlocks := B.notSynchronized
  subst hsz
  have hD := hD0.self (sz := s.heap.size)
  generalize hAe : va_A (wc_wX hh dd xo xr xn n pa st ct k lo rg me rt) s.heap.size = A at hD ⊢
  have hA : ∀ q : Nat, s.heap.size ≤ q → A q := fun q h => by rw [← hAe]; exact Or.inr h
  have hS : va_S A s.heap s.heap [] := va_S.rf
  have hP : va_P (dC, dI) vwCl (wc_wX hh dd xo xr xn n pa st ct k lo rg me rt) s.heap := hP
  have hl := lv_entry ([.ref (hh 0), .int x]) (n := 2) (Nat.le_of_ble_eq_true rfl)
  rw [lg_entry_eq]
  generalize (lg_sl ([.ref (hh 0), .int x]) ++ List.replicate (2 - (lg_sl ([.ref (hh 0), .int x])).length) Slot.unset).toArray = ls at hl ⊢
  have hl : lv_has ls 2 [(0, .ref (hh 0)), (1, .int x)] := hl
  have hk29 := hBk.2.2.1
  refine lv_iload_n hx hb dX0_register_0 rfl (lv_at hl 1 rfl) ?_
  have hFc := wc_free0 hS hA
  refine va_calli (va_runS (As := [.int x]) (rest := []) ⟨hx, hb, hml, hown, hts⟩ (wc_isRegister l s.heap.size x) (va_cwS 1 hts (lw_S q130 q131 q11 q132) rfl rfl rfl (by decide +kernel) ⟨Nat.le_of_ble_eq_true rfl, Nat.le_of_ble_eq_true rfl⟩) wc_preS rfl rfl hl.1 rfl (lv_room (Nat.le_of_ble_eq_true rfl)) dX0_register_1 ⟨Nat.le_of_ble_eq_true rfl, Nat.le_of_ble_eq_true rfl⟩) hS (fun q _ h => hFc q h) hFc (fun r_1 u t H_1 locs ht hvm hw hBw hz1 hk1 hS => ?_)
  have hq_1 := hw
  have hP := wc_keep hP hk1
  rcases wc_isr_cases x with ⟨hz, hz2⟩ | ⟨hz, j, hj, rfl⟩
  · refine wc_top (show r_1 = 0 from hq_1.trans hz) ?_
    refine lv_if_eq (tgt := 15) hx hb dX0_register_4 (by decide) (fun c_4 => ?_) (fun c_4 => ?_)
    · refine lv_iconst (v := 0) hx hb dX0_register_15 (by decide +kernel) ?_
      exact W.iret (v := 0) hx hb hr (fun t ht hW => ⟨⟨0, (xo, xr, xn, n, pa, st, ct, k, lo, rg, me, rt), rfl, ⟨(wc_be2 (fun h => hz2 h.2.2)).symm, rfl⟩, by rw [ht]; exact hP, va_K.moved hW.alike hK, hD⟩, hS.F ht⟩) hS.2.2 dX0_register_16
    · exact absurd rfl c_4
  · refine wc_top (show r_1 = 1 from hq_1.trans hz) ?_
    refine lv_if_eq (tgt := 15) hx hb dX0_register_4 (by decide) (fun c_4 => ?_) (fun c_4 => ?_)
    · exact absurd c_4 (by decide)
    · refine lv_aload_n hx hb dX0_register_7 rfl (lv_at hl 0 rfl) ?_
      refine lv_iload_n hx hb dX0_register_8 rfl (lv_at hl 1 rfl) ?_
      have hFc := va_free (wc := wc_wX hh dd xo xr xn n pa st ct k lo rg me rt) hD hS hA [0, 1, 2, 3, 4, 5, 6] rfl
      refine va_calli (va_runV (As := [.int (nI j)]) (rest := []) ⟨hx, hb, hml, hown, hts⟩ (wc_get l dC dI hh dd H_1.size xo xr xn n pa st ct k lo rg me rt ro hBk j hj) (cwV 1 hts (lw_V q100 q102 qs5 q11 q103) rfl rfl rfl (by decide +kernel) ⟨Nat.le_of_ble_eq_true rfl, Nat.le_of_ble_eq_true rfl⟩) (wc_preV hK hP hD (ci := 0) (q0 := 0) rfl rfl) rfl rfl hl.1 rfl (lv_room (Nat.le_of_ble_eq_true rfl)) dX0_register_9 ⟨Nat.le_of_ble_eq_true rfl, Nat.le_of_ble_eq_true rfl⟩) hS (fun q _ h => hFc q h) hFc (fun r_9 u t H_2 locs ht hvm hw hBw hz1 hk1 hS => ?_)
      obtain ⟨hq_9, rfl⟩ := hw
      obtain ⟨hP1, hK1, hD1⟩ := hBw
      rw [ht] at hP1
      have hP : va_P (dC, dI) vwCl (wc_wX hh dd xo xr xn n pa st ct k lo rg me rt) H_2 := hP1
      have hD : va_D A (wc_wX hh dd xo xr xn n pa st ct k lo rg me rt) := hD1.weaken (fun _ q _ h => hFc q.1 h)
      refine wc_top (show r_9 = ro (4 * k + j) from hq_9) ?_
      refine lv_goto (tgt := 16) hx hb dX0_register_12 (by decide) ?_
      exact W.iret (v := ro (4 * k + j)) hx hb hr (fun t ht hW => ⟨⟨ro (4 * k + j), (xo, xr, xn, n, pa, st, ct, k, lo, rg, me, rt), rfl, ⟨(wc_be1 (by omega) (Nat.zero_le k) hj).symm, rfl⟩, by rw [ht]; exact hP, va_K.moved hW.alike hK, hD⟩, hS.F ht⟩) hS.2.2 dX0_register_16
set_option maxHeartbeats 4000000 in
set_option maxRecDepth 100000 in
/-- below(d, r) -/
theorem wc_below (l : Launch) (dC : Nat → ClassId) (dI : Nat → Nat → Nat) (hh : Nat → Nat) (dd : Nat → ClassId) (sz : Nat) (xo xr xn : Nat → Int32) (n : Nat) (pa st ct : Int32) (k lo : Nat) (rg me rt : Nat → Int32) (ro : Nat → Int32) (hBk : wc_Blk k lo rg me ro) (d x : Int32) : Met l yX0_below (ws_ yX0_below cX0_below 3 (some .int)) ({ frames := 3, cells := 0, slots := 0, locals := 65 }) (va_Pc [.ref (hh 0), .int d, .int x] (wc_pw dC dI (wc_wX hh dd xo xr xn n pa st ct k lo rg me rt) (wc_tX dd) sz)) (va_Qi (fun (r : Int32) (u : wc_SX) => r = wc_be d x k ro ∧ u = (xo, xr, xn, n, pa, st, ct, k, lo, rg, me, rt)) (wc_bX dC dI hh dd (va_A (wc_wX hh dd xo xr xn n pa st ct k lo rg me rt) sz)) (va_A (wc_wX hh dd xo xr xn n pa st ct k lo rg me rt) sz)) 0 0 (va_A (wc_wX hh dd xo xr xn n pa st ct k lo rg me rt) sz) := by
  refine Met.ofW (cc := cX0_below) (maxL := 3) (ret := (some .int)) (by decide) rfl ?_
  intro p e s m args below meth c s₁ B hml hv
  obtain ⟨rfl, hsz, hP, hK, hD0⟩ := hv
  have hx := B.exec
  have hb := B.bytes
  have hr := B.returns
  have hts := atoms_spec (ws := ws_ yX0_below cX0_below 3 (some .int)) B.pre
  have hts : ∀ w ∈ lw_all, w.before _ s = true := fun w h => hts w (List.mem_cons_of_mem _ h)
  have hown : s.vm.findClass RX0 = some m.cls := findClass_of_methodNamed B.named
  have hlocks := B.notSynchronized
  subst hsz
  have hD := hD0.self (sz := s.heap.size)
  generalize hAe : va_A (wc_wX hh dd xo xr xn n pa st ct k lo rg me rt) s.heap.size = A at hD ⊢
  have hA : ∀ q : Nat, s.heap.size ≤ q → A q := fun q h => by rw [← hAe]; exact Or.inr h
  have hS : va_S A s.heap s.heap [] := va_S.rf
  have hP : va_P (dC, dI) vwCl (wc_wX hh dd xo xr xn n pa st ct k lo rg me rt) s.heap := hP
  have hl := lv_entry ([.ref (hh 0), .int d, .int x]) (n := 3) (Nat.le_of_ble_eq_true rfl)
  rw [lg_entry_eq]
  generalize (lg_sl ([.ref (hh 0), .int d, .int x]) ++ List.replicate (3 - (lg_sl ([.ref (hh 0), .int d, .int x])).length) Slot.unset).toArray = ls at hl ⊢
  have hl : lv_has ls 3 [(0, .ref (hh 0)), (1, .int d), (2, .int x)] := hl
  have hk29 := hBk.2.2.1
  refine lv_iload_n hx hb dX0_below_0 rfl (lv_at hl 2 rfl) ?_
  have hFc := wc_free0 hS hA
  refine va_calli (va_runS (As := [.int x]) (rest := []) ⟨hx, hb, hml, hown, hts⟩ (wc_isRegister l s.heap.size x) (va_cwS 1 hts (lw_S q130 q131 q11 q132) rfl rfl rfl (by decide +kernel) ⟨Nat.le_of_ble_eq_true rfl, Nat.le_of_ble_eq_true rfl⟩) wc_preS rfl rfl hl.1 rfl (lv_room (Nat.le_of_ble_eq_true rfl)) dX0_below_1 ⟨Nat.le_of_ble_eq_true rfl, Nat.le_of_ble_eq_true rfl⟩) hS (fun q _ h => hFc q h) hFc (fun r_1 u t H_1 locs ht hvm hw hBw hz1 hk1 hS => ?_)
  have hq_1 := hw
  have hP := wc_keep hP hk1
  rcases wc_isr_cases x with ⟨hz, hz2⟩ | ⟨hz, j, hj, rfl⟩
  · refine wc_top (show r_1 = 0 from hq_1.trans hz) ?_
    refine lv_if_eq (tgt := 33) hx hb dX0_below_4 (by decide) (fun c_4 => ?_) (fun c_4 => ?_)
    · refine lv_iconst (v := 0) hx hb dX0_below_33 (by decide +kernel) ?_
      exact W.iret (v := 0) hx hb hr (fun t ht hW => ⟨⟨0, (xo, xr, xn, n, pa, st, ct, k, lo, rg, me, rt), rfl, ⟨(wc_be2 (fun h => hz2 h.2.2)).symm, rfl⟩, by rw [ht]; exact hP, va_K.moved hW.alike hK, hD⟩, hS.F ht⟩) hS.2.2 dX0_below_34
    · exact absurd rfl c_4
  · refine wc_top (show r_1 = 1 from hq_1.trans hz) ?_
    refine lv_if_eq (tgt := 33) hx hb dX0_below_4 (by decide) (fun c_4 => ?_) (fun c_4 => ?_)
    · exact absurd c_4 (by decide)
    · refine lv_iload_n hx hb dX0_below_7 rfl (lv_at hl 1 rfl) ?_
      refine lv_if_lt (tgt := 33) hx hb dX0_below_8 (by decide) (fun c_8 => ?_) (fun c_8 => ?_)
      · refine lv_iconst (v := 0) hx hb dX0_below_33 (by decide +kernel) ?_
        exact W.iret (v := 0) hx hb hr (fun t ht hW => ⟨⟨0, (xo, xr, xn, n, pa, st, ct, k, lo, rg, me, rt), rfl, ⟨(wc_be2 (fun h => h.1 c_8)).symm, rfl⟩, by rw [ht]; exact hP, va_K.moved hW.alike hK, hD⟩, hS.F ht⟩) hS.2.2 dX0_below_34
      · refine lv_iload_n hx hb dX0_below_11 rfl (lv_at hl 1 rfl) ?_
        refine lv_aload_n hx hb dX0_below_12 rfl (lv_at hl 0 rfl) ?_
        refine va_get (D := (dC, dI)) (ci := 0) (v := .int (nI k)) (C := RX0) (T := TX0) (N := 12) hx hb hts in_X0 hown hK hP 0 rfl rfl 7 (by decide) (hts _ q28) (fun _ h9 => h9) rfl dX0_below_13 ?_
        refine lv_icmp_gt (tgt := 33) hx hb dX0_below_16 (by decide) (fun c_16 => ?_) (fun c_16 => ?_)
        · refine lv_iconst (v := 0) hx hb dX0_below_33 (by decide +kernel) ?_
          exact W.iret (v := 0) hx hb hr (fun t ht hW => ⟨⟨0, (xo, xr, xn, n, pa, st, ct, k, lo, rg, me, rt), rfl, ⟨(wc_be2 (fun h => (Int32.not_le.mpr c_16) h.2.1)).symm, rfl⟩, by rw [ht]; exact hP, va_K.moved hW.alike hK, hD⟩, hS.F ht⟩) hS.2.2 dX0_below_34
        · obtain ⟨q, hq0, rfl⟩ := nI_of c_8
          have hqk : q ≤ k := (nI_leI hq0 (by omega)).mp (Int32.not_lt.mp c_16)
          refine lv_aload_n hx hb dX0_below_19 rfl (lv_at hl 0 rfl) ?_
          refine lv_aload_n hx hb dX0_below_20 rfl (lv_at hl 0 rfl) ?_
          refine va_get (D := (dC, dI)) (ci := 0) (v := .int (nI k)) (C := RX0) (T := TX0) (N := 12) hx hb hts in_X0 hown hK hP 0 rfl rfl 7 (by decide) (hts _ q28) (fun _ h9 => h9) rfl dX0_below_21 ?_
          refine lv_iload_n hx hb dX0_below_24 rfl (lv_at hl 1 rfl) ?_
          refine wc_isub hx hb (x := k) (y := q) (by omega) dX0_below_25 ?_
          refine lv_iload_n hx hb dX0_below_26 rfl (lv_at hl 2 rfl) ?_
          have hFc := va_free (wc := wc_wX hh dd xo xr xn n pa st ct k lo rg me rt) hD hS hA [0, 1, 2, 3, 4, 5, 6] rfl
          refine va_calli (va_runV (As := [.int (nI (k - q)), .int (nI j)]) (rest := []) ⟨hx, hb, hml, hown, hts⟩ (wc_registerOf l dC dI hh dd H_1.size xo xr xn n pa st ct k lo rg me rt ro hBk (k - q) j (by omega) hj) (cwV 2 hts (lw_V q137 q139 qs7 q11 q140) rfl rfl rfl (by decide +kernel) ⟨Nat.le_of_ble_eq_true rfl, Nat.le_of_ble_eq_true rfl⟩) (wc_preV hK hP hD (ci := 0) (q0 := 0) rfl rfl) rfl rfl hl.1 rfl (lv_room (Nat.le_of_ble_eq_true rfl)) dX0_below_27 ⟨Nat.le_of_ble_eq_true rfl, Nat.le_of_ble_eq_true rfl⟩) hS (fun q _ h => hFc q h) hFc (fun r_27 u t H_2 locs ht hvm hw hBw hz1 hk1 hS => ?_)
          obtain ⟨hq_27, rfl⟩ := hw
          obtain ⟨hP1, hK1, hD1⟩ := hBw
          rw [ht] at hP1
          have hP : va_P (dC, dI) vwCl (wc_wX hh dd xo xr xn n pa st ct k lo rg me rt) H_2 := hP1
          have hD : va_D A (wc_wX hh dd xo xr xn n pa st ct k lo rg me rt) := hD1.weaken (fun _ q _ h => hFc q.1 h)
          refine wc_top (show r_27 = ro (4 * (k - q) + j) from hq_27) ?_
          refine lv_goto (tgt := 34) hx hb dX0_below_30 (by decide) ?_
          exact W.iret (v := ro (4 * (k - q) + j)) hx hb hr (fun t ht hW => ⟨⟨ro (4 * (k - q) + j), (xo, xr, xn, n, pa, st, ct, k, lo, rg, me, rt), rfl, ⟨(wc_be1 (by omega) hqk hj).symm, rfl⟩, by rw [ht]; exact hP, va_K.moved hW.alike hK, hD⟩, hS.F ht⟩) hS.2.2 dX0_below_34
set_option maxHeartbeats 4000000 in
set_option maxRecDepth 100000 in
/-- put(r, v) -/
theorem wc_put (l : Launch) (dC : Nat → ClassId) (dI : Nat → Nat → Nat) (hh : Nat → Nat) (dd : Nat → ClassId) (sz : Nat) (xo xr xn : Nat → Int32) (n : Nat) (pa st ct : Int32) (k lo : Nat) (rg me rt : Nat → Int32) (ro : Nat → Int32) (hBk : wc_Blk k lo rg me ro) (x v : Int32) : Met l yX0_put (ws_ yX0_put cX0_put 3 (some .boolean)) ({ frames := 3, cells := 0, slots := 0, locals := 65 }) (va_Pc [.ref (hh 0), .int x, .int v] (wc_pw dC dI (wc_wX hh dd xo xr xn n pa st ct k lo rg me rt) (wc_tX dd) sz)) (va_Qi (fun (r : Int32) (u : wc_SX) => r = wc_isr x ∧ ∃ rg' : Nat → Int32, u = (xo, xr, xn, n, pa, st, ct, k, lo, rg', me, rt) ∧ wc_Blk k lo rg' me (wc_pu x v k ro)) (wc_bX dC dI hh dd (va_A (wc_wX hh dd xo xr xn n pa st ct k lo rg me rt) sz)) (va_A (wc_wX hh dd xo xr xn n pa st ct k lo rg me rt) sz)) 0 0 (va_A (wc_wX hh dd xo xr xn n pa st ct k lo rg me rt) sz) := by
  refine Met.ofW (cc := cX0_put) (maxL := 3) (ret := (some .boolean)) (by decide) rfl ?_
  intro p e s m args below meth c s₁ B hml hv
  obtain ⟨rfl, hsz, hP, hK, hD0⟩ := hv
  have hx := B.exec
  have hb := B.bytes
  have hr := B.returns
  have hts := atoms_spec (ws := ws_ yX0_put cX0_put 3 (some .boolean)) B.pre
  have hts : ∀ w ∈ lw_all, w.before _ s = true := fun w h => hts w (List.mem_cons_of_mem _ h)
  have hown : s.vm.findClass RX0 = some m.cls := findClass_of_methodNamed B.named
  have hlocks := B.notSynchronized
  subst hsz
  have hD := hD0.self (sz := s.heap.size)
  generalize hAe : va_A (wc_wX hh dd xo xr xn n pa st ct k lo rg me rt) s.heap.size = A at hD ⊢
  have hA : ∀ q : Nat, s.heap.size ≤ q → A q := fun q h => by rw [← hAe]; exact Or.inr h
  have hS : va_S A s.heap s.heap [] := va_S.rf
  have hP : va_P (dC, dI) vwCl (wc_wX hh dd xo xr xn n pa st ct k lo rg me rt) s.heap := hP
  have hl := lv_entry ([.ref (hh 0), .int x, .int v]) (n := 3) (Nat.le_of_ble_eq_true rfl)
  rw [lg_entry_eq]
  generalize (lg_sl ([.ref (hh 0), .int x, .int v]) ++ List.replicate (3 - (lg_sl ([.ref (hh 0), .int x, .int v])).length) Slot.unset).toArray = ls at hl ⊢
  have hl : lv_has ls 3 [(0, .ref (hh 0)), (1, .int x), (2, .int v)] := hl
  refine lv_iload_n hx hb dX0_put_0 rfl (lv_at hl 1 rfl) ?_
  have hFc := wc_free0 hS hA
  refine va_calli (va_runS (As := [.int x]) (rest := []) ⟨hx, hb, hml, hown, hts⟩ (wc_isRegister l s.heap.size x) (va_cwS 1 hts (lw_S q130 q131 q11 q132) rfl rfl rfl (by decide +kernel) ⟨Nat.le_of_ble_eq_true rfl, Nat.le_of_ble_eq_true rfl⟩) wc_preS rfl rfl hl.1 rfl (lv_room (Nat.le_of_ble_eq_true rfl)) dX0_put_1 ⟨Nat.le_of_ble_eq_true rfl, Nat.le_of_ble_eq_true rfl⟩) hS (fun q _ h => hFc q h) hFc (fun r_1 u t H_1 locs ht hvm hw hBw hz1 hk1 hS => ?_)
  have hq_1 := hw
  have hP := wc_keep hP hk1
  rcases wc_isr_cases x with ⟨hz, hz2⟩ | ⟨hz, j, hj, rfl⟩
  · refine wc_top (show r_1 = 0 from hq_1.trans hz) ?_
    refine lv_if_ne (tgt := 9) hx hb dX0_put_4 (by decide) (fun c_4 => ?_) (fun c_4 => ?_)
    · exact absurd rfl c_4
    · refine lv_iconst (v := 0) hx hb dX0_put_7 (by decide +kernel) ?_
      exact W.zret (v := 0) hx hb hr rfl (fun t ht hW => ⟨⟨0, (xo, xr, xn, n, pa, st, ct, k, lo, rg, me, rt), rfl, ⟨hz.symm, rg, rfl, by rw [wc_pu2 hz2]; exact hBk⟩, by rw [ht]; exact hP, va_K.moved hW.alike hK, hD⟩, hS.F ht⟩) hS.2.2 dX0_put_8
  · refine wc_top (show r_1 = 1 from hq_1.trans hz) ?_
    refine lv_if_ne (tgt := 9) hx hb dX0_put_4 (by decide) (fun c_4 => ?_) (fun c_4 => ?_)
    · refine lv_aload_n hx hb dX0_put_9 rfl (lv_at hl 0 rfl) ?_
      refine lv_iload_n hx hb dX0_put_10 rfl (lv_at hl 1 rfl) ?_
      refine lv_iload_n hx hb dX0_put_11 rfl (lv_at hl 2 rfl) ?_
      have hFc := va_free (wc := wc_wX hh dd xo xr xn n pa st ct k lo rg me rt) hD hS hA [0, 1, 2, 3, 4, 5, 6] rfl
      refine va_callv (va_runV (As := [.int (nI j), .int v]) (rest := []) ⟨hx, hb, hml, hown, hts⟩ (wc_set l dC dI hh dd H_1.size xo xr xn n pa st ct k lo rg me rt ro hBk j hj v) (cwV 2 hts (lw_V q110 q112 qs6 q11 q113) rfl rfl rfl (by decide +kernel) ⟨Nat.le_of_ble_eq_true rfl, Nat.le_of_ble_eq_true rfl⟩) (wc_preV hK hP hD (ci := 0) (q0 := 0) rfl rfl) rfl rfl hl.1 rfl (lv_room (Nat.le_of_ble_eq_true rfl)) dX0_put_12 ⟨Nat.le_of_ble_eq_true rfl, Nat.le_of_ble_eq_true rfl⟩) hS (fun q _ h => hFc q h) hFc (fun u t H_2 locs ht hvm hw hBw hz1 hk1 hS => ?_)
      obtain ⟨rg', rfl, hBk'⟩ := hw
      obtain ⟨hP1, hK1, hD1⟩ := hBw
      rw [ht] at hP1
      have hP : va_P (dC, dI) vwCl (wc_wX hh dd xo xr xn n pa st ct k lo rg' me rt) H_2 := hP1
      have hD : va_D A (wc_wX hh dd xo xr xn n pa st ct k lo rg' me rt) := hD1.weaken (fun _ q _ h => hFc q.1 h)
      refine lv_iconst (v := 1) hx hb dX0_put_15 (by decide +kernel) ?_
      exact W.zret (v := 1) hx hb hr rfl (fun t ht hW => ⟨⟨1, (xo, xr, xn, n, pa, st, ct, k, lo, rg', me, rt), rfl, ⟨hz.symm, rg', rfl, by rw [wc_pu1 hj]; exact hBk'⟩, by rw [ht]; exact hP, va_K.moved hW.alike hK, hD⟩, hS.F ht⟩) hS.2.2 dX0_put_16
    · exact absurd c_4 (by decide)
set_option maxHeartbeats 4000000 in
set_option maxRecDepth 100000 in
/-- backTo(d) -/
theorem wc_backTo (l : Launch) (dC : Nat → ClassId) (dI : Nat → Nat → Nat) (hh : Nat → Nat) (dd : Nat → ClassId) (sz : Nat) (xo xr xn : Nat → Int32) (n : Nat) (pa st ct : Int32) (k lo : Nat) (rg me rt : Nat → Int32) (bk : Nat → Int32) (hR : wc_Ret k rt bk) (hk : k ≤ 29) (d : Int32) : Met l yX0_backTo (ws_ yX0_backTo cX0_backTo 2 (some .int)) ({ frames := 0, cells := 0, slots := 0, locals := 0 }) (va_Pc [.ref (hh 0), .int d] (wc_pw dC dI (wc_wX hh dd xo xr xn n pa st ct k lo rg me rt) (wc_tX dd) sz)) (va_Qi (fun (r : Int32) (u : wc_SX) => r = wc_bt d k bk ∧ u = (xo, xr, xn, n, pa, st, ct, k, lo, rg, me, rt)) (wc_bX dC dI hh dd (va_A (wc_wX hh dd xo xr xn n pa st ct k lo rg me rt) sz)) (va_A (wc_wX hh dd xo xr xn n pa st ct k lo rg me rt) sz)) 0 0 (va_A (wc_wX hh dd xo xr xn n pa st ct k lo rg me rt) sz) := by
  refine Met.ofW (cc := cX0_backTo) (maxL := 2) (ret := (some .int)) (by decide) rfl ?_
  intro p e s m args below meth c s₁ B hml hv
  obtain ⟨rfl, hsz, hP, hK, hD0⟩ := hv
  have hx := B.exec
  have hb := B.bytes
  have hr := B.returns
  have hts := atoms_spec (ws := ws_ yX0_backTo cX0_backTo 2 (some .int)) B.pre
  have hts : ∀ w ∈ lw_all, w.before _ s = true := fun w h => hts w (List.mem_cons_of_mem _ h)
  have hown : s.vm.findClass RX0 = some m.cls := findClass_of_methodNamed B.named
  have hlocks := B.notSynchronized
  subst hsz
  have hD := hD0.self (sz := s.heap.size)
  generalize hAe : va_A (wc_wX hh dd xo xr xn n pa st ct k lo rg me rt) s.heap.size = A at hD ⊢
  have hA : ∀ q : Nat, s.heap.size ≤ q → A q := fun q h => by rw [← hAe]; exact Or.inr h
  have hS : va_S A s.heap s.heap [] := va_S.rf
  have hP : va_P (dC, dI) vwCl (wc_wX hh dd xo xr xn n pa st ct k lo rg me rt) s.heap := hP
  have hl := lv_entry ([.ref (hh 0), .int d]) (n := 2) (Nat.le_of_ble_eq_true rfl)
  rw [lg_entry_eq]
  generalize (lg_sl ([.ref (hh 0), .int d]) ++ List.replicate (2 - (lg_sl ([.ref (hh 0), .int d])).length) Slot.unset).toArray = ls at hl ⊢
  have hl : lv_has ls 2 [(0, .ref (hh 0)), (1, .int d)] := hl
  refine lv_iload_n hx hb dX0_backTo_0 rfl (lv_at hl 1 rfl) ?_
  refine lv_if_lt (tgt := 26) hx hb dX0_backTo_1 (by decide) (fun c_1 => ?_) (fun c_1 => ?_)
  · refine lv_iconst (v := (-1)) hx hb dX0_backTo_26 (by decide +kernel) ?_
    exact W.iret (v := (-1)) hx hb hr (fun t ht hW => ⟨⟨(-1), (xo, xr, xn, n, pa, st, ct, k, lo, rg, me, rt), rfl, ⟨(wc_bt2 (fun h => h.1 c_1)).symm, rfl⟩, by rw [ht]; exact hP, va_K.moved hW.alike hK, hD⟩, hS.F ht⟩) hS.2.2 dX0_backTo_27
  · refine lv_iload_n hx hb dX0_backTo_4 rfl (lv_at hl 1 rfl) ?_
    refine lv_aload_n hx hb dX0_backTo_5 rfl (lv_at hl 0 rfl) ?_
    refine va_get (D := (dC, dI)) (ci := 0) (v := .int (nI k)) (C := RX0) (T := TX0) (N := 12) hx hb hts in_X0 hown hK hP 0 rfl rfl 7 (by decide) (hts _ q28) (fun _ h9 => h9) rfl dX0_backTo_6 ?_
    refine lv_icmp_ge (tgt := 26) hx hb dX0_backTo_9 (by decide) (fun c_9 => ?_) (fun c_9 => ?_)
    · refine lv_iconst (v := (-1)) hx hb dX0_backTo_26 (by decide +kernel) ?_
      exact W.iret (v := (-1)) hx hb hr (fun t ht hW => ⟨⟨(-1), (xo, xr, xn, n, pa, st, ct, k, lo, rg, me, rt), rfl, ⟨(wc_bt2 (fun h => h.2 c_9)).symm, rfl⟩, by rw [ht]; exact hP, va_K.moved hW.alike hK, hD⟩, hS.F ht⟩) hS.2.2 dX0_backTo_27
    · obtain ⟨q, hq0, rfl⟩ := nI_of c_1
      have hqk : q < k := Nat.not_le.mp (fun h => c_9 ((nI_leI (by omega) hq0).mpr h))
      obtain ⟨w9, hw9, e1, e2⟩ := hR (k - q) (by omega) (by omega)
      refine lv_aload_n hx hb dX0_backTo_12 rfl (lv_at hl 0 rfl) ?_
      refine va_get (D := (dC, dI)) (ci := 0) (v := .ref (hh 6)) (C := RX0) (T := TX0) (N := 12) hx hb hts in_X0 hown hK hP 0 rfl rfl 11 (by decide) (hts _ q32) (fun _ h9 => h9) rfl dX0_backTo_13 ?_
      refine lv_aload_n hx hb dX0_backTo_16 rfl (lv_at hl 0 rfl) ?_
      refine va_get (D := (dC, dI)) (ci := 0) (v := .int (nI k)) (C := RX0) (T := TX0) (N := 12) hx hb hts in_X0 hown hK hP 0 rfl rfl 7 (by decide) (hts _ q28) (fun _ h9 => h9) rfl dX0_backTo_17 ?_
      refine lv_iload_n hx hb dX0_backTo_20 rfl (lv_at hl 1 rfl) ?_
      refine wc_isub hx hb (x := k) (y := q) (by omega) dX0_backTo_21 ?_
      refine wc_bald hx hb hK hP 6 5 rfl rfl (j := k - q) (by omega) (by decide) dX0_backTo_22 ?_
      refine wc_top (show rt (k - q) = bk (k - q) from e1.trans e2.symm) ?_
      refine lv_goto (tgt := 27) hx hb dX0_backTo_23 (by decide) ?_
      exact W.iret (v := bk (k - q)) hx hb hr (fun t ht hW => ⟨⟨bk (k - q), (xo, xr, xn, n, pa, st, ct, k, lo, rg, me, rt), rfl, ⟨(wc_bt1 (by omega) hqk).symm, rfl⟩, by rw [ht]; exact hP, va_K.moved hW.alike hK, hD⟩, hS.F ht⟩) hS.2.2 dX0_backTo_27
set_option maxHeartbeats 4000000 in
set_option maxRecDepth 100000 in
/-- digest() -/
theorem wc_digest (l : Launch) (dC : Nat → ClassId) (dI : Nat → Nat → Nat) (hh : Nat → Nat) (dd : Nat → ClassId) (sz : Nat) (xo xr xn : Nat → Int32) (n : Nat) (pa st ct : Int32) (k lo : Nat) (rg me rt : Nat → Int32) (ro : Nat → Int32) (hBk : wc_Blk k lo rg me ro) : Met l yX0_digest (ws_ yX0_digest cX0_digest 5 (some .int)) ({ frames := 3, cells := 0, slots := 0, locals := 65 }) (va_Pc [.ref (hh 0)] (wc_pw dC dI (wc_wX hh dd xo xr xn n pa st ct k lo rg me rt) (wc_tX dd) sz)) (va_Qi (fun (r : Int32) (u : wc_SX) => r = wc_dgo ro (k + 1) ∧ u = (xo, xr, xn, n, pa, st, ct, k, lo, rg, me, rt)) (wc_bX dC dI hh dd (va_A (wc_wX hh dd xo xr xn n pa st ct k lo rg me rt) sz)) (va_A (wc_wX hh dd xo xr xn n pa st ct k lo rg me rt) sz)) 0 0 (va_A (wc_wX hh dd xo xr xn n pa st ct k lo rg me rt) sz) := by
  refine Met.ofW (cc := cX0_digest) (maxL := 5) (ret := (some .int)) (by decide) rfl ?_
  intro p e s m args below meth c s₁ B hml hv
  obtain ⟨rfl, hsz, hP, hK, hD0⟩ := hv
  have hx := B.exec
  have hb := B.bytes
  have hr := B.returns
  have hts := atoms_spec (ws := ws_ yX0_digest cX0_digest 5 (some .int)) B.pre
  have hts : ∀ w ∈ lw_all, w.before _ s = true := fun w h => hts w (List.mem_cons_of_mem _ h)
  have hown : s.vm.findClass RX0 = some m.cls := findClass_of_methodNamed B.named
  have hlocks := B.notSynchronized
  subst hsz
  have hD := hD0.self (sz := s.heap.size)
  generalize hAe : va_A (wc_wX hh dd xo xr xn n pa st ct k lo rg me rt) s.heap.size = A at hD ⊢
  have hA : ∀ q : Nat, s.heap.size ≤ q → A q := fun q h => by rw [← hAe]; exact Or.inr h
  have hS : va_S A s.heap s.heap [] := va_S.rf
  have hP : va_P (dC, dI) vwCl (wc_wX hh dd xo xr xn n pa st ct k lo rg me rt) s.heap := hP
  have hl := lv_entry ([.ref (hh 0)]) (n := 5) (Nat.le_of_ble_eq_true rfl)
  rw [lg_entry_eq]
  generalize (lg_sl ([.ref (hh 0)]) ++ List.replicate (5 - (lg_sl ([.ref (hh 0)])).length) Slot.unset).toArray = ls at hl ⊢
  have hl : lv_has ls 5 [(0, .ref (hh 0))] := hl
  have hk29 := hBk.2.2.1
  have loop : ∀ (f q r : Nat) (v : Int32), (k - q) * 9 + (8 - r) < f → q ≤ k → r ≤ 8 → v = wc_dgi ro q r (wc_dgo ro q) → ∀ (H : Heap) (locs : List Loc), va_P (dC, dI) vwCl (wc_wX hh dd xo xr xn n pa st ct k lo rg me rt) H → va_D A (wc_wX hh dd xo xr xn n pa st ct k lo rg me rt) → va_S A s.heap H locs → ∀ (ls : Array Slot), lv_has ls 5 [(0, .ref (hh 0)), (1, .int v), (2, .int (nI q)), (3, .int (nI r))] → W p l e (headSpec (ws_ yX0_digest cX0_digest 5 (some .int)) ({ frames := 3, cells := 0, slots := 0, locals := 65 })).room s m ([.ref (hh 0)] : List Value).toArray below meth c H locs 0 0 (MQ below (va_Qi (fun (r : Int32) (u : wc_SX) => r = wc_dgo ro (k + 1) ∧ u = (xo, xr, xn, n, pa, st, ct, k, lo, rg, me, rt)) (wc_bX dC dI hh dd A) A) ([.ref (hh 0)] : List Value).toArray s 0 0 A) (F0 m 14 ls []) := by
    intro f
    induction f with
    | zero => intro q r v h; exact absurd h (by omega)
    | succ f ih =>
      intro q r v hf hq hr8 ev H locs hP hD hS ls hl
      refine lv_iload_n hx hb dX0_digest_14 rfl (lv_at hl 3 rfl) ?_
      refine lv_bipush (v := nI 8) hx hb dX0_digest_15 (by decide +kernel) ?_
      refine wc_icmp_ge (tgt := 48) hx hb (x := r) (y := 8) (by omega) (by omega) dX0_digest_17 (by decide) (fun c_17 => ?_) (fun c_17 => ?_)
      · refine lv_iinc (v := nI (q + 1)) (lv' := [(2, .int (nI (q + 1))), (0, .ref (hh 0)), (1, .int v), (3, .int (nI r))]) hx hb dX0_digest_48 hl (k := 2) rfl (by first | exact nI_add _ _ | decide +kernel) (by decide) rfl (fun ls hl => ?_)
        refine lv_goto (tgt := 4) hx hb dX0_digest_51 (by decide) ?_
        refine lv_iload_n hx hb dX0_digest_4 rfl (lv_at hl 0 rfl) ?_
        refine lv_aload_n hx hb dX0_digest_5 rfl (lv_at hl 1 rfl) ?_
        refine va_get (D := (dC, dI)) (ci := 0) (v := .int (nI k)) (C := RX0) (T := TX0) (N := 12) hx hb hts in_X0 hown hK hP 0 rfl rfl 7 (by decide) (hts _ q28) (fun _ h9 => h9) rfl dX0_digest_6 ?_
        refine wc_icmp_gt (tgt := 54) hx hb (x := q + 1) (y := k) (by omega) (by omega) dX0_digest_9 (by decide) (fun c_9 => ?_) (fun c_9 => ?_)
        · have hqk : q = k := by omega
          have hr9 : r = 8 := by omega
          subst hqk
          subst hr9
          refine lv_iload_n hx hb dX0_digest_54 rfl (lv_at hl 2 rfl) ?_
          exact W.iret (v := v) hx hb hr (fun t ht hW => ⟨⟨v, (xo, xr, xn, n, pa, st, ct, q, lo, rg, me, rt), rfl, ⟨ev, rfl⟩, by rw [ht]; exact hP, va_K.moved hW.alike hK, hD⟩, hS.F ht⟩) hS.2.2 dX0_digest_55
        · have hr9 : r = 8 := by omega
          subst hr9
          refine lv_iconst (v := nI 0) hx hb dX0_digest_12 (by decide +kernel) ?_
          refine lv_istore_n (lv' := [(3, .int (nI 0)), (2, .int (nI (q + 1))), (0, .ref (hh 0)), (1, .int v)]) hx hb dX0_digest_13 rfl hl (by decide) rfl (fun ls hl => ?_)
          exact ih (q + 1) 0 v (by omega) (by omega) (by omega) ev _ _ hP hD hS ls (lv_sub hl [2, 3, 1, 0] rfl)
      · refine lv_aload_n hx hb dX0_digest_20 rfl (lv_at hl 0 rfl) ?_
        refine lv_iload_n hx hb dX0_digest_21 rfl (lv_at hl 2 rfl) ?_
        refine lv_iload_n hx hb dX0_digest_22 rfl (lv_at hl 3 rfl) ?_
        have hFc := va_free (wc := wc_wX hh dd xo xr xn n pa st ct k lo rg me rt) hD hS hA [0, 1, 2, 3, 4, 5, 6] rfl
        refine va_calli (va_runV (As := [.int (nI q), .int (nI r)]) (rest := []) ⟨hx, hb, hml, hown, hts⟩ (wc_registerOf l dC dI hh dd H.size xo xr xn n pa st ct k lo rg me rt ro hBk q r hq (by omega)) (cwV 2 hts (lw_V q137 q139 qs7 q11 q140) rfl rfl rfl (by decide +kernel) ⟨Nat.le_of_ble_eq_true rfl, Nat.le_of_ble_eq_true rfl⟩) (wc_preV hK hP hD (ci := 0) (q0 := 0) rfl rfl) rfl rfl hl.1 rfl (lv_room (Nat.le_of_ble_eq_true rfl)) dX0_digest_23 ⟨Nat.le_of_ble_eq_true rfl, Nat.le_of_ble_eq_true rfl⟩) hS (fun q _ h => hFc q h) hFc (fun r_23 u t H_1 locs ht hvm hw hBw hz1 hk1 hS => ?_)
        obtain ⟨hq_23, rfl⟩ := hw
        obtain ⟨hP1, hK1, hD1⟩ := hBw
        rw [ht] at hP1
        have hP : va_P (dC, dI) vwCl (wc_wX hh dd xo xr xn n pa st ct k lo rg me rt) H_1 := hP1
        have hD : va_D A (wc_wX hh dd xo xr xn n pa st ct k lo rg me rt) := hD1.weaken (fun _ q _ h => hFc q.1 h)
        refine wc_top (show r_23 = ro (4 * q + r) from hq_23) ?_
        refine lv_istore (lv' := [(4, .int (ro (4 * q + r))), (0, .ref (hh 0)), (1, .int v), (2, .int (nI q)), (3, .int (nI r))]) hx hb dX0_digest_26 hl (by decide) rfl (fun ls hl => ?_)
        refine lv_iload_n hx hb dX0_digest_28 rfl (lv_at hl 2 rfl) ?_
        refine lv_bipush (v := nI 8) hx hb dX0_digest_29 (by decide +kernel) ?_
        refine lv_iload_n hx hb dX0_digest_31 rfl (lv_at hl 3 rfl) ?_
        refine wc_imul hx hb (x := 8) (y := q) dX0_digest_32 ?_
        refine lv_iload_n hx hb dX0_digest_33 rfl (lv_at hl 4 rfl) ?_
        refine wc_iadd hx hb (x := 8 * q) (y := r) dX0_digest_34 ?_
        refine lv_iconst (v := nI 1) hx hb dX0_digest_35 (by decide +kernel) ?_
        refine wc_iadd hx hb (x := 8 * q + r) (y := 1) dX0_digest_36 ?_
        refine lv_iload hx hb dX0_digest_37 (lv_at hl 0 rfl) ?_
        refine lv_imul hx hb dX0_digest_39 ?_
        refine lv_iadd hx hb dX0_digest_40 ?_
        refine lv_istore_n (lv' := [(1, .int (v + (nI (8 * q + r + 1) * (ro (4 * q + r))))), (4, .int (ro (4 * q + r))), (0, .ref (hh 0)), (2, .int (nI q)), (3, .int (nI r))]) hx hb dX0_digest_41 rfl hl (by decide) rfl (fun ls hl => ?_)
        refine lv_iinc (v := nI (r + 1)) (lv' := [(3, .int (nI (r + 1))), (1, .int (v + (nI (8 * q + r + 1) * (ro (4 * q + r))))), (4, .int (ro (4 * q + r))), (0, .ref (hh 0)), (2, .int (nI q))]) hx hb dX0_digest_42 hl (k := 4) rfl (by first | exact nI_add _ _ | decide +kernel) (by decide) rfl (fun ls hl => ?_)
        refine lv_goto (tgt := 14) hx hb dX0_digest_45 (by decide) ?_
        exact ih q (r + 1) (v + (nI (8 * q + r + 1) * (ro (4 * q + r)))) (by omega) hq (by omega) (by rw [ev]; rfl) _ _ hP hD hS ls (lv_sub hl [3, 1, 4, 0] rfl)
  refine lv_iconst (v := 0) hx hb dX0_digest_0 (by decide +kernel) ?_
  refine lv_istore_n (lv' := [(1, .int 0), (0, .ref (hh 0))]) hx hb dX0_digest_1 rfl hl (by decide) rfl (fun ls hl => ?_)
  refine lv_iconst (v := nI 0) hx hb dX0_digest_2 (by decide +kernel) ?_
  refine lv_istore_n (lv' := [(2, .int (nI 0)), (1, .int 0), (0, .ref (hh 0))]) hx hb dX0_digest_3 rfl hl (by decide) rfl (fun ls hl => ?_)
  refine lv_iload_n hx hb dX0_digest_4 rfl (lv_at hl 0 rfl) ?_
  refine lv_aload_n hx hb dX0_digest_5 rfl (lv_at hl 2 rfl) ?_
  refine va_get (D := (dC, dI)) (ci := 0) (v := .int (nI k)) (C := RX0) (T := TX0) (N := 12) hx hb hts in_X0 hown hK hP 0 rfl rfl 7 (by decide) (hts _ q28) (fun _ h9 => h9) rfl dX0_digest_6 ?_
  refine wc_icmp_gt (tgt := 54) hx hb (x := 0) (y := k) (by omega) (by omega) dX0_digest_9 (by decide) (fun c_9 => ?_) (fun c_9 => ?_)
  · exact absurd c_9 (by omega)
  · refine lv_iconst (v := nI 0) hx hb dX0_digest_12 (by decide +kernel) ?_
    refine lv_istore_n (lv' := [(3, .int (nI 0)), (2, .int (nI 0)), (1, .int 0), (0, .ref (hh 0))]) hx hb dX0_digest_13 rfl hl (by decide) rfl (fun ls hl => ?_)
    exact loop ((k - 0) * 9 + (8 - 0) + 1) 0 0 0 (by omega) (by omega) (by omega) rfl _ _ hP hD hS ls (lv_sub hl [3, 2, 1, 0] rfl)
end
section
/-! WindowedCalls: step, run -/
/-- what one step of WindowedCalls does, told by the plain machine -/
def wc_stP (xo xr xn : Nat → Int32) (n : Nat) (pa ct : Int32) (k lo : Nat) (rg me rt mo : Nat → Int32) (G : wc_G) (r : Int32) (u : wc_SX) : Prop := (wc_go n mo k pa → r = 1 ∧ ∃ (lo' : Nat) (rg' me' rt' : Nat → Int32), u = (xo, xr, xn, n, G.2.2.2.1, G.2.2.2.2, ct, G.2.1, lo', rg', me', rt') ∧ wc_Blk G.2.1 lo' rg' me' G.1 ∧ wc_Ret G.2.1 rt' G.2.2.1) ∧ (¬ wc_go n mo k pa → r = 0 ∧ u = (xo, xr, xn, n, pa, 1, ct, k, lo, rg, me, rt))
theorem wc_stP_out {xo xr xn : Nat → Int32} {n : Nat} {pa ct : Int32} {k lo : Nat} {rg me rt mo : Nat → Int32} {G : wc_G} (h : ¬ wc_go n mo k pa) : wc_stP xo xr xn n pa ct k lo rg me rt mo G 0 (xo, xr, xn, n, pa, 1, ct, k, lo, rg, me, rt) := ⟨fun h2 => absurd h2 h, fun _ => ⟨rfl, rfl⟩⟩
theorem wc_stP_go {xo xr xn : Nat → Int32} {n : Nat} {pa ct : Int32} {k lo : Nat} {rg me rt mo : Nat → Int32} {G G' : wc_G} (h : wc_go n mo k pa) (hG : G = G') {lo' : Nat} {rg' me' rt' : Nat → Int32} (h1 : wc_Blk G'.2.1 lo' rg' me' G'.1) (h2 : wc_Ret G'.2.1 rt' G'.2.2.1) : wc_stP xo xr xn n pa ct k lo rg me rt mo G 1 (xo, xr, xn, n, G'.2.2.2.1, G'.2.2.2.2, ct, G'.2.1, lo', rg', me', rt') := by
  subst hG
  exact ⟨fun _ => ⟨rfl, lo', rg', me', rt', rfl, h1, h2⟩, fun h3 => absurd h h3⟩
theorem wc_nx6 {a b d ip : Nat} {w : Int32} {ro : Nat → Int32} {k : Nat} {bk : Nat → Int32} (h : 0 < k) : wc_nx 6 a b d ip w ro k bk = (ro, k - 1, bk, bk k, 0) := by
  show (ro, k - 1, bk, (if k = 0 then nI ip else bk k), (if k = 0 then (1 : Int32) else 0)) = _
  rw [if_neg (by omega), if_neg (by omega)]
theorem wc_nx7a {a b d ip : Nat} {w : Int32} {ro : Nat → Int32} {k : Nat} {bk : Nat → Int32} (h : ro (4 * k + a) = 0) : wc_nx 7 a b d ip w ro k bk = (ro, k, bk, w, 0) := by
  show (ro, k, bk, (if ro (4 * k + a) = 0 then w else nI (ip + 1)), (0 : Int32)) = _
  rw [if_pos h]
theorem wc_nx7b {a b d ip : Nat} {w : Int32} {ro : Nat → Int32} {k : Nat} {bk : Nat → Int32} (h : ¬ ro (4 * k + a) = 0) : wc_nx 7 a b d ip w ro k bk = (ro, k, bk, nI (ip + 1), 0) := by
  show (ro, k, bk, (if ro (4 * k + a) = 0 then w else nI (ip + 1)), (0 : Int32)) = _
  rw [if_neg h]
theorem wc_go_of {n k ip o : Nat} {mo : Nat → Int32} (hp : ip < 2 ^ 31) (h1 : ¬ nI ip < 0) (h2 : ¬ nI n ≤ nI ip) (eo : mo ip = nI o) (ho : o < 8) (h3 : o = 5 → ¬ k = 29) : wc_go n mo k (nI ip) := by
  refine ⟨h1, h2, fun h => ?_⟩
  have h4 := h.1
  rw [nI_clamp hp, eo, nI_eq (by omega) (by omega)] at h4
  exact h3 h4 h.2
theorem wc_go_not {n k ip : Nat} {mo : Nat → Int32} (hp : ip < 2 ^ 31) (eo : mo ip = nI 5) (hk : k = 29) : ¬ wc_go n mo k (nI ip) := by
  intro h
  refine h.2.2 ⟨?_, hk⟩
  rw [nI_clamp hp]
  exact eo
set_option maxHeartbeats 4000000 in
set_option maxRecDepth 100000 in
/-- step() of a machine that has not stopped -/
theorem wc_step (l : Launch) (dC : Nat → ClassId) (dI : Nat → Nat → Nat) (hh : Nat → Nat) (dd : Nat → ClassId) (sz : Nat) (xo xr xn : Nat → Int32) (n : Nat) (pa ct : Int32) (k lo : Nat) (rg me rt : Nat → Int32) (mo ma mb md mn ro bk : Nat → Int32) (hPg : wc_Prog n xo xr xn mo ma mb md mn) (hBk : wc_Blk k lo rg me ro) (hR : wc_Ret k rt bk) : Met l yX0_step (ws_ yX0_step cX0_step 9 (some .boolean)) ({ frames := 3, cells := 0, slots := 0, locals := 65 }) (va_Pc [.ref (hh 0)] (wc_pw dC dI (wc_wX hh dd xo xr xn n pa 0 ct k lo rg me rt) (wc_tX dd) sz)) (va_Qi (wc_stP xo xr xn n pa ct k lo rg me rt mo (wc_nxt mo ma mb md mn ro k bk pa)) (wc_bX dC dI hh dd (va_A (wc_wX hh dd xo xr xn n pa 0 ct k lo rg me rt) sz)) (va_A (wc_wX hh dd xo xr xn n pa 0 ct k lo rg me rt) sz)) 0 0 (va_A (wc_wX hh dd xo xr xn n pa 0 ct k lo rg me rt) sz) := by
  refine Met.ofW (cc := cX0_step) (maxL := 9) (ret := (some .boolean)) (by decide) rfl ?_
  intro p e s m args below meth c s₁ B hml hv
  obtain ⟨rfl, hsz, hP, hK, hD0⟩ := hv
  have hx := B.exec
  have hb := B.bytes
  have hr := B.returns
  have hts := atoms_spec (ws := ws_ yX0_step cX0_step 9 (some .boolean)) B.pre
  have hts : ∀ w ∈ lw_all, w.before _ s = true := fun w h => hts w (List.mem_cons_of_mem _ h)
  have hown : s.vm.findClass RX0 = some m.cls := findClass_of_methodNamed B.named
  have hlocks := B.notSynchronized
  subst hsz
  have hD := hD0.self (sz := s.heap.size)
  generalize hAe : va_A (wc_wX hh dd xo xr xn n pa 0 ct k lo rg me rt) s.heap.size = A at hD ⊢
  have hA : ∀ q : Nat, s.heap.size ≤ q → A q := fun q h => by rw [← hAe]; exact Or.inr h
  have hS : va_S A s.heap s.heap [] := va_S.rf
  have hP : va_P (dC, dI) vwCl (wc_wX hh dd xo xr xn n pa 0 ct k lo rg me rt) s.heap := hP
  have hl := lv_entry ([.ref (hh 0)]) (n := 9) (Nat.le_of_ble_eq_true rfl)
  rw [lg_entry_eq]
  generalize (lg_sl ([.ref (hh 0)]) ++ List.replicate (9 - (lg_sl ([.ref (hh 0)])).length) Slot.unset).toArray = ls at hl ⊢
  have hl : lv_has ls 9 [(0, .ref (hh 0))] := hl
  have hk29 := hBk.2.2.1
  have hn24 := hPg.1
  refine lv_aload_n hx hb dX0_step_0 rfl (lv_at hl 0 rfl) ?_
  refine va_get (D := (dC, dI)) (ci := 0) (v := .int pa) (C := RX0) (T := TX0) (N := 12) hx hb hts in_X0 hown hK hP 0 rfl rfl 4 (by decide) (hts _ q25) (fun _ h9 => h9) rfl dX0_step_1 ?_
  refine lv_if_lt (tgt := 42) hx hb dX0_step_4 (by decide) (fun c_4 => ?_) (fun c_4 => ?_)
  · refine lv_aload_n hx hb dX0_step_42 rfl (lv_at hl 0 rfl) ?_
    refine lv_iconst (v := 1) hx hb dX0_step_43 (by decide +kernel) ?_
    refine va_put (D := (dC, dI)) (ci := 0) (v := .int 1) (ty := .boolean) (C := RX0) (T := TX0) (N := 12) hx hb hts in_X0 tyX0 tyX0_ok nmX0 hown hK hP hD hS 0 rfl rfl 5 (by decide) (hts _ q26) (fun _ h9 => h9) rfl (by decide +kernel) rfl rfl (Nat.le_of_ble_eq_true rfl) dX0_step_44 (fun H_1 locs hP hD hS => ?_)
    have hP : va_P (dC, dI) vwCl (wc_wX hh dd xo xr xn n pa 1 ct k lo rg me rt) H_1 := hP
    have hD : va_D A (wc_wX hh dd xo xr xn n pa 1 ct k lo rg me rt) := hD
    refine lv_iconst (v := 0) hx hb dX0_step_47 (by decide +kernel) ?_
    exact W.zret (v := 0) hx hb hr rfl (fun t ht hW => ⟨⟨0, (xo, xr, xn, n, pa, 1, ct, k, lo, rg, me, rt), rfl, wc_stP_out (fun h => h.1 c_4), by rw [ht]; exact hP, va_K.moved hW.alike hK, hD⟩, hS.F ht⟩) hS.2.2 dX0_step_48
  · refine lv_aload_n hx hb dX0_step_7 rfl (lv_at hl 0 rfl) ?_
    refine va_get (D := (dC, dI)) (ci := 0) (v := .int pa) (C := RX0) (T := TX0) (N := 12) hx hb hts in_X0 hown hK hP 0 rfl rfl 4 (by decide) (hts _ q25) (fun _ h9 => h9) rfl dX0_step_8 ?_
    refine lv_aload_n hx hb dX0_step_11 rfl (lv_at hl 0 rfl) ?_
    refine va_get (D := (dC, dI)) (ci := 0) (v := .int (nI n)) (C := RX0) (T := TX0) (N := 12) hx hb hts in_X0 hown hK hP 0 rfl rfl 3 (by decide) (hts _ q24) (fun _ h9 => h9) rfl dX0_step_12 ?_
    refine lv_icmp_ge (tgt := 42) hx hb dX0_step_15 (by decide) (fun c_15 => ?_) (fun c_15 => ?_)
    · refine lv_aload_n hx hb dX0_step_42 rfl (lv_at hl 0 rfl) ?_
      refine lv_iconst (v := 1) hx hb dX0_step_43 (by decide +kernel) ?_
      refine va_put (D := (dC, dI)) (ci := 0) (v := .int 1) (ty := .boolean) (C := RX0) (T := TX0) (N := 12) hx hb hts in_X0 tyX0 tyX0_ok nmX0 hown hK hP hD hS 0 rfl rfl 5 (by decide) (hts _ q26) (fun _ h9 => h9) rfl (by decide +kernel) rfl rfl (Nat.le_of_ble_eq_true rfl) dX0_step_44 (fun H_2 locs hP hD hS => ?_)
      have hP : va_P (dC, dI) vwCl (wc_wX hh dd xo xr xn n pa 1 ct k lo rg me rt) H_2 := hP
      have hD : va_D A (wc_wX hh dd xo xr xn n pa 1 ct k lo rg me rt) := hD
      refine lv_iconst (v := 0) hx hb dX0_step_47 (by decide +kernel) ?_
      exact W.zret (v := 0) hx hb hr rfl (fun t ht hW => ⟨⟨0, (xo, xr, xn, n, pa, 1, ct, k, lo, rg, me, rt), rfl, wc_stP_out (fun h => h.2.1 c_15), by rw [ht]; exact hP, va_K.moved hW.alike hK, hD⟩, hS.F ht⟩) hS.2.2 dX0_step_48
    · obtain ⟨ip, hip0, rfl⟩ := nI_of c_4
      have hip : ip < n := Nat.not_le.mp (fun h => c_15 ((nI_leI (by omega) hip0).mpr h))
      obtain ⟨o, g, ho, hg, eo, eo2, eg, ea, eb, ed, en⟩ := hPg.2 ip hip
      refine lv_aload_n hx hb dX0_step_18 rfl (lv_at hl 0 rfl) ?_
      refine va_get (D := (dC, dI)) (ci := 0) (v := .ref (hh 1)) (C := RX0) (T := TX0) (N := 12) hx hb hts in_X0 hown hK hP 0 rfl rfl 0 (by decide) (hts _ q21) (fun _ h9 => h9) rfl dX0_step_19 ?_
      refine lv_aload_n hx hb dX0_step_22 rfl (lv_at hl 0 rfl) ?_
      refine va_get (D := (dC, dI)) (ci := 0) (v := .int (nI ip)) (C := RX0) (T := TX0) (N := 12) hx hb hts in_X0 hown hK hP 0 rfl rfl 4 (by decide) (hts _ q25) (fun _ h9 => h9) rfl dX0_step_23 ?_
      refine wc_bald hx hb hK hP 1 0 rfl rfl (j := ip) (by omega) (by decide) dX0_step_26 ?_
      refine wc_top (show xo ip = nI o from eo) ?_
      refine lv_iconst (v := nI 5) hx hb dX0_step_27 (by decide +kernel) ?_
      refine wc_icmp_ne (tgt := 49) hx hb (x := o) (y := 5) (by omega) (by omega) dX0_step_28 (by decide) (fun c_28 => ?_) (fun c_28 => ?_)
      · have hgo : wc_go n mo k (nI ip) := wc_go_of hip0 c_4 c_15 eo2 ho (fun h => absurd h c_28)
        refine lv_aload_n hx hb dX0_step_49 rfl (lv_at hl 0 rfl) ?_
        refine va_get (D := (dC, dI)) (ci := 0) (v := .ref (hh 1)) (C := RX0) (T := TX0) (N := 12) hx hb hts in_X0 hown hK hP 0 rfl rfl 0 (by decide) (hts _ q21) (fun _ h9 => h9) rfl dX0_step_50 ?_
        refine lv_aload_n hx hb dX0_step_53 rfl (lv_at hl 0 rfl) ?_
        refine va_get (D := (dC, dI)) (ci := 0) (v := .int (nI ip)) (C := RX0) (T := TX0) (N := 12) hx hb hts in_X0 hown hK hP 0 rfl rfl 4 (by decide) (hts _ q25) (fun _ h9 => h9) rfl dX0_step_54 ?_
        refine wc_bald hx hb hK hP 1 0 rfl rfl (j := ip) (by omega) (by decide) dX0_step_57 ?_
        refine wc_top (show xo ip = nI o from eo) ?_
        refine lv_istore_n (lv' := [(1, .int (nI o)), (0, .ref (hh 0))]) hx hb dX0_step_58 rfl hl (by decide) rfl (fun ls hl => ?_)
        refine lv_aload_n hx hb dX0_step_59 rfl (lv_at hl 1 rfl) ?_
        refine va_get (D := (dC, dI)) (ci := 0) (v := .ref (hh 2)) (C := RX0) (T := TX0) (N := 12) hx hb hts in_X0 hown hK hP 0 rfl rfl 1 (by decide) (hts _ q22) (fun _ h9 => h9) rfl dX0_step_60 ?_
        refine lv_aload_n hx hb dX0_step_63 rfl (lv_at hl 1 rfl) ?_
        refine va_get (D := (dC, dI)) (ci := 0) (v := .int (nI ip)) (C := RX0) (T := TX0) (N := 12) hx hb hts in_X0 hown hK hP 0 rfl rfl 4 (by decide) (hts _ q25) (fun _ h9 => h9) rfl dX0_step_64 ?_
        refine wc_sald hx hb hK hP 2 1 rfl rfl (j := ip) (by omega) (by decide) dX0_step_67 ?_
        refine wc_top (show xr ip = nI g from eg) ?_
        refine lv_bipush (v := nI 7) hx hb dX0_step_68 (by decide +kernel) ?_
        refine lv_iand hx hb dX0_step_70 ?_
        refine wc_top (show nI g &&& nI 7 = nI (g % 8) from wc_ra hg) ?_
        refine lv_istore_n (lv' := [(2, .int (nI (g % 8))), (1, .int (nI o)), (0, .ref (hh 0))]) hx hb dX0_step_71 rfl hl (by decide) rfl (fun ls hl => ?_)
        refine lv_aload_n hx hb dX0_step_72 rfl (lv_at hl 2 rfl) ?_
        refine va_get (D := (dC, dI)) (ci := 0) (v := .ref (hh 2)) (C := RX0) (T := TX0) (N := 12) hx hb hts in_X0 hown hK hP 0 rfl rfl 1 (by decide) (hts _ q22) (fun _ h9 => h9) rfl dX0_step_73 ?_
        refine lv_aload_n hx hb dX0_step_76 rfl (lv_at hl 2 rfl) ?_
        refine va_get (D := (dC, dI)) (ci := 0) (v := .int (nI ip)) (C := RX0) (T := TX0) (N := 12) hx hb hts in_X0 hown hK hP 0 rfl rfl 4 (by decide) (hts _ q25) (fun _ h9 => h9) rfl dX0_step_77 ?_
        refine wc_sald hx hb hK hP 2 1 rfl rfl (j := ip) (by omega) (by decide) dX0_step_80 ?_
        refine wc_top (show xr ip = nI g from eg) ?_
        refine lv_iconst (v := nI 3) hx hb dX0_step_81 (by decide +kernel) ?_
        refine lv_ishr hx hb dX0_step_82 ?_
        refine lv_bipush (v := nI 7) hx hb dX0_step_83 (by decide +kernel) ?_
        refine lv_iand hx hb dX0_step_85 ?_
        refine wc_top (show (nI g >>> (nI 3 &&& 31)) &&& nI 7 = nI (g / 8 % 8) from wc_rb hg) ?_
        refine lv_istore_n (lv' := [(3, .int (nI (g / 8 % 8))), (2, .int (nI (g % 8))), (1, .int (nI o)), (0, .ref (hh 0))]) hx hb dX0_step_86 rfl hl (by decide) rfl (fun ls hl => ?_)
        refine lv_aload_n hx hb dX0_step_87 rfl (lv_at hl 3 rfl) ?_
        refine va_get (D := (dC, dI)) (ci := 0) (v := .ref (hh 2)) (C := RX0) (T := TX0) (N := 12) hx hb hts in_X0 hown hK hP 0 rfl rfl 1 (by decide) (hts _ q22) (fun _ h9 => h9) rfl dX0_step_88 ?_
        refine lv_aload_n hx hb dX0_step_91 rfl (lv_at hl 3 rfl) ?_
        refine va_get (D := (dC, dI)) (ci := 0) (v := .int (nI ip)) (C := RX0) (T := TX0) (N := 12) hx hb hts in_X0 hown hK hP 0 rfl rfl 4 (by decide) (hts _ q25) (fun _ h9 => h9) rfl dX0_step_92 ?_
        refine wc_sald hx hb hK hP 2 1 rfl rfl (j := ip) (by omega) (by decide) dX0_step_95 ?_
        refine wc_top (show xr ip = nI g from eg) ?_
        refine lv_bipush (v := nI 6) hx hb dX0_step_96 (by decide +kernel) ?_
        refine lv_ishr hx hb dX0_step_98 ?_
        refine wc_top (show nI g >>> (nI 6 &&& 31) = nI (g / 64) from wc_rd hg) ?_
        refine lv_istore (lv' := [(4, .int (nI (g / 64))), (3, .int (nI (g / 8 % 8))), (2, .int (nI (g % 8))), (1, .int (nI o)), (0, .ref (hh 0))]) hx hb dX0_step_99 hl (by decide) rfl (fun ls hl => ?_)
        refine lv_aload_n hx hb dX0_step_101 rfl (lv_at hl 4 rfl) ?_
        refine va_get (D := (dC, dI)) (ci := 0) (v := .ref (hh 3)) (C := RX0) (T := TX0) (N := 12) hx hb hts in_X0 hown hK hP 0 rfl rfl 2 (by decide) (hts _ q23) (fun _ h9 => h9) rfl dX0_step_102 ?_
        refine lv_aload_n hx hb dX0_step_105 rfl (lv_at hl 4 rfl) ?_
        refine va_get (D := (dC, dI)) (ci := 0) (v := .int (nI ip)) (C := RX0) (T := TX0) (N := 12) hx hb hts in_X0 hown hK hP 0 rfl rfl 4 (by decide) (hts _ q25) (fun _ h9 => h9) rfl dX0_step_106 ?_
        refine wc_iald hx hb hK hP 3 2 rfl rfl (j := ip) (by omega) (by decide) dX0_step_109 ?_
        refine wc_top (show xn ip = mn ip from en) ?_
        refine lv_istore (lv' := [(5, .int (mn ip)), (4, .int (nI (g / 64))), (3, .int (nI (g / 8 % 8))), (2, .int (nI (g % 8))), (1, .int (nI o)), (0, .ref (hh 0))]) hx hb dX0_step_110 hl (by decide) rfl (fun ls hl => ?_)
        refine lv_iload_n hx hb dX0_step_112 rfl (lv_at hl 4 rfl) ?_
        refine lv_iconst (v := nI 5) hx hb dX0_step_113 (by decide +kernel) ?_
        refine wc_icmp_ne (tgt := 148) hx hb (x := o) (y := 5) (by omega) (by omega) dX0_step_114 (by decide) (fun c_114 => ?_) (fun c_114 => ?_)
        · rcases (show o = 0 ∨ o = 1 ∨ o = 2 ∨ o = 3 ∨ o = 4 ∨ o = 6 ∨ o = 7 by omega) with rfl | rfl | rfl | rfl | rfl | rfl | rfl
          · refine lv_iload_n hx hb dX0_step_148 rfl (lv_at hl 4 rfl) ?_
            refine lv_bipush (v := nI 6) hx hb dX0_step_149 (by decide +kernel) ?_
            refine wc_icmp_ne (tgt := 161) hx hb (x := 0) (y := 6) (by omega) (by omega) dX0_step_151 (by decide) (fun c_151 => ?_) (fun c_151 => ?_)
            · refine lv_iload_n hx hb dX0_step_161 rfl (lv_at hl 4 rfl) ?_
              refine lv_iconst (v := nI 3) hx hb dX0_step_162 (by decide +kernel) ?_
              refine wc_icmp_eq (tgt := 172) hx hb (x := 0) (y := 3) (by omega) (by omega) dX0_step_163 (by decide) (fun c_163 => ?_) (fun c_163 => ?_)
              · exact absurd c_163 (by omega)
              · refine lv_iload_n hx hb dX0_step_166 rfl (lv_at hl 4 rfl) ?_
                refine lv_bipush (v := nI 7) hx hb dX0_step_167 (by decide +kernel) ?_
                refine wc_icmp_ne (tgt := 203) hx hb (x := 0) (y := 7) (by omega) (by omega) dX0_step_169 (by decide) (fun c_169 => ?_) (fun c_169 => ?_)
                · refine lv_aload_n hx hb dX0_step_203 rfl (lv_at hl 5 rfl) ?_
                  refine lv_iload_n hx hb dX0_step_204 rfl (lv_at hl 2 rfl) ?_
                  have hFc := va_free (wc := wc_wX hh dd xo xr xn n (nI ip) 0 ct k lo rg me rt) hD hS hA [0, 1, 2, 3, 4, 5, 6] rfl
                  refine va_calli (va_runV (As := [.int (nI (g / 8 % 8))]) (rest := []) ⟨hx, hb, hml, hown, hts⟩ (wc_get l dC dI hh dd s.heap.size xo xr xn n (nI ip) 0 ct k lo rg me rt ro hBk (g / 8 % 8) (by omega)) (cwV 1 hts (lw_V q100 q102 qs5 q11 q103) rfl rfl rfl (by decide +kernel) ⟨Nat.le_of_ble_eq_true rfl, Nat.le_of_ble_eq_true rfl⟩) (wc_preV hK hP hD (ci := 0) (q0 := 0) rfl rfl) rfl rfl hl.1 rfl (lv_room (Nat.le_of_ble_eq_true rfl)) dX0_step_205 ⟨Nat.le_of_ble_eq_true rfl, Nat.le_of_ble_eq_true rfl⟩) hS (fun q _ h => hFc q h) hFc (fun r_205 u t H_3 locs ht hvm hw hBw hz1 hk1 hS => ?_)
                  obtain ⟨hq_205, rfl⟩ := hw
                  obtain ⟨hP1, hK1, hD1⟩ := hBw
                  rw [ht] at hP1
                  have hP : va_P (dC, dI) vwCl (wc_wX hh dd xo xr xn n (nI ip) 0 ct k lo rg me rt) H_3 := hP1
                  have hD : va_D A (wc_wX hh dd xo xr xn n (nI ip) 0 ct k lo rg me rt) := hD1.weaken (fun _ q _ h => hFc q.1 h)
                  refine wc_top (show r_205 = ro (4 * k + g / 8 % 8) from hq_205) ?_
                  refine lv_istore (lv' := [(6, .int (ro (4 * k + g / 8 % 8))), (5, .int (mn ip)), (4, .int (nI (g / 64))), (3, .int (nI (g / 8 % 8))), (2, .int (nI (g % 8))), (1, .int (nI 0)), (0, .ref (hh 0))]) hx hb dX0_step_208 hl (by decide) rfl (fun ls hl => ?_)
                  refine lv_aload_n hx hb dX0_step_210 rfl (lv_at hl 6 rfl) ?_
                  refine lv_iload hx hb dX0_step_211 (lv_at hl 2 rfl) ?_
                  have hFc := va_free (wc := wc_wX hh dd xo xr xn n (nI ip) 0 ct k lo rg me rt) hD hS hA [0, 1, 2, 3, 4, 5, 6] rfl
                  refine va_calli (va_runV (As := [.int (nI (g / 64))]) (rest := []) ⟨hx, hb, hml, hown, hts⟩ (wc_get l dC dI hh dd H_3.size xo xr xn n (nI ip) 0 ct k lo rg me rt ro hBk (g / 64) (by omega)) (cwV 1 hts (lw_V q100 q102 qs5 q11 q103) rfl rfl rfl (by decide +kernel) ⟨Nat.le_of_ble_eq_true rfl, Nat.le_of_ble_eq_true rfl⟩) (wc_preV hK hP hD (ci := 0) (q0 := 0) rfl rfl) rfl rfl hl.1 rfl (lv_room (Nat.le_of_ble_eq_true rfl)) dX0_step_213 ⟨Nat.le_of_ble_eq_true rfl, Nat.le_of_ble_eq_true rfl⟩) hS (fun q _ h => hFc q h) hFc (fun r_213 u t H_4 locs ht hvm hw hBw hz1 hk1 hS => ?_)
                  obtain ⟨hq_213, rfl⟩ := hw
                  obtain ⟨hP1, hK1, hD1⟩ := hBw
                  rw [ht] at hP1
                  have hP : va_P (dC, dI) vwCl (wc_wX hh dd xo xr xn n (nI ip) 0 ct k lo rg me rt) H_4 := hP1
                  have hD : va_D A (wc_wX hh dd xo xr xn n (nI ip) 0 ct k lo rg me rt) := hD1.weaken (fun _ q _ h => hFc q.1 h)
                  refine wc_top (show r_213 = ro (4 * k + g / 64) from hq_213) ?_
                  refine lv_istore (lv' := [(7, .int (ro (4 * k + g / 64))), (6, .int (ro (4 * k + g / 8 % 8))), (5, .int (mn ip)), (4, .int (nI (g / 64))), (3, .int (nI (g / 8 % 8))), (2, .int (nI (g % 8))), (1, .int (nI 0)), (0, .ref (hh 0))]) hx hb dX0_step_216 hl (by decide) rfl (fun ls hl => ?_)
                  refine lv_iload_n hx hb dX0_step_218 rfl (lv_at hl 6 rfl) ?_
                  refine lv_iload hx hb dX0_step_219 (lv_at hl 1 rfl) ?_
                  refine lv_iload hx hb dX0_step_221 (lv_at hl 0 rfl) ?_
                  refine lv_iload hx hb dX0_step_223 (lv_at hl 2 rfl) ?_
                  have hFc := wc_free0 hS hA
                  refine va_calli (va_runS (As := [.int (nI 0), .int (ro (4 * k + g / 8 % 8)), .int (ro (4 * k + g / 64)), .int (mn ip)]) (rest := []) ⟨hx, hb, hml, hown, hts⟩ (wc_value l H_4.size 0 (by omega) (ro (4 * k + g / 8 % 8)) (ro (4 * k + g / 64)) (mn ip)) (va_cwS 4 hts (lw_S q107 q108 q11 q109) rfl rfl rfl (by decide +kernel) ⟨Nat.le_of_ble_eq_true rfl, Nat.le_of_ble_eq_true rfl⟩) wc_preS rfl rfl hl.1 rfl (lv_room (Nat.le_of_ble_eq_true rfl)) dX0_step_225 ⟨Nat.le_of_ble_eq_true rfl, Nat.le_of_ble_eq_true rfl⟩) hS (fun q _ h => hFc q h) hFc (fun r_225 u t H_5 locs ht hvm hw hBw hz1 hk1 hS => ?_)
                  have hq_225 := hw
                  have hP := wc_keep hP hk1
                  refine wc_top (show r_225 = mn ip from hq_225) ?_
                  refine lv_istore (lv' := [(8, .int (mn ip)), (7, .int (ro (4 * k + g / 64))), (6, .int (ro (4 * k + g / 8 % 8))), (5, .int (mn ip)), (4, .int (nI (g / 64))), (3, .int (nI (g / 8 % 8))), (2, .int (nI (g % 8))), (1, .int (nI 0)), (0, .ref (hh 0))]) hx hb dX0_step_228 hl (by decide) rfl (fun ls hl => ?_)
                  refine lv_aload_n hx hb dX0_step_230 rfl (lv_at hl 8 rfl) ?_
                  refine lv_iload_n hx hb dX0_step_231 rfl (lv_at hl 6 rfl) ?_
                  refine lv_iload hx hb dX0_step_232 (lv_at hl 0 rfl) ?_
                  have hFc := va_free (wc := wc_wX hh dd xo xr xn n (nI ip) 0 ct k lo rg me rt) hD hS hA [0, 1, 2, 3, 4, 5, 6] rfl
                  refine va_callv (va_runV (As := [.int (nI (g % 8)), .int (mn ip)]) (rest := []) ⟨hx, hb, hml, hown, hts⟩ (wc_set l dC dI hh dd H_5.size xo xr xn n (nI ip) 0 ct k lo rg me rt ro hBk (g % 8) (by omega) (mn ip)) (cwV 2 hts (lw_V q110 q112 qs6 q11 q113) rfl rfl rfl (by decide +kernel) ⟨Nat.le_of_ble_eq_true rfl, Nat.le_of_ble_eq_true rfl⟩) (wc_preV hK hP hD (ci := 0) (q0 := 0) rfl rfl) rfl rfl hl.1 rfl (lv_room (Nat.le_of_ble_eq_true rfl)) dX0_step_234 ⟨Nat.le_of_ble_eq_true rfl, Nat.le_of_ble_eq_true rfl⟩) hS (fun q _ h => hFc q h) hFc (fun u t H_6 locs ht hvm hw hBw hz1 hk1 hS => ?_)
                  obtain ⟨rg', rfl, hBk'⟩ := hw
                  obtain ⟨hP1, hK1, hD1⟩ := hBw
                  rw [ht] at hP1
                  have hP : va_P (dC, dI) vwCl (wc_wX hh dd xo xr xn n (nI ip) 0 ct k lo rg' me rt) H_6 := hP1
                  have hD : va_D A (wc_wX hh dd xo xr xn n (nI ip) 0 ct k lo rg' me rt) := hD1.weaken (fun _ q _ h => hFc q.1 h)
                  refine lv_aload_n hx hb dX0_step_237 rfl (lv_at hl 8 rfl) ?_
                  refine lv_dup hx hb dX0_step_238 rfl ?_
                  refine va_get (D := (dC, dI)) (ci := 0) (v := .int (nI ip)) (C := RX0) (T := TX0) (N := 12) hx hb hts in_X0 hown hK hP 0 rfl rfl 4 (by decide) (hts _ q25) (fun _ h9 => h9) rfl dX0_step_239 ?_
                  refine lv_iconst (v := nI 1) hx hb dX0_step_242 (by decide +kernel) ?_
                  refine wc_iadd hx hb (x := ip) (y := 1) dX0_step_243 ?_
                  refine va_put (D := (dC, dI)) (ci := 0) (v := .int (nI (ip + 1))) (ty := .int) (C := RX0) (T := TX0) (N := 12) hx hb hts in_X0 tyX0 tyX0_ok nmX0 hown hK hP hD hS 0 rfl rfl 4 (by decide) (hts _ q25) (fun _ h9 => h9) rfl (by decide +kernel) rfl rfl (Nat.le_of_ble_eq_true rfl) dX0_step_244 (fun H_7 locs hP hD hS => ?_)
                  have hP : va_P (dC, dI) vwCl (wc_wX hh dd xo xr xn n (nI (ip + 1)) 0 ct k lo rg' me rt) H_7 := hP
                  have hD : va_D A (wc_wX hh dd xo xr xn n (nI (ip + 1)) 0 ct k lo rg' me rt) := hD
                  refine lv_iconst (v := 1) hx hb dX0_step_247 (by decide +kernel) ?_
                  exact W.zret (v := 1) hx hb hr rfl (fun t ht hW => ⟨⟨1, (xo, xr, xn, n, nI (ip + 1), 0, ct, k, lo, rg', me, rt), rfl, wc_stP_go hgo (G' := (upd ro (4 * k + g % 8) (mn ip), k, bk, nI (ip + 1), 0)) (wc_nxt_eq hip0 eo2 ea eb ed ho (by omega) (by omega) (by omega)) hBk' hR, by rw [ht]; exact hP, va_K.moved hW.alike hK, hD⟩, hS.F ht⟩) hS.2.2 dX0_step_248
                · exact absurd c_169 (by omega)
            · exact absurd c_151 (by omega)
          · refine lv_iload_n hx hb dX0_step_148 rfl (lv_at hl 4 rfl) ?_
            refine lv_bipush (v := nI 6) hx hb dX0_step_149 (by decide +kernel) ?_
            refine wc_icmp_ne (tgt := 161) hx hb (x := 1) (y := 6) (by omega) (by omega) dX0_step_151 (by decide) (fun c_151 => ?_) (fun c_151 => ?_)
            · refine lv_iload_n hx hb dX0_step_161 rfl (lv_at hl 4 rfl) ?_
              refine lv_iconst (v := nI 3) hx hb dX0_step_162 (by decide +kernel) ?_
              refine wc_icmp_eq (tgt := 172) hx hb (x := 1) (y := 3) (by omega) (by omega) dX0_step_163 (by decide) (fun c_163 => ?_) (fun c_163 => ?_)
              · exact absurd c_163 (by omega)
              · refine lv_iload_n hx hb dX0_step_166 rfl (lv_at hl 4 rfl) ?_
                refine lv_bipush (v := nI 7) hx hb dX0_step_167 (by decide +kernel) ?_
                refine wc_icmp_ne (tgt := 203) hx hb (x := 1) (y := 7) (by omega) (by omega) dX0_step_169 (by decide) (fun c_169 => ?_) (fun c_169 => ?_)
                · refine lv_aload_n hx hb dX0_step_203 rfl (lv_at hl 5 rfl) ?_
                  refine lv_iload_n hx hb dX0_step_204 rfl (lv_at hl 2 rfl) ?_
                  have hFc := va_free (wc := wc_wX hh dd xo xr xn n (nI ip) 0 ct k lo rg me rt) hD hS hA [0, 1, 2, 3, 4, 5, 6] rfl
                  refine va_calli (va_runV (As := [.int (nI (g / 8 % 8))]) (rest := []) ⟨hx, hb, hml, hown, hts⟩ (wc_get l dC dI hh dd s.heap.size xo xr xn n (nI ip) 0 ct k lo rg me rt ro hBk (g / 8 % 8) (by omega)) (cwV 1 hts (lw_V q100 q102 qs5 q11 q103) rfl rfl rfl (by decide +kernel) ⟨Nat.le_of_ble_eq_true rfl, Nat.le_of_ble_eq_true rfl⟩) (wc_preV hK hP hD (ci := 0) (q0 := 0) rfl rfl) rfl rfl hl.1 rfl (lv_room (Nat.le_of_ble_eq_true rfl)) dX0_step_205 ⟨Nat.le_of_ble_eq_true rfl, Nat.le_of_ble_eq_true rfl⟩) hS (fun q _ h => hFc q h) hFc (fun r_205 u t H_8 locs ht hvm hw hBw hz1 hk1 hS => ?_)
                  obtain ⟨hq_205, rfl⟩ := hw
                  obtain ⟨hP1, hK1, hD1⟩ := hBw
                  rw [ht] at hP1
                  have hP : va_P (dC, dI) vwCl (wc_wX hh dd xo xr xn n (nI ip) 0 ct k lo rg me rt) H_8 := hP1
                  have hD : va_D A (wc_wX hh dd xo xr xn n (nI ip) 0 ct k lo rg me rt) := hD1.weaken (fun _ q _ h => hFc q.1 h)
                  refine wc_top (show r_205 = ro (4 * k + g / 8 % 8) from hq_205) ?_
                  refine lv_istore (lv' := [(6, .int (ro (4 * k + g / 8 % 8))), (5, .int (mn ip)), (4, .int (nI (g / 64))), (3, .int (nI (g / 8 % 8))), (2, .int (nI (g % 8))), (1, .int (nI 1)), (0, .ref (hh 0))]) hx hb dX0_step_208 hl (by decide) rfl (fun ls hl => ?_)
                  refine lv_aload_n hx hb dX0_step_210 rfl (lv_at hl 6 rfl) ?_
                  refine lv_iload hx hb dX0_step_211 (lv_at hl 2 rfl) ?_
                  have hFc := va_free (wc := wc_wX hh dd xo xr xn n (nI ip) 0 ct k lo rg me rt) hD hS hA [0, 1, 2, 3, 4, 5, 6] rfl
                  refine va_calli (va_runV (As := [.int (nI (g / 64))]) (rest := []) ⟨hx, hb, hml, hown, hts⟩ (wc_get l dC dI hh dd H_8.size xo xr xn n (nI ip) 0 ct k lo rg me rt ro hBk (g / 64) (by omega)) (cwV 1 hts (lw_V q100 q102 qs5 q11 q103) rfl rfl rfl (by decide +kernel) ⟨Nat.le_of_ble_eq_true rfl, Nat.le_of_ble_eq_true rfl⟩) (wc_preV hK hP hD (ci := 0) (q0 := 0) rfl rfl) rfl rfl hl.1 rfl (lv_room (Nat.le_of_ble_eq_true rfl)) dX0_step_213 ⟨Nat.le_of_ble_eq_true rfl, Nat.le_of_ble_eq_true rfl⟩) hS (fun q _ h => hFc q h) hFc (fun r_213 u t H_9 locs ht hvm hw hBw hz1 hk1 hS => ?_)
                  obtain ⟨hq_213, rfl⟩ := hw
                  obtain ⟨hP1, hK1, hD1⟩ := hBw
                  rw [ht] at hP1
                  have hP : va_P (dC, dI) vwCl (wc_wX hh dd xo xr xn n (nI ip) 0 ct k lo rg me rt) H_9 := hP1
                  have hD : va_D A (wc_wX hh dd xo xr xn n (nI ip) 0 ct k lo rg me rt) := hD1.weaken (fun _ q _ h => hFc q.1 h)
                  refine wc_top (show r_213 = ro (4 * k + g / 64) from hq_213) ?_
                  refine lv_istore (lv' := [(7, .int (ro (4 * k + g / 64))), (6, .int (ro (4 * k + g / 8 % 8))), (5, .int (mn ip)), (4, .int (nI (g / 64))), (3, .int (nI (g / 8 % 8))), (2, .int (nI (g % 8))), (1, .int (nI 1)), (0, .ref (hh 0))]) hx hb dX0_step_216 hl (by decide) rfl (fun ls hl => ?_)
                  refine lv_iload_n hx hb dX0_step_218 rfl (lv_at hl 6 rfl) ?_
                  refine lv_iload hx hb dX0_step_219 (lv_at hl 1 rfl) ?_
                  refine lv_iload hx hb dX0_step_221 (lv_at hl 0 rfl) ?_
                  refine lv_iload hx hb dX0_step_223 (lv_at hl 2 rfl) ?_
                  have hFc := wc_free0 hS hA
                  refine va_calli (va_runS (As := [.int (nI 1), .int (ro (4 * k + g / 8 % 8)), .int (ro (4 * k + g / 64)), .int (mn ip)]) (rest := []) ⟨hx, hb, hml, hown, hts⟩ (wc_value l H_9.size 1 (by omega) (ro (4 * k + g / 8 % 8)) (ro (4 * k + g / 64)) (mn ip)) (va_cwS 4 hts (lw_S q107 q108 q11 q109) rfl rfl rfl (by decide +kernel) ⟨Nat.le_of_ble_eq_true rfl, Nat.le_of_ble_eq_true rfl⟩) wc_preS rfl rfl hl.1 rfl (lv_room (Nat.le_of_ble_eq_true rfl)) dX0_step_225 ⟨Nat.le_of_ble_eq_true rfl, Nat.le_of_ble_eq_true rfl⟩) hS (fun q _ h => hFc q h) hFc (fun r_225 u t H_10 locs ht hvm hw hBw hz1 hk1 hS => ?_)
                  have hq_225 := hw
                  have hP := wc_keep hP hk1
                  refine wc_top (show r_225 = ro (4 * k + g / 8 % 8) + ro (4 * k + g / 64) from hq_225) ?_
                  refine lv_istore (lv' := [(8, .int (ro (4 * k + g / 8 % 8) + ro (4 * k + g / 64))), (7, .int (ro (4 * k + g / 64))), (6, .int (ro (4 * k + g / 8 % 8))), (5, .int (mn ip)), (4, .int (nI (g / 64))), (3, .int (nI (g / 8 % 8))), (2, .int (nI (g % 8))), (1, .int (nI 1)), (0, .ref (hh 0))]) hx hb dX0_step_228 hl (by decide) rfl (fun ls hl => ?_)
                  refine lv_aload_n hx hb dX0_step_230 rfl (lv_at hl 8 rfl) ?_
                  refine lv_iload_n hx hb dX0_step_231 rfl (lv_at hl 6 rfl) ?_
                  refine lv_iload hx hb dX0_step_232 (lv_at hl 0 rfl) ?_
                  have hFc := va_free (wc := wc_wX hh dd xo xr xn n (nI ip) 0 ct k lo rg me rt) hD hS hA [0, 1, 2, 3, 4, 5, 6] rfl
                  refine va_callv (va_runV (As := [.int (nI (g % 8)), .int (ro (4 * k + g / 8 % 8) + ro (4 * k + g / 64))]) (rest := []) ⟨hx, hb, hml, hown, hts⟩ (wc_set l dC dI hh dd H_10.size xo xr xn n (nI ip) 0 ct k lo rg me rt ro hBk (g % 8) (by omega) (ro (4 * k + g / 8 % 8) + ro (4 * k + g / 64))) (cwV 2 hts (lw_V q110 q112 qs6 q11 q113) rfl rfl rfl (by decide +kernel) ⟨Nat.le_of_ble_eq_true rfl, Nat.le_of_ble_eq_true rfl⟩) (wc_preV hK hP hD (ci := 0) (q0 := 0) rfl rfl) rfl rfl hl.1 rfl (lv_room (Nat.le_of_ble_eq_true rfl)) dX0_step_234 ⟨Nat.le_of_ble_eq_true rfl, Nat.le_of_ble_eq_true rfl⟩) hS (fun q _ h => hFc q h) hFc (fun u t H_11 locs ht hvm hw hBw hz1 hk1 hS => ?_)
                  obtain ⟨rg', rfl, hBk'⟩ := hw
                  obtain ⟨hP1, hK1, hD1⟩ := hBw
                  rw [ht] at hP1
                  have hP : va_P (dC, dI) vwCl (wc_wX hh dd xo xr xn n (nI ip) 0 ct k lo rg' me rt) H_11 := hP1
                  have hD : va_D A (wc_wX hh dd xo xr xn n (nI ip) 0 ct k lo rg' me rt) := hD1.weaken (fun _ q _ h => hFc q.1 h)
                  refine lv_aload_n hx hb dX0_step_237 rfl (lv_at hl 8 rfl) ?_
                  refine lv_dup hx hb dX0_step_238 rfl ?_
                  refine va_get (D := (dC, dI)) (ci := 0) (v := .int (nI ip)) (C := RX0) (T := TX0) (N := 12) hx hb hts in_X0 hown hK hP 0 rfl rfl 4 (by decide) (hts _ q25) (fun _ h9 => h9) rfl dX0_step_239 ?_
                  refine lv_iconst (v := nI 1) hx hb dX0_step_242 (by decide +kernel) ?_
                  refine wc_iadd hx hb (x := ip) (y := 1) dX0_step_243 ?_
                  refine va_put (D := (dC, dI)) (ci := 0) (v := .int (nI (ip + 1))) (ty := .int) (C := RX0) (T := TX0) (N := 12) hx hb hts in_X0 tyX0 tyX0_ok nmX0 hown hK hP hD hS 0 rfl rfl 4 (by decide) (hts _ q25) (fun _ h9 => h9) rfl (by decide +kernel) rfl rfl (Nat.le_of_ble_eq_true rfl) dX0_step_244 (fun H_12 locs hP hD hS => ?_)
                  have hP : va_P (dC, dI) vwCl (wc_wX hh dd xo xr xn n (nI (ip + 1)) 0 ct k lo rg' me rt) H_12 := hP
                  have hD : va_D A (wc_wX hh dd xo xr xn n (nI (ip + 1)) 0 ct k lo rg' me rt) := hD
                  refine lv_iconst (v := 1) hx hb dX0_step_247 (by decide +kernel) ?_
                  exact W.zret (v := 1) hx hb hr rfl (fun t ht hW => ⟨⟨1, (xo, xr, xn, n, nI (ip + 1), 0, ct, k, lo, rg', me, rt), rfl, wc_stP_go hgo (G' := (upd ro (4 * k + g % 8) (ro (4 * k + g / 8 % 8) + ro (4 * k + g / 64)), k, bk, nI (ip + 1), 0)) (wc_nxt_eq hip0 eo2 ea eb ed ho (by omega) (by omega) (by omega)) hBk' hR, by rw [ht]; exact hP, va_K.moved hW.alike hK, hD⟩, hS.F ht⟩) hS.2.2 dX0_step_248
                · exact absurd c_169 (by omega)
            · exact absurd c_151 (by omega)
          · refine lv_iload_n hx hb dX0_step_148 rfl (lv_at hl 4 rfl) ?_
            refine lv_bipush (v := nI 6) hx hb dX0_step_149 (by decide +kernel) ?_
            refine wc_icmp_ne (tgt := 161) hx hb (x := 2) (y := 6) (by omega) (by omega) dX0_step_151 (by decide) (fun c_151 => ?_) (fun c_151 => ?_)
            · refine lv_iload_n hx hb dX0_step_161 rfl (lv_at hl 4 rfl) ?_
              refine lv_iconst (v := nI 3) hx hb dX0_step_162 (by decide +kernel) ?_
              refine wc_icmp_eq (tgt := 172) hx hb (x := 2) (y := 3) (by omega) (by omega) dX0_step_163 (by decide) (fun c_163 => ?_) (fun c_163 => ?_)
              · exact absurd c_163 (by omega)
              · refine lv_iload_n hx hb dX0_step_166 rfl (lv_at hl 4 rfl) ?_
                refine lv_bipush (v := nI 7) hx hb dX0_step_167 (by decide +kernel) ?_
                refine wc_icmp_ne (tgt := 203) hx hb (x := 2) (y := 7) (by omega) (by omega) dX0_step_169 (by decide) (fun c_169 => ?_) (fun c_169 => ?_)
                · refine lv_aload_n hx hb dX0_step_203 rfl (lv_at hl 5 rfl) ?_
                  refine lv_iload_n hx hb dX0_step_204 rfl (lv_at hl 2 rfl) ?_
                  have hFc := va_free (wc := wc_wX hh dd xo xr xn n (nI ip) 0 ct k lo rg me rt) hD hS hA [0, 1, 2, 3, 4, 5, 6] rfl
                  refine va_calli (va_runV (As := [.int (nI (g / 8 % 8))]) (rest := []) ⟨hx, hb, hml, hown, hts⟩ (wc_get l dC dI hh dd s.heap.size xo xr xn n (nI ip) 0 ct k lo rg me rt ro hBk (g / 8 % 8) (by omega)) (cwV 1 hts (lw_V q100 q102 qs5 q11 q103) rfl rfl rfl (by decide +kernel) ⟨Nat.le_of_ble_eq_true rfl, Nat.le_of_ble_eq_true rfl⟩) (wc_preV hK hP hD (ci := 0) (q0 := 0) rfl rfl) rfl rfl hl.1 rfl (lv_room (Nat.le_of_ble_eq_true rfl)) dX0_step_205 ⟨Nat.le_of_ble_eq_true rfl, Nat.le_of_ble_eq_true rfl⟩) hS (fun q _ h => hFc q h) hFc (fun r_205 u t H_13 locs ht hvm hw hBw hz1 hk1 hS => ?_)
                  obtain ⟨hq_205, rfl⟩ := hw
                  obtain ⟨hP1, hK1, hD1⟩ := hBw
                  rw [ht] at hP1
                  have hP : va_P (dC, dI) vwCl (wc_wX hh dd xo xr xn n (nI ip) 0 ct k lo rg me rt) H_13 := hP1
                  have hD : va_D A (wc_wX hh dd xo xr xn n (nI ip) 0 ct k lo rg me rt) := hD1.weaken (fun _ q _ h => hFc q.1 h)
                  refine wc_top (show r_205 = ro (4 * k + g / 8 % 8) from hq_205) ?_
                  refine lv_istore (lv' := [(6, .int (ro (4 * k + g / 8 % 8))), (5, .int (mn ip)), (4, .int (nI (g / 64))), (3, .int (nI (g / 8 % 8))), (2, .int (nI (g % 8))), (1, .int (nI 2)), (0, .ref (hh 0))]) hx hb dX0_step_208 hl (by decide) rfl (fun ls hl => ?_)
                  refine lv_aload_n hx hb dX0_step_210 rfl (lv_at hl 6 rfl) ?_
                  refine lv_iload hx hb dX0_step_211 (lv_at hl 2 rfl) ?_
                  have hFc := va_free (wc := wc_wX hh dd xo xr xn n (nI ip) 0 ct k lo rg me rt) hD hS hA [0, 1, 2, 3, 4, 5, 6] rfl
                  refine va_calli (va_runV (As := [.int (nI (g / 64))]) (rest := []) ⟨hx, hb, hml, hown, hts⟩ (wc_get l dC dI hh dd H_13.size xo xr xn n (nI ip) 0 ct k lo rg me rt ro hBk (g / 64) (by omega)) (cwV 1 hts (lw_V q100 q102 qs5 q11 q103) rfl rfl rfl (by decide +kernel) ⟨Nat.le_of_ble_eq_true rfl, Nat.le_of_ble_eq_true rfl⟩) (wc_preV hK hP hD (ci := 0) (q0 := 0) rfl rfl) rfl rfl hl.1 rfl (lv_room (Nat.le_of_ble_eq_true rfl)) dX0_step_213 ⟨Nat.le_of_ble_eq_true rfl, Nat.le_of_ble_eq_true rfl⟩) hS (fun q _ h => hFc q h) hFc (fun r_213 u t H_14 locs ht hvm hw hBw hz1 hk1 hS => ?_)
                  obtain ⟨hq_213, rfl⟩ := hw
                  obtain ⟨hP1, hK1, hD1⟩ := hBw
                  rw [ht] at hP1
                  have hP : va_P (dC, dI) vwCl (wc_wX hh dd xo xr xn n (nI ip) 0 ct k lo rg me rt) H_14 := hP1
                  have hD : va_D A (wc_wX hh dd xo xr xn n (nI ip) 0 ct k lo rg me rt) := hD1.weaken (fun _ q _ h => hFc q.1 h)
                  refine wc_top (show r_213 = ro (4 * k + g / 64) from hq_213) ?_
                  refine lv_istore (lv' := [(7, .int (ro (4 * k + g / 64))), (6, .int (ro (4 * k + g / 8 % 8))), (5, .int (mn ip)), (4, .int (nI (g / 64))), (3, .int (nI (g / 8 % 8))), (2, .int (nI (g % 8))), (1, .int (nI 2)), (0, .ref (hh 0))]) hx hb dX0_step_216 hl (by decide) rfl (fun ls hl => ?_)
                  refine lv_iload_n hx hb dX0_step_218 rfl (lv_at hl 6 rfl) ?_
                  refine lv_iload hx hb dX0_step_219 (lv_at hl 1 rfl) ?_
                  refine lv_iload hx hb dX0_step_221 (lv_at hl 0 rfl) ?_
                  refine lv_iload hx hb dX0_step_223 (lv_at hl 2 rfl) ?_
                  have hFc := wc_free0 hS hA
                  refine va_calli (va_runS (As := [.int (nI 2), .int (ro (4 * k + g / 8 % 8)), .int (ro (4 * k + g / 64)), .int (mn ip)]) (rest := []) ⟨hx, hb, hml, hown, hts⟩ (wc_value l H_14.size 2 (by omega) (ro (4 * k + g / 8 % 8)) (ro (4 * k + g / 64)) (mn ip)) (va_cwS 4 hts (lw_S q107 q108 q11 q109) rfl rfl rfl (by decide +kernel) ⟨Nat.le_of_ble_eq_true rfl, Nat.le_of_ble_eq_true rfl⟩) wc_preS rfl rfl hl.1 rfl (lv_room (Nat.le_of_ble_eq_true rfl)) dX0_step_225 ⟨Nat.le_of_ble_eq_true rfl, Nat.le_of_ble_eq_true rfl⟩) hS (fun q _ h => hFc q h) hFc (fun r_225 u t H_15 locs ht hvm hw hBw hz1 hk1 hS => ?_)
                  have hq_225 := hw
                  have hP := wc_keep hP hk1
                  refine wc_top (show r_225 = ro (4 * k + g / 8 % 8) - ro (4 * k + g / 64) from hq_225) ?_
                  refine lv_istore (lv' := [(8, .int (ro (4 * k + g / 8 % 8) - ro (4 * k + g / 64))), (7, .int (ro (4 * k + g / 64))), (6, .int (ro (4 * k + g / 8 % 8))), (5, .int (mn ip)), (4, .int (nI (g / 64))), (3, .int (nI (g / 8 % 8))), (2, .int (nI (g % 8))), (1, .int (nI 2)), (0, .ref (hh 0))]) hx hb dX0_step_228 hl (by decide) rfl (fun ls hl => ?_)
                  refine lv_aload_n hx hb dX0_step_230 rfl (lv_at hl 8 rfl) ?_
                  refine lv_iload_n hx hb dX0_step_231 rfl (lv_at hl 6 rfl) ?_
                  refine lv_iload hx hb dX0_step_232 (lv_at hl 0 rfl) ?_
                  have hFc := va_free (wc := wc_wX hh dd xo xr xn n (nI ip) 0 ct k lo rg me rt) hD hS hA [0, 1, 2, 3, 4, 5, 6] rfl
                  refine va_callv (va_runV (As := [.int (nI (g % 8)), .int (ro (4 * k + g / 8 % 8) - ro (4 * k + g / 64))]) (rest := []) ⟨hx, hb, hml, hown, hts⟩ (wc_set l dC dI hh dd H_15.size xo xr xn n (nI ip) 0 ct k lo rg me rt ro hBk (g % 8) (by omega) (ro (4 * k + g / 8 % 8) - ro (4 * k + g / 64))) (cwV 2 hts (lw_V q110 q112 qs6 q11 q113) rfl rfl rfl (by decide +kernel) ⟨Nat.le_of_ble_eq_true rfl, Nat.le_of_ble_eq_true rfl⟩) (wc_preV hK hP hD (ci := 0) (q0 := 0) rfl rfl) rfl rfl hl.1 rfl (lv_room (Nat.le_of_ble_eq_true rfl)) dX0_step_234 ⟨Nat.le_of_ble_eq_true rfl, Nat.le_of_ble_eq_true rfl⟩) hS (fun q _ h => hFc q h) hFc (fun u t H_16 locs ht hvm hw hBw hz1 hk1 hS => ?_)
                  obtain ⟨rg', rfl, hBk'⟩ := hw
                  obtain ⟨hP1, hK1, hD1⟩ := hBw
                  rw [ht] at hP1
                  have hP : va_P (dC, dI) vwCl (wc_wX hh dd xo xr xn n (nI ip) 0 ct k lo rg' me rt) H_16 := hP1
                  have hD : va_D A (wc_wX hh dd xo xr xn n (nI ip) 0 ct k lo rg' me rt) := hD1.weaken (fun _ q _ h => hFc q.1 h)
                  refine lv_aload_n hx hb dX0_step_237 rfl (lv_at hl 8 rfl) ?_
                  refine lv_dup hx hb dX0_step_238 rfl ?_
                  refine va_get (D := (dC, dI)) (ci := 0) (v := .int (nI ip)) (C := RX0) (T := TX0) (N := 12) hx hb hts in_X0 hown hK hP 0 rfl rfl 4 (by decide) (hts _ q25) (fun _ h9 => h9) rfl dX0_step_239 ?_
                  refine lv_iconst (v := nI 1) hx hb dX0_step_242 (by decide +kernel) ?_
                  refine wc_iadd hx hb (x := ip) (y := 1) dX0_step_243 ?_
                  refine va_put (D := (dC, dI)) (ci := 0) (v := .int (nI (ip + 1))) (ty := .int) (C := RX0) (T := TX0) (N := 12) hx hb hts in_X0 tyX0 tyX0_ok nmX0 hown hK hP hD hS 0 rfl rfl 4 (by decide) (hts _ q25) (fun _ h9 => h9) rfl (by decide +kernel) rfl rfl (Nat.le_of_ble_eq_true rfl) dX0_step_244 (fun H_17 locs hP hD hS => ?_)
                  have hP : va_P (dC, dI) vwCl (wc_wX hh dd xo xr xn n (nI (ip + 1)) 0 ct k lo rg' me rt) H_17 := hP
                  have hD : va_D A (wc_wX hh dd xo xr xn n (nI (ip + 1)) 0 ct k lo rg' me rt) := hD
                  refine lv_iconst (v := 1) hx hb dX0_step_247 (by decide +kernel) ?_
                  exact W.zret (v := 1) hx hb hr rfl (fun t ht hW => ⟨⟨1, (xo, xr, xn, n, nI (ip + 1), 0, ct, k, lo, rg', me, rt), rfl, wc_stP_go hgo (G' := (upd ro (4 * k + g % 8) (ro (4 * k + g / 8 % 8) - ro (4 * k + g / 64)), k, bk, nI (ip + 1), 0)) (wc_nxt_eq hip0 eo2 ea eb ed ho (by omega) (by omega) (by omega)) hBk' hR, by rw [ht]; exact hP, va_K.moved hW.alike hK, hD⟩, hS.F ht⟩) hS.2.2 dX0_step_248
                · exact absurd c_169 (by omega)
            · exact absurd c_151 (by omega)
          · refine lv_iload_n hx hb dX0_step_148 rfl (lv_at hl 4 rfl) ?_
            refine lv_bipush (v := nI 6) hx hb dX0_step_149 (by decide +kernel) ?_
            refine wc_icmp_ne (tgt := 161) hx hb (x := 3) (y := 6) (by omega) (by omega) dX0_step_151 (by decide) (fun c_151 => ?_) (fun c_151 => ?_)
            · refine lv_iload_n hx hb dX0_step_161 rfl (lv_at hl 4 rfl) ?_
              refine lv_iconst (v := nI 3) hx hb dX0_step_162 (by decide +kernel) ?_
              refine wc_icmp_eq (tgt := 172) hx hb (x := 3) (y := 3) (by omega) (by omega) dX0_step_163 (by decide) (fun c_163 => ?_) (fun c_163 => ?_)
              · refine lv_aload_n hx hb dX0_step_172 rfl (lv_at hl 5 rfl) ?_
                refine lv_iload_n hx hb dX0_step_173 rfl (lv_at hl 4 rfl) ?_
                refine lv_iconst (v := nI 3) hx hb dX0_step_174 (by decide +kernel) ?_
                refine wc_icmp_eq (tgt := 186) hx hb (x := 3) (y := 3) (by omega) (by omega) dX0_step_175 (by decide) (fun c_175 => ?_) (fun c_175 => ?_)
                · refine lv_iload hx hb dX0_step_186 (lv_at hl 0 rfl) ?_
                  refine lv_goto (tgt := 197) hx hb dX0_step_188 (by decide) ?_
                  refine va_put (D := (dC, dI)) (ci := 0) (v := .int (mn ip)) (ty := .int) (C := RX0) (T := TX0) (N := 12) hx hb hts in_X0 tyX0 tyX0_ok nmX0 hown hK hP hD hS 0 rfl rfl 4 (by decide) (hts _ q25) (fun _ h9 => h9) rfl (by decide +kernel) rfl rfl (Nat.le_of_ble_eq_true rfl) dX0_step_197 (fun H_18 locs hP hD hS => ?_)
                  have hP : va_P (dC, dI) vwCl (wc_wX hh dd xo xr xn n (mn ip) 0 ct k lo rg me rt) H_18 := hP
                  have hD : va_D A (wc_wX hh dd xo xr xn n (mn ip) 0 ct k lo rg me rt) := hD
                  refine lv_goto (tgt := 247) hx hb dX0_step_200 (by decide) ?_
                  refine lv_iconst (v := 1) hx hb dX0_step_247 (by decide +kernel) ?_
                  exact W.zret (v := 1) hx hb hr rfl (fun t ht hW => ⟨⟨1, (xo, xr, xn, n, mn ip, 0, ct, k, lo, rg, me, rt), rfl, wc_stP_go hgo (G' := (ro, k, bk, mn ip, 0)) (wc_nxt_eq hip0 eo2 ea eb ed ho (by omega) (by omega) (by omega)) hBk hR, by rw [ht]; exact hP, va_K.moved hW.alike hK, hD⟩, hS.F ht⟩) hS.2.2 dX0_step_248
                · exact absurd c_175 (by omega)
              · exact absurd c_163 (by omega)
            · exact absurd c_151 (by omega)
          · refine lv_iload_n hx hb dX0_step_148 rfl (lv_at hl 4 rfl) ?_
            refine lv_bipush (v := nI 6) hx hb dX0_step_149 (by decide +kernel) ?_
            refine wc_icmp_ne (tgt := 161) hx hb (x := 4) (y := 6) (by omega) (by omega) dX0_step_151 (by decide) (fun c_151 => ?_) (fun c_151 => ?_)
            · refine lv_iload_n hx hb dX0_step_161 rfl (lv_at hl 4 rfl) ?_
              refine lv_iconst (v := nI 3) hx hb dX0_step_162 (by decide +kernel) ?_
              refine wc_icmp_eq (tgt := 172) hx hb (x := 4) (y := 3) (by omega) (by omega) dX0_step_163 (by decide) (fun c_163 => ?_) (fun c_163 => ?_)
              · exact absurd c_163 (by omega)
              · refine lv_iload_n hx hb dX0_step_166 rfl (lv_at hl 4 rfl) ?_
                refine lv_bipush (v := nI 7) hx hb dX0_step_167 (by decide +kernel) ?_
                refine wc_icmp_ne (tgt := 203) hx hb (x := 4) (y := 7) (by omega) (by omega) dX0_step_169 (by decide) (fun c_169 => ?_) (fun c_169 => ?_)
                · refine lv_aload_n hx hb dX0_step_203 rfl (lv_at hl 5 rfl) ?_
                  refine lv_iload_n hx hb dX0_step_204 rfl (lv_at hl 2 rfl) ?_
                  have hFc := va_free (wc := wc_wX hh dd xo xr xn n (nI ip) 0 ct k lo rg me rt) hD hS hA [0, 1, 2, 3, 4, 5, 6] rfl
                  refine va_calli (va_runV (As := [.int (nI (g / 8 % 8))]) (rest := []) ⟨hx, hb, hml, hown, hts⟩ (wc_get l dC dI hh dd s.heap.size xo xr xn n (nI ip) 0 ct k lo rg me rt ro hBk (g / 8 % 8) (by omega)) (cwV 1 hts (lw_V q100 q102 qs5 q11 q103) rfl rfl rfl (by decide +kernel) ⟨Nat.le_of_ble_eq_true rfl, Nat.le_of_ble_eq_true rfl⟩) (wc_preV hK hP hD (ci := 0) (q0 := 0) rfl rfl) rfl rfl hl.1 rfl (lv_room (Nat.le_of_ble_eq_true rfl)) dX0_step_205 ⟨Nat.le_of_ble_eq_true rfl, Nat.le_of_ble_eq_true rfl⟩) hS (fun q _ h => hFc q h) hFc (fun r_205 u t H_19 locs ht hvm hw hBw hz1 hk1 hS => ?_)
                  obtain ⟨hq_205, rfl⟩ := hw
                  obtain ⟨hP1, hK1, hD1⟩ := hBw
                  rw [ht] at hP1
                  have hP : va_P (dC, dI) vwCl (wc_wX hh dd xo xr xn n (nI ip) 0 ct k lo rg me rt) H_19 := hP1
                  have hD : va_D A (wc_wX hh dd xo xr xn n (nI ip) 0 ct k lo rg me rt) := hD1.weaken (fun _ q _ h => hFc q.1 h)
                  refine wc_top (show r_205 = ro (4 * k + g / 8 % 8) from hq_205) ?_
                  refine lv_istore (lv' := [(6, .int (ro (4 * k + g / 8 % 8))), (5, .int (mn ip)), (4, .int (nI (g / 64))), (3, .int (nI (g / 8 % 8))), (2, .int (nI (g % 8))), (1, .int (nI 4)), (0, .ref (hh 0))]) hx hb dX0_step_208 hl (by decide) rfl (fun ls hl => ?_)
                  refine lv_aload_n hx hb dX0_step_210 rfl (lv_at hl 6 rfl) ?_
                  refine lv_iload hx hb dX0_step_211 (lv_at hl 2 rfl) ?_
                  have hFc := va_free (wc := wc_wX hh dd xo xr xn n (nI ip) 0 ct k lo rg me rt) hD hS hA [0, 1, 2, 3, 4, 5, 6] rfl
                  refine va_calli (va_runV (As := [.int (nI (g / 64))]) (rest := []) ⟨hx, hb, hml, hown, hts⟩ (wc_get l dC dI hh dd H_19.size xo xr xn n (nI ip) 0 ct k lo rg me rt ro hBk (g / 64) (by omega)) (cwV 1 hts (lw_V q100 q102 qs5 q11 q103) rfl rfl rfl (by decide +kernel) ⟨Nat.le_of_ble_eq_true rfl, Nat.le_of_ble_eq_true rfl⟩) (wc_preV hK hP hD (ci := 0) (q0 := 0) rfl rfl) rfl rfl hl.1 rfl (lv_room (Nat.le_of_ble_eq_true rfl)) dX0_step_213 ⟨Nat.le_of_ble_eq_true rfl, Nat.le_of_ble_eq_true rfl⟩) hS (fun q _ h => hFc q h) hFc (fun r_213 u t H_20 locs ht hvm hw hBw hz1 hk1 hS => ?_)
                  obtain ⟨hq_213, rfl⟩ := hw
                  obtain ⟨hP1, hK1, hD1⟩ := hBw
                  rw [ht] at hP1
                  have hP : va_P (dC, dI) vwCl (wc_wX hh dd xo xr xn n (nI ip) 0 ct k lo rg me rt) H_20 := hP1
                  have hD : va_D A (wc_wX hh dd xo xr xn n (nI ip) 0 ct k lo rg me rt) := hD1.weaken (fun _ q _ h => hFc q.1 h)
                  refine wc_top (show r_213 = ro (4 * k + g / 64) from hq_213) ?_
                  refine lv_istore (lv' := [(7, .int (ro (4 * k + g / 64))), (6, .int (ro (4 * k + g / 8 % 8))), (5, .int (mn ip)), (4, .int (nI (g / 64))), (3, .int (nI (g / 8 % 8))), (2, .int (nI (g % 8))), (1, .int (nI 4)), (0, .ref (hh 0))]) hx hb dX0_step_216 hl (by decide) rfl (fun ls hl => ?_)
                  refine lv_iload_n hx hb dX0_step_218 rfl (lv_at hl 6 rfl) ?_
                  refine lv_iload hx hb dX0_step_219 (lv_at hl 1 rfl) ?_
                  refine lv_iload hx hb dX0_step_221 (lv_at hl 0 rfl) ?_
                  refine lv_iload hx hb dX0_step_223 (lv_at hl 2 rfl) ?_
                  have hFc := wc_free0 hS hA
                  refine va_calli (va_runS (As := [.int (nI 4), .int (ro (4 * k + g / 8 % 8)), .int (ro (4 * k + g / 64)), .int (mn ip)]) (rest := []) ⟨hx, hb, hml, hown, hts⟩ (wc_value l H_20.size 4 (by omega) (ro (4 * k + g / 8 % 8)) (ro (4 * k + g / 64)) (mn ip)) (va_cwS 4 hts (lw_S q107 q108 q11 q109) rfl rfl rfl (by decide +kernel) ⟨Nat.le_of_ble_eq_true rfl, Nat.le_of_ble_eq_true rfl⟩) wc_preS rfl rfl hl.1 rfl (lv_room (Nat.le_of_ble_eq_true rfl)) dX0_step_225 ⟨Nat.le_of_ble_eq_true rfl, Nat.le_of_ble_eq_true rfl⟩) hS (fun q _ h => hFc q h) hFc (fun r_225 u t H_21 locs ht hvm hw hBw hz1 hk1 hS => ?_)
                  have hq_225 := hw
                  have hP := wc_keep hP hk1
                  refine wc_top (show r_225 = ro (4 * k + g / 8 % 8) from hq_225) ?_
                  refine lv_istore (lv' := [(8, .int (ro (4 * k + g / 8 % 8))), (7, .int (ro (4 * k + g / 64))), (6, .int (ro (4 * k + g / 8 % 8))), (5, .int (mn ip)), (4, .int (nI (g / 64))), (3, .int (nI (g / 8 % 8))), (2, .int (nI (g % 8))), (1, .int (nI 4)), (0, .ref (hh 0))]) hx hb dX0_step_228 hl (by decide) rfl (fun ls hl => ?_)
                  refine lv_aload_n hx hb dX0_step_230 rfl (lv_at hl 8 rfl) ?_
                  refine lv_iload_n hx hb dX0_step_231 rfl (lv_at hl 6 rfl) ?_
                  refine lv_iload hx hb dX0_step_232 (lv_at hl 0 rfl) ?_
                  have hFc := va_free (wc := wc_wX hh dd xo xr xn n (nI ip) 0 ct k lo rg me rt) hD hS hA [0, 1, 2, 3, 4, 5, 6] rfl
                  refine va_callv (va_runV (As := [.int (nI (g % 8)), .int (ro (4 * k + g / 8 % 8))]) (rest := []) ⟨hx, hb, hml, hown, hts⟩ (wc_set l dC dI hh dd H_21.size xo xr xn n (nI ip) 0 ct k lo rg me rt ro hBk (g % 8) (by omega) (ro (4 * k + g / 8 % 8))) (cwV 2 hts (lw_V q110 q112 qs6 q11 q113) rfl rfl rfl (by decide +kernel) ⟨Nat.le_of_ble_eq_true rfl, Nat.le_of_ble_eq_true rfl⟩) (wc_preV hK hP hD (ci := 0) (q0 := 0) rfl rfl) rfl rfl hl.1 rfl (lv_room (Nat.le_of_ble_eq_true rfl)) dX0_step_234 ⟨Nat.le_of_ble_eq_true rfl, Nat.le_of_ble_eq_true rfl⟩) hS (fun q _ h => hFc q h) hFc (fun u t H_22 locs ht hvm hw hBw hz1 hk1 hS => ?_)
                  obtain ⟨rg', rfl, hBk'⟩ := hw
                  obtain ⟨hP1, hK1, hD1⟩ := hBw
                  rw [ht] at hP1
                  have hP : va_P (dC, dI) vwCl (wc_wX hh dd xo xr xn n (nI ip) 0 ct k lo rg' me rt) H_22 := hP1
                  have hD : va_D A (wc_wX hh dd xo xr xn n (nI ip) 0 ct k lo rg' me rt) := hD1.weaken (fun _ q _ h => hFc q.1 h)
                  refine lv_aload_n hx hb dX0_step_237 rfl (lv_at hl 8 rfl) ?_
                  refine lv_dup hx hb dX0_step_238 rfl ?_
                  refine va_get (D := (dC, dI)) (ci := 0) (v := .int (nI ip)) (C := RX0) (T := TX0) (N := 12) hx hb hts in_X0 hown hK hP 0 rfl rfl 4 (by decide) (hts _ q25) (fun _ h9 => h9) rfl dX0_step_239 ?_
                  refine lv_iconst (v := nI 1) hx hb dX0_step_242 (by decide +kernel) ?_
                  refine wc_iadd hx hb (x := ip) (y := 1) dX0_step_243 ?_
                  refine va_put (D := (dC, dI)) (ci := 0) (v := .int (nI (ip + 1))) (ty := .int) (C := RX0) (T := TX0) (N := 12) hx hb hts in_X0 tyX0 tyX0_ok nmX0 hown hK hP hD hS 0 rfl rfl 4 (by decide) (hts _ q25) (fun _ h9 => h9) rfl (by decide +kernel) rfl rfl (Nat.le_of_ble_eq_true rfl) dX0_step_244 (fun H_23 locs hP hD hS => ?_)
                  have hP : va_P (dC, dI) vwCl (wc_wX hh dd xo xr xn n (nI (ip + 1)) 0 ct k lo rg' me rt) H_23 := hP
                  have hD : va_D A (wc_wX hh dd xo xr xn n (nI (ip + 1)) 0 ct k lo rg' me rt) := hD
                  refine lv_iconst (v := 1) hx hb dX0_step_247 (by decide +kernel) ?_
                  exact W.zret (v := 1) hx hb hr rfl (fun t ht hW => ⟨⟨1, (xo, xr, xn, n, nI (ip + 1), 0, ct, k, lo, rg', me, rt), rfl, wc_stP_go hgo (G' := (upd ro (4 * k + g % 8) (ro (4 * k + g / 8 % 8)), k, bk, nI (ip + 1), 0)) (wc_nxt_eq hip0 eo2 ea eb ed ho (by omega) (by omega) (by omega)) hBk' hR, by rw [ht]; exact hP, va_K.moved hW.alike hK, hD⟩, hS.F ht⟩) hS.2.2 dX0_step_248
                · exact absurd c_169 (by omega)
            · exact absurd c_151 (by omega)
          · refine lv_iload_n hx hb dX0_step_148 rfl (lv_at hl 4 rfl) ?_
            refine lv_bipush (v := nI 6) hx hb dX0_step_149 (by decide +kernel) ?_
            refine wc_icmp_ne (tgt := 161) hx hb (x := 6) (y := 6) (by omega) (by omega) dX0_step_151 (by decide) (fun c_151 => ?_) (fun c_151 => ?_)
            · exact absurd c_151 (by omega)
            · refine lv_aload_n hx hb dX0_step_154 rfl (lv_at hl 5 rfl) ?_
              rcases Nat.eq_zero_or_pos k with rfl | hk0
              · have hFc := va_free (wc := wc_wX hh dd xo xr xn n (nI ip) 0 ct 0 lo rg me rt) hD hS hA [0, 1, 2, 3, 4, 5, 6] rfl
                refine va_callv (va_runV (As := []) (rest := []) ⟨hx, hb, hml, hown, hts⟩ (wc_goBack0 l dC dI hh dd s.heap.size xo xr xn n (nI ip) 0 ct lo rg me rt) (cwV 0 hts (lw_V q92 q94 qs3 q11 q95) rfl rfl rfl (by decide +kernel) ⟨Nat.le_of_ble_eq_true rfl, Nat.le_of_ble_eq_true rfl⟩) (wc_preV hK hP hD (ci := 0) (q0 := 0) rfl rfl) rfl rfl hl.1 rfl (lv_room (Nat.le_of_ble_eq_true rfl)) dX0_step_155 ⟨Nat.le_of_ble_eq_true rfl, Nat.le_of_ble_eq_true rfl⟩) hS (fun q _ h => hFc q h) hFc (fun u t H_24 locs ht hvm hw hBw hz1 hk1 hS => ?_)
                subst hw
                obtain ⟨hP1, hK1, hD1⟩ := hBw
                rw [ht] at hP1
                have hP : va_P (dC, dI) vwCl (wc_wX hh dd xo xr xn n (nI ip) 1 ct 0 lo rg me rt) H_24 := hP1
                have hD : va_D A (wc_wX hh dd xo xr xn n (nI ip) 1 ct 0 lo rg me rt) := hD1.weaken (fun _ q _ h => hFc q.1 h)
                refine lv_goto (tgt := 247) hx hb dX0_step_158 (by decide) ?_
                refine lv_iconst (v := 1) hx hb dX0_step_247 (by decide +kernel) ?_
                exact W.zret (v := 1) hx hb hr rfl (fun t ht hW => ⟨⟨1, (xo, xr, xn, n, nI ip, 1, ct, 0, lo, rg, me, rt), rfl, wc_stP_go hgo (G' := (ro, 0, bk, nI ip, 1)) (wc_nxt_eq hip0 eo2 ea eb ed ho (by omega) (by omega) (by omega)) hBk hR, by rw [ht]; exact hP, va_K.moved hW.alike hK, hD⟩, hS.F ht⟩) hS.2.2 dX0_step_248
              · have hFc := va_free (wc := wc_wX hh dd xo xr xn n (nI ip) 0 ct k lo rg me rt) hD hS hA [0, 1, 2, 3, 4, 5, 6] rfl
                refine va_callv (va_runV (As := []) (rest := []) ⟨hx, hb, hml, hown, hts⟩ (wc_goBack1 l dC dI hh dd s.heap.size xo xr xn n (nI ip) 0 ct k lo rg me rt ro bk hBk hR hk0) (cwV 0 hts (lw_V q92 q94 qs3 q11 q95) rfl rfl rfl (by decide +kernel) ⟨Nat.le_of_ble_eq_true rfl, Nat.le_of_ble_eq_true rfl⟩) (wc_preV hK hP hD (ci := 0) (q0 := 0) rfl rfl) rfl rfl hl.1 rfl (lv_room (Nat.le_of_ble_eq_true rfl)) dX0_step_155 ⟨Nat.le_of_ble_eq_true rfl, Nat.le_of_ble_eq_true rfl⟩) hS (fun q _ h => hFc q h) hFc (fun u t H_25 locs ht hvm hw hBw hz1 hk1 hS => ?_)
                obtain ⟨lo', rg', rfl, hBk'⟩ := hw
                obtain ⟨hP1, hK1, hD1⟩ := hBw
                rw [ht] at hP1
                have hP : va_P (dC, dI) vwCl (wc_wX hh dd xo xr xn n (bk k) 0 ct (k - 1) lo' rg' me rt) H_25 := hP1
                have hD : va_D A (wc_wX hh dd xo xr xn n (bk k) 0 ct (k - 1) lo' rg' me rt) := hD1.weaken (fun _ q _ h => hFc q.1 h)
                refine lv_goto (tgt := 247) hx hb dX0_step_158 (by decide) ?_
                refine lv_iconst (v := 1) hx hb dX0_step_247 (by decide +kernel) ?_
                exact W.zret (v := 1) hx hb hr rfl (fun t ht hW => ⟨⟨1, (xo, xr, xn, n, bk k, 0, ct, k - 1, lo', rg', me, rt), rfl, wc_stP_go hgo (G' := (ro, k - 1, bk, bk k, 0)) ((wc_nxt_eq hip0 eo2 ea eb ed ho (by omega) (by omega) (by omega)).trans (wc_nx6 hk0)) hBk' (wc_Ret_pop hR), by rw [ht]; exact hP, va_K.moved hW.alike hK, hD⟩, hS.F ht⟩) hS.2.2 dX0_step_248
          · refine lv_iload_n hx hb dX0_step_148 rfl (lv_at hl 4 rfl) ?_
            refine lv_bipush (v := nI 6) hx hb dX0_step_149 (by decide +kernel) ?_
            refine wc_icmp_ne (tgt := 161) hx hb (x := 7) (y := 6) (by omega) (by omega) dX0_step_151 (by decide) (fun c_151 => ?_) (fun c_151 => ?_)
            · refine lv_iload_n hx hb dX0_step_161 rfl (lv_at hl 4 rfl) ?_
              refine lv_iconst (v := nI 3) hx hb dX0_step_162 (by decide +kernel) ?_
              refine wc_icmp_eq (tgt := 172) hx hb (x := 7) (y := 3) (by omega) (by omega) dX0_step_163 (by decide) (fun c_163 => ?_) (fun c_163 => ?_)
              · exact absurd c_163 (by omega)
              · refine lv_iload_n hx hb dX0_step_166 rfl (lv_at hl 4 rfl) ?_
                refine lv_bipush (v := nI 7) hx hb dX0_step_167 (by decide +kernel) ?_
                refine wc_icmp_ne (tgt := 203) hx hb (x := 7) (y := 7) (by omega) (by omega) dX0_step_169 (by decide) (fun c_169 => ?_) (fun c_169 => ?_)
                · exact absurd c_169 (by omega)
                · refine lv_aload_n hx hb dX0_step_172 rfl (lv_at hl 5 rfl) ?_
                  refine lv_iload_n hx hb dX0_step_173 rfl (lv_at hl 4 rfl) ?_
                  refine lv_iconst (v := nI 3) hx hb dX0_step_174 (by decide +kernel) ?_
                  refine wc_icmp_eq (tgt := 186) hx hb (x := 7) (y := 3) (by omega) (by omega) dX0_step_175 (by decide) (fun c_175 => ?_) (fun c_175 => ?_)
                  · exact absurd c_175 (by omega)
                  · refine lv_aload_n hx hb dX0_step_178 rfl (lv_at hl 5 rfl) ?_
                    refine lv_iload_n hx hb dX0_step_179 rfl (lv_at hl 3 rfl) ?_
                    have hFc := va_free (wc := wc_wX hh dd xo xr xn n (nI ip) 0 ct k lo rg me rt) hD hS hA [0, 1, 2, 3, 4, 5, 6] rfl
                    refine va_calli (va_runV (As := [.int (nI (g % 8))]) (rest := [.ref (hh 0)]) ⟨hx, hb, hml, hown, hts⟩ (wc_get l dC dI hh dd s.heap.size xo xr xn n (nI ip) 0 ct k lo rg me rt ro hBk (g % 8) (by omega)) (cwV 1 hts (lw_V q100 q102 qs5 q11 q103) rfl rfl rfl (by decide +kernel) ⟨Nat.le_of_ble_eq_true rfl, Nat.le_of_ble_eq_true rfl⟩) (wc_preV hK hP hD (ci := 0) (q0 := 0) rfl rfl) rfl rfl hl.1 rfl (lv_room (Nat.le_of_ble_eq_true rfl)) dX0_step_180 ⟨Nat.le_of_ble_eq_true rfl, Nat.le_of_ble_eq_true rfl⟩) hS (fun q _ h => hFc q h) hFc (fun r_180 u t H_26 locs ht hvm hw hBw hz1 hk1 hS => ?_)
                    obtain ⟨hq_180, rfl⟩ := hw
                    obtain ⟨hP1, hK1, hD1⟩ := hBw
                    rw [ht] at hP1
                    have hP : va_P (dC, dI) vwCl (wc_wX hh dd xo xr xn n (nI ip) 0 ct k lo rg me rt) H_26 := hP1
                    have hD : va_D A (wc_wX hh dd xo xr xn n (nI ip) 0 ct k lo rg me rt) := hD1.weaken (fun _ q _ h => hFc q.1 h)
                    refine wc_top (show r_180 = ro (4 * k + g % 8) from hq_180) ?_
                    refine lv_if_ne (tgt := 191) hx hb dX0_step_183 (by decide) (fun c_183 => ?_) (fun c_183 => ?_)
                    · refine lv_aload_n hx hb dX0_step_191 rfl (lv_at hl 5 rfl) ?_
                      refine va_get (D := (dC, dI)) (ci := 0) (v := .int (nI ip)) (C := RX0) (T := TX0) (N := 12) hx hb hts in_X0 hown hK hP 0 rfl rfl 4 (by decide) (hts _ q25) (fun _ h9 => h9) rfl dX0_step_192 ?_
                      refine lv_iconst (v := nI 1) hx hb dX0_step_195 (by decide +kernel) ?_
                      refine wc_iadd hx hb (x := ip) (y := 1) dX0_step_196 ?_
                      refine va_put (D := (dC, dI)) (ci := 0) (v := .int (nI (ip + 1))) (ty := .int) (C := RX0) (T := TX0) (N := 12) hx hb hts in_X0 tyX0 tyX0_ok nmX0 hown hK hP hD hS 0 rfl rfl 4 (by decide) (hts _ q25) (fun _ h9 => h9) rfl (by decide +kernel) rfl rfl (Nat.le_of_ble_eq_true rfl) dX0_step_197 (fun H_27 locs hP hD hS => ?_)
                      have hP : va_P (dC, dI) vwCl (wc_wX hh dd xo xr xn n (nI (ip + 1)) 0 ct k lo rg me rt) H_27 := hP
                      have hD : va_D A (wc_wX hh dd xo xr xn n (nI (ip + 1)) 0 ct k lo rg me rt) := hD
                      refine lv_goto (tgt := 247) hx hb dX0_step_200 (by decide) ?_
                      refine lv_iconst (v := 1) hx hb dX0_step_247 (by decide +kernel) ?_
                      exact W.zret (v := 1) hx hb hr rfl (fun t ht hW => ⟨⟨1, (xo, xr, xn, n, nI (ip + 1), 0, ct, k, lo, rg, me, rt), rfl, wc_stP_go hgo (G' := (ro, k, bk, nI (ip + 1), 0)) ((wc_nxt_eq hip0 eo2 ea eb ed ho (by omega) (by omega) (by omega)).trans (wc_nx7b c_183)) hBk hR, by rw [ht]; exact hP, va_K.moved hW.alike hK, hD⟩, hS.F ht⟩) hS.2.2 dX0_step_248
                    · refine lv_iload hx hb dX0_step_186 (lv_at hl 0 rfl) ?_
                      refine lv_goto (tgt := 197) hx hb dX0_step_188 (by decide) ?_
                      refine va_put (D := (dC, dI)) (ci := 0) (v := .int (mn ip)) (ty := .int) (C := RX0) (T := TX0) (N := 12) hx hb hts in_X0 tyX0 tyX0_ok nmX0 hown hK hP hD hS 0 rfl rfl 4 (by decide) (hts _ q25) (fun _ h9 => h9) rfl (by decide +kernel) rfl rfl (Nat.le_of_ble_eq_true rfl) dX0_step_197 (fun H_28 locs hP hD hS => ?_)
                      have hP : va_P (dC, dI) vwCl (wc_wX hh dd xo xr xn n (mn ip) 0 ct k lo rg me rt) H_28 := hP
                      have hD : va_D A (wc_wX hh dd xo xr xn n (mn ip) 0 ct k lo rg me rt) := hD
                      refine lv_goto (tgt := 247) hx hb dX0_step_200 (by decide) ?_
                      refine lv_iconst (v := 1) hx hb dX0_step_247 (by decide +kernel) ?_
                      exact W.zret (v := 1) hx hb hr rfl (fun t ht hW => ⟨⟨1, (xo, xr, xn, n, mn ip, 0, ct, k, lo, rg, me, rt), rfl, wc_stP_go hgo (G' := (ro, k, bk, mn ip, 0)) ((wc_nxt_eq hip0 eo2 ea eb ed ho (by omega) (by omega) (by omega)).trans (wc_nx7a c_183)) hBk hR, by rw [ht]; exact hP, va_K.moved hW.alike hK, hD⟩, hS.F ht⟩) hS.2.2 dX0_step_248
            · exact absurd c_151 (by omega)
        · exact absurd c_114 (by omega)
      · subst c_28
        refine lv_aload_n hx hb dX0_step_31 rfl (lv_at hl 0 rfl) ?_
        refine va_get (D := (dC, dI)) (ci := 0) (v := .int (nI k)) (C := RX0) (T := TX0) (N := 12) hx hb hts in_X0 hown hK hP 0 rfl rfl 7 (by decide) (hts _ q28) (fun _ h9 => h9) rfl dX0_step_32 ?_
        refine lv_iconst (v := nI 1) hx hb dX0_step_35 (by decide +kernel) ?_
        refine wc_iadd hx hb (x := k) (y := 1) dX0_step_36 ?_
        refine lv_bipush (v := nI 30) hx hb dX0_step_37 (by decide +kernel) ?_
        refine wc_icmp_lt (tgt := 49) hx hb (x := k + 1) (y := 30) (by omega) (by omega) dX0_step_39 (by decide) (fun c_39 => ?_) (fun c_39 => ?_)
        · have hgo : wc_go n mo k (nI ip) := wc_go_of hip0 c_4 c_15 eo2 ho (fun _ => by omega)
          refine lv_aload_n hx hb dX0_step_49 rfl (lv_at hl 0 rfl) ?_
          refine va_get (D := (dC, dI)) (ci := 0) (v := .ref (hh 1)) (C := RX0) (T := TX0) (N := 12) hx hb hts in_X0 hown hK hP 0 rfl rfl 0 (by decide) (hts _ q21) (fun _ h9 => h9) rfl dX0_step_50 ?_
          refine lv_aload_n hx hb dX0_step_53 rfl (lv_at hl 0 rfl) ?_
          refine va_get (D := (dC, dI)) (ci := 0) (v := .int (nI ip)) (C := RX0) (T := TX0) (N := 12) hx hb hts in_X0 hown hK hP 0 rfl rfl 4 (by decide) (hts _ q25) (fun _ h9 => h9) rfl dX0_step_54 ?_
          refine wc_bald hx hb hK hP 1 0 rfl rfl (j := ip) (by omega) (by decide) dX0_step_57 ?_
          refine wc_top (show xo ip = nI 5 from eo) ?_
          refine lv_istore_n (lv' := [(1, .int (nI 5)), (0, .ref (hh 0))]) hx hb dX0_step_58 rfl hl (by decide) rfl (fun ls hl => ?_)
          refine lv_aload_n hx hb dX0_step_59 rfl (lv_at hl 1 rfl) ?_
          refine va_get (D := (dC, dI)) (ci := 0) (v := .ref (hh 2)) (C := RX0) (T := TX0) (N := 12) hx hb hts in_X0 hown hK hP 0 rfl rfl 1 (by decide) (hts _ q22) (fun _ h9 => h9) rfl dX0_step_60 ?_
          refine lv_aload_n hx hb dX0_step_63 rfl (lv_at hl 1 rfl) ?_
          refine va_get (D := (dC, dI)) (ci := 0) (v := .int (nI ip)) (C := RX0) (T := TX0) (N := 12) hx hb hts in_X0 hown hK hP 0 rfl rfl 4 (by decide) (hts _ q25) (fun _ h9 => h9) rfl dX0_step_64 ?_
          refine wc_sald hx hb hK hP 2 1 rfl rfl (j := ip) (by omega) (by decide) dX0_step_67 ?_
          refine wc_top (show xr ip = nI g from eg) ?_
          refine lv_bipush (v := nI 7) hx hb dX0_step_68 (by decide +kernel) ?_
          refine lv_iand hx hb dX0_step_70 ?_
          refine wc_top (show nI g &&& nI 7 = nI (g % 8) from wc_ra hg) ?_
          refine lv_istore_n (lv' := [(2, .int (nI (g % 8))), (1, .int (nI 5)), (0, .ref (hh 0))]) hx hb dX0_step_71 rfl hl (by decide) rfl (fun ls hl => ?_)
          refine lv_aload_n hx hb dX0_step_72 rfl (lv_at hl 2 rfl) ?_
          refine va_get (D := (dC, dI)) (ci := 0) (v := .ref (hh 2)) (C := RX0) (T := TX0) (N := 12) hx hb hts in_X0 hown hK hP 0 rfl rfl 1 (by decide) (hts _ q22) (fun _ h9 => h9) rfl dX0_step_73 ?_
          refine lv_aload_n hx hb dX0_step_76 rfl (lv_at hl 2 rfl) ?_
          refine va_get (D := (dC, dI)) (ci := 0) (v := .int (nI ip)) (C := RX0) (T := TX0) (N := 12) hx hb hts in_X0 hown hK hP 0 rfl rfl 4 (by decide) (hts _ q25) (fun _ h9 => h9) rfl dX0_step_77 ?_
          refine wc_sald hx hb hK hP 2 1 rfl rfl (j := ip) (by omega) (by decide) dX0_step_80 ?_
          refine wc_top (show xr ip = nI g from eg) ?_
          refine lv_iconst (v := nI 3) hx hb dX0_step_81 (by decide +kernel) ?_
          refine lv_ishr hx hb dX0_step_82 ?_
          refine lv_bipush (v := nI 7) hx hb dX0_step_83 (by decide +kernel) ?_
          refine lv_iand hx hb dX0_step_85 ?_
          refine wc_top (show (nI g >>> (nI 3 &&& 31)) &&& nI 7 = nI (g / 8 % 8) from wc_rb hg) ?_
          refine lv_istore_n (lv' := [(3, .int (nI (g / 8 % 8))), (2, .int (nI (g % 8))), (1, .int (nI 5)), (0, .ref (hh 0))]) hx hb dX0_step_86 rfl hl (by decide) rfl (fun ls hl => ?_)
          refine lv_aload_n hx hb dX0_step_87 rfl (lv_at hl 3 rfl) ?_
          refine va_get (D := (dC, dI)) (ci := 0) (v := .ref (hh 2)) (C := RX0) (T := TX0) (N := 12) hx hb hts in_X0 hown hK hP 0 rfl rfl 1 (by decide) (hts _ q22) (fun _ h9 => h9) rfl dX0_step_88 ?_
          refine lv_aload_n hx hb dX0_step_91 rfl (lv_at hl 3 rfl) ?_
          refine va_get (D := (dC, dI)) (ci := 0) (v := .int (nI ip)) (C := RX0) (T := TX0) (N := 12) hx hb hts in_X0 hown hK hP 0 rfl rfl 4 (by decide) (hts _ q25) (fun _ h9 => h9) rfl dX0_step_92 ?_
          refine wc_sald hx hb hK hP 2 1 rfl rfl (j := ip) (by omega) (by decide) dX0_step_95 ?_
          refine wc_top (show xr ip = nI g from eg) ?_
          refine lv_bipush (v := nI 6) hx hb dX0_step_96 (by decide +kernel) ?_
          refine lv_ishr hx hb dX0_step_98 ?_
          refine wc_top (show nI g >>> (nI 6 &&& 31) = nI (g / 64) from wc_rd hg) ?_
          refine lv_istore (lv' := [(4, .int (nI (g / 64))), (3, .int (nI (g / 8 % 8))), (2, .int (nI (g % 8))), (1, .int (nI 5)), (0, .ref (hh 0))]) hx hb dX0_step_99 hl (by decide) rfl (fun ls hl => ?_)
          refine lv_aload_n hx hb dX0_step_101 rfl (lv_at hl 4 rfl) ?_
          refine va_get (D := (dC, dI)) (ci := 0) (v := .ref (hh 3)) (C := RX0) (T := TX0) (N := 12) hx hb hts in_X0 hown hK hP 0 rfl rfl 2 (by decide) (hts _ q23) (fun _ h9 => h9) rfl dX0_step_102 ?_
          refine lv_aload_n hx hb dX0_step_105 rfl (lv_at hl 4 rfl) ?_
          refine va_get (D := (dC, dI)) (ci := 0) (v := .int (nI ip)) (C := RX0) (T := TX0) (N := 12) hx hb hts in_X0 hown hK hP 0 rfl rfl 4 (by decide) (hts _ q25) (fun _ h9 => h9) rfl dX0_step_106 ?_
          refine wc_iald hx hb hK hP 3 2 rfl rfl (j := ip) (by omega) (by decide) dX0_step_109 ?_
          refine wc_top (show xn ip = mn ip from en) ?_
          refine lv_istore (lv' := [(5, .int (mn ip)), (4, .int (nI (g / 64))), (3, .int (nI (g / 8 % 8))), (2, .int (nI (g % 8))), (1, .int (nI 5)), (0, .ref (hh 0))]) hx hb dX0_step_110 hl (by decide) rfl (fun ls hl => ?_)
          refine lv_iload_n hx hb dX0_step_112 rfl (lv_at hl 4 rfl) ?_
          refine lv_iconst (v := nI 5) hx hb dX0_step_113 (by decide +kernel) ?_
          refine wc_icmp_ne (tgt := 148) hx hb (x := 5) (y := 5) (by omega) (by omega) dX0_step_114 (by decide) (fun c_114 => ?_) (fun c_114 => ?_)
          · exact absurd c_114 (by omega)
          · refine lv_aload_n hx hb dX0_step_117 rfl (lv_at hl 5 rfl) ?_
            refine va_get (D := (dC, dI)) (ci := 0) (v := .ref (hh 6)) (C := RX0) (T := TX0) (N := 12) hx hb hts in_X0 hown hK hP 0 rfl rfl 11 (by decide) (hts _ q32) (fun _ h9 => h9) rfl dX0_step_118 ?_
            refine lv_aload_n hx hb dX0_step_121 rfl (lv_at hl 5 rfl) ?_
            refine va_get (D := (dC, dI)) (ci := 0) (v := .int (nI k)) (C := RX0) (T := TX0) (N := 12) hx hb hts in_X0 hown hK hP 0 rfl rfl 7 (by decide) (hts _ q28) (fun _ h9 => h9) rfl dX0_step_122 ?_
            refine lv_iconst (v := nI 1) hx hb dX0_step_125 (by decide +kernel) ?_
            refine wc_iadd hx hb (x := k) (y := 1) dX0_step_126 ?_
            refine lv_aload_n hx hb dX0_step_127 rfl (lv_at hl 5 rfl) ?_
            refine va_get (D := (dC, dI)) (ci := 0) (v := .int (nI ip)) (C := RX0) (T := TX0) (N := 12) hx hb hts in_X0 hown hK hP 0 rfl rfl 4 (by decide) (hts _ q25) (fun _ h9 => h9) rfl dX0_step_128 ?_
            refine lv_iconst (v := nI 1) hx hb dX0_step_131 (by decide +kernel) ?_
            refine wc_iadd hx hb (x := ip) (y := 1) dX0_step_132 ?_
            refine lv_i2b (v := nI (ip + 1)) hx hb dX0_step_133 (wc_b8 (ip + 1) (by omega)) ?_
            refine wc_bast hx hb hK hP hD hS 6 5 rfl rfl (j := k + 1) (by omega) (by decide) (wc_n8 (by omega)) dX0_step_134 (fun H_29 locs hP hD hS => ?_)
            have hP : va_P (dC, dI) vwCl (wc_wX hh dd xo xr xn n (nI ip) 0 ct k lo rg me (upd rt (k + 1) (nI (ip + 1)))) H_29 := hP
            have hD : va_D A (wc_wX hh dd xo xr xn n (nI ip) 0 ct k lo rg me (upd rt (k + 1) (nI (ip + 1)))) := hD
            refine lv_aload_n hx hb dX0_step_135 rfl (lv_at hl 5 rfl) ?_
            have hFc := va_free (wc := wc_wX hh dd xo xr xn n (nI ip) 0 ct k lo rg me (upd rt (k + 1) (nI (ip + 1)))) hD hS hA [0, 1, 2, 3, 4, 5, 6] rfl
            refine va_callv (va_runV (As := []) (rest := []) ⟨hx, hb, hml, hown, hts⟩ (wc_enter l dC dI hh dd H_29.size xo xr xn n (nI ip) 0 ct k lo rg me (upd rt (k + 1) (nI (ip + 1))) ro hBk (by omega)) (cwV 0 hts (lw_V q88 q90 qs2 q11 q91) rfl rfl rfl (by decide +kernel) ⟨Nat.le_of_ble_eq_true rfl, Nat.le_of_ble_eq_true rfl⟩) (wc_preV hK hP hD (ci := 0) (q0 := 0) rfl rfl) rfl rfl hl.1 rfl (lv_room (Nat.le_of_ble_eq_true rfl)) dX0_step_136 ⟨Nat.le_of_ble_eq_true rfl, Nat.le_of_ble_eq_true rfl⟩) hS (fun q _ h => hFc q h) hFc (fun u t H_30 locs ht hvm hw hBw hz1 hk1 hS => ?_)
            obtain ⟨lo', rg', me', rfl, hBk'⟩ := hw
            obtain ⟨hP1, hK1, hD1⟩ := hBw
            rw [ht] at hP1
            have hP : va_P (dC, dI) vwCl (wc_wX hh dd xo xr xn n (nI ip) 0 ct (k + 1) lo' rg' me' (upd rt (k + 1) (nI (ip + 1)))) H_30 := hP1
            have hD : va_D A (wc_wX hh dd xo xr xn n (nI ip) 0 ct (k + 1) lo' rg' me' (upd rt (k + 1) (nI (ip + 1)))) := hD1.weaken (fun _ q _ h => hFc q.1 h)
            refine lv_aload_n hx hb dX0_step_139 rfl (lv_at hl 5 rfl) ?_
            refine lv_iload hx hb dX0_step_140 (lv_at hl 0 rfl) ?_
            refine va_put (D := (dC, dI)) (ci := 0) (v := .int (mn ip)) (ty := .int) (C := RX0) (T := TX0) (N := 12) hx hb hts in_X0 tyX0 tyX0_ok nmX0 hown hK hP hD hS 0 rfl rfl 4 (by decide) (hts _ q25) (fun _ h9 => h9) rfl (by decide +kernel) rfl rfl (Nat.le_of_ble_eq_true rfl) dX0_step_142 (fun H_31 locs hP hD hS => ?_)
            have hP : va_P (dC, dI) vwCl (wc_wX hh dd xo xr xn n (mn ip) 0 ct (k + 1) lo' rg' me' (upd rt (k + 1) (nI (ip + 1)))) H_31 := hP
            have hD : va_D A (wc_wX hh dd xo xr xn n (mn ip) 0 ct (k + 1) lo' rg' me' (upd rt (k + 1) (nI (ip + 1)))) := hD
            refine lv_goto (tgt := 247) hx hb dX0_step_145 (by decide) ?_
            refine lv_iconst (v := 1) hx hb dX0_step_247 (by decide +kernel) ?_
            exact W.zret (v := 1) hx hb hr rfl (fun t ht hW => ⟨⟨1, (xo, xr, xn, n, mn ip, 0, ct, k + 1, lo', rg', me', upd rt (k + 1) (nI (ip + 1))), rfl, wc_stP_go hgo (G' := (wc_cl4 ro (4 * (k + 1) + 4), k + 1, upd bk (k + 1) (nI (ip + 1)), mn ip, 0)) (wc_nxt_eq hip0 eo2 ea eb ed ho (by omega) (by omega) (by omega)) hBk' (wc_Ret_push hR (by omega)), by rw [ht]; exact hP, va_K.moved hW.alike hK, hD⟩, hS.F ht⟩) hS.2.2 dX0_step_248
        · refine lv_aload_n hx hb dX0_step_42 rfl (lv_at hl 0 rfl) ?_
          refine lv_iconst (v := 1) hx hb dX0_step_43 (by decide +kernel) ?_
          refine va_put (D := (dC, dI)) (ci := 0) (v := .int 1) (ty := .boolean) (C := RX0) (T := TX0) (N := 12) hx hb hts in_X0 tyX0 tyX0_ok nmX0 hown hK hP hD hS 0 rfl rfl 5 (by decide) (hts _ q26) (fun _ h9 => h9) rfl (by decide +kernel) rfl rfl (Nat.le_of_ble_eq_true rfl) dX0_step_44 (fun H_32 locs hP hD hS => ?_)
          have hP : va_P (dC, dI) vwCl (wc_wX hh dd xo xr xn n (nI ip) 1 ct k lo rg me rt) H_32 := hP
          have hD : va_D A (wc_wX hh dd xo xr xn n (nI ip) 1 ct k lo rg me rt) := hD
          refine lv_iconst (v := 0) hx hb dX0_step_47 (by decide +kernel) ?_
          exact W.zret (v := 0) hx hb hr rfl (fun t ht hW => ⟨⟨0, (xo, xr, xn, n, nI ip, 1, ct, k, lo, rg, me, rt), rfl, wc_stP_out (wc_go_not hip0 eo2 (by omega)), by rw [ht]; exact hP, va_K.moved hW.alike hK, hD⟩, hS.F ht⟩) hS.2.2 dX0_step_48
/-- what a run of WindowedCalls does -/
def wc_ruP (xo xr xn : Nat → Int32) (n : Nat) (ct : Int32) (Z : Nat × wc_G) (r : Int32) (u : wc_SX) : Prop := r = nI Z.1 ∧ ∃ (lo' : Nat) (rg' me' rt' : Nat → Int32), u = (xo, xr, xn, n, Z.2.2.2.2.1, Z.2.2.2.2.2, ct + nI Z.1, Z.2.2.1, lo', rg', me', rt') ∧ wc_Blk Z.2.2.1 lo' rg' me' Z.2.1 ∧ wc_Ret Z.2.2.1 rt' Z.2.2.2.1
theorem wc_ruP_mk {xo xr xn : Nat → Int32} {n : Nat} {ct : Int32} {Z : Nat × wc_G} {j : Nat} {ro : Nat → Int32} {k : Nat} {bk : Nat → Int32} {pa st : Int32} {lo : Nat} {rg me rt : Nat → Int32} (hZ : Z = (j, (ro, k, bk, pa, st))) (h1 : wc_Blk k lo rg me ro) (h2 : wc_Ret k rt bk) : wc_ruP xo xr xn n ct Z (nI j) (xo, xr, xn, n, pa, st, ct + nI j, k, lo, rg, me, rt) := by
  subst hZ
  exact ⟨rfl, lo, rg, me, rt, rfl, h1, h2⟩
theorem wc_rn_j {Z : Nat × wc_G} {j i : Nat} {Y : Nat × wc_G} {g : wc_G} (hZ : Z = (j + Y.1, Y.2)) (hY : Y = (i, g)) : Z = (j + i, g) := by
  rw [hZ, hY]
theorem wc_rn_s {Z : Nat × wc_G} {j : Nat} {Y Y2 : Nat × wc_G} (hZ : Z = (j + Y.1, Y.2)) (hY : Y = (Y2.1 + 1, Y2.2)) : Z = (j + 1 + Y2.1, Y2.2) := by
  rw [hZ, hY]
  exact Prod.ext (by show j + (Y2.1 + 1) = j + 1 + Y2.1; omega) rfl
set_option maxHeartbeats 4000000 in
set_option maxRecDepth 100000 in
/-- run(n) -/
theorem wc_run (l : Launch) (dC : Nat → ClassId) (dI : Nat → Nat → Nat) (hh : Nat → Nat) (dd : Nat → ClassId) (sz : Nat) (xo xr xn : Nat → Int32) (n : Nat) (pa st ct : Int32) (k lo : Nat) (rg me rt : Nat → Int32) (mo ma mb md mn ro bk : Nat → Int32) (hPg : wc_Prog n xo xr xn mo ma mb md mn) (hBk : wc_Blk k lo rg me ro) (hR : wc_Ret k rt bk) (x : Int32) : Met l yX0_run (ws_ yX0_run cX0_run 4 (some .int)) ({ frames := 4, cells := 0, slots := 0, locals := 93 }) (va_Pc [.ref (hh 0), .int x] (wc_pw dC dI (wc_wX hh dd xo xr xn n pa st ct k lo rg me rt) (wc_tX dd) sz)) (va_Qi (wc_ruP xo xr xn n ct (wc_rn n mo ma mb md mn (wc_cnt x) (ro, k, bk, pa, st))) (wc_bX dC dI hh dd (va_A (wc_wX hh dd xo xr xn n pa st ct k lo rg me rt) sz)) (va_A (wc_wX hh dd xo xr xn n pa st ct k lo rg me rt) sz)) 0 0 (va_A (wc_wX hh dd xo xr xn n pa st ct k lo rg me rt) sz) := by
  refine Met.ofW (cc := cX0_run) (maxL := 4) (ret := (some .int)) (by decide) rfl ?_
  intro p e s m args below meth c s₁ B hml hv
  obtain ⟨rfl, hsz, hP, hK, hD0⟩ := hv
  have hx := B.exec
  have hb := B.bytes
  have hr := B.returns
  have hts := atoms_spec (ws := ws_ yX0_run cX0_run 4 (some .int)) B.pre
  have hts : ∀ w ∈ lw_all, w.before _ s = true := fun w h => hts w (List.mem_cons_of_mem _ h)
  have hown : s.vm.findClass RX0 = some m.cls := findClass_of_methodNamed B.named
  have hlocks := B.notSynchronized
  subst hsz
  have hD := hD0.self (sz := s.heap.size)
  generalize hAe : va_A (wc_wX hh dd xo xr xn n pa st ct k lo rg me rt) s.heap.size = A at hD ⊢
  have hA : ∀ q : Nat, s.heap.size ≤ q → A q := fun q h => by rw [← hAe]; exact Or.inr h
  have hS : va_S A s.heap s.heap [] := va_S.rf
  have hP : va_P (dC, dI) vwCl (wc_wX hh dd xo xr xn n pa st ct k lo rg me rt) s.heap := hP
  have hl := lv_entry ([.ref (hh 0), .int x]) (n := 4) (Nat.le_of_ble_eq_true rfl)
  rw [lg_entry_eq]
  generalize (lg_sl ([.ref (hh 0), .int x]) ++ List.replicate (4 - (lg_sl ([.ref (hh 0), .int x])).length) Slot.unset).toArray = ls at hl ⊢
  have hl : lv_has ls 4 [(0, .ref (hh 0)), (1, .int x)] := hl
  generalize hZ : wc_rn n mo ma mb md mn (wc_cnt x) (ro, k, bk, pa, st) = Z
  have loop : ∀ (tm : Nat), tm ≤ 200 → ∀ (f j : Nat) (pa st : Int32) (k lo : Nat) (rg me rt ro bk : Nat → Int32), j + f = tm → Z = (j + (wc_rn n mo ma mb md mn f (ro, k, bk, pa, st)).1, (wc_rn n mo ma mb md mn f (ro, k, bk, pa, st)).2) → wc_Blk k lo rg me ro → wc_Ret k rt bk → ∀ (H : Heap) (locs : List Loc), va_P (dC, dI) vwCl (wc_wX hh dd xo xr xn n pa st ct k lo rg me rt) H → va_D A (wc_wX hh dd xo xr xn n pa st ct k lo rg me rt) → va_S A s.heap H locs → ∀ (ls : Array Slot), lv_has ls 4 [(0, .ref (hh 0)), (2, .int (nI tm)), (3, .int (nI j))] → W p l e (headSpec (ws_ yX0_run cX0_run 4 (some .int)) ({ frames := 4, cells := 0, slots := 0, locals := 93 })).room s m ([.ref (hh 0), .int x] : List Value).toArray below meth c H locs 0 0 (MQ below (va_Qi (wc_ruP xo xr xn n ct Z) (wc_bX dC dI hh dd A) A) ([.ref (hh 0), .int x] : List Value).toArray s 0 0 A) (F0 m 25 ls []) := by
    intro tm htm f
    induction f with
    | zero =>
      intro j pa st k lo rg me rt ro bk hj hZ hBk hR H locs hP hD hS ls hl
      refine lv_iload_n hx hb dX0_run_25 rfl (lv_at hl 2 rfl) ?_
      refine lv_iload_n hx hb dX0_run_26 rfl (lv_at hl 1 rfl) ?_
      refine wc_icmp_ge (tgt := 55) hx hb (x := j) (y := tm) (by omega) (by omega) dX0_run_27 (by decide) (fun c_27 => ?_) (fun c_27 => ?_)
      · refine lv_aload_n hx hb dX0_run_55 rfl (lv_at hl 0 rfl) ?_
        refine lv_dup hx hb dX0_run_56 rfl ?_
        refine va_get (D := (dC, dI)) (ci := 0) (v := .int ct) (C := RX0) (T := TX0) (N := 12) hx hb hts in_X0 hown hK hP 0 rfl rfl 6 (by decide) (hts _ q27) (fun _ h9 => h9) rfl dX0_run_57 ?_
        refine lv_iload_n hx hb dX0_run_60 rfl (lv_at hl 2 rfl) ?_
        refine lv_iadd hx hb dX0_run_61 ?_
        refine va_put (D := (dC, dI)) (ci := 0) (v := .int (ct + nI j)) (ty := .int) (C := RX0) (T := TX0) (N := 12) hx hb hts in_X0 tyX0 tyX0_ok nmX0 hown hK hP hD hS 0 rfl rfl 6 (by decide) (hts _ q27) (fun _ h9 => h9) rfl (by decide +kernel) rfl rfl (Nat.le_of_ble_eq_true rfl) dX0_run_62 (fun H_1 locs hP hD hS => ?_)
        have hP : va_P (dC, dI) vwCl (wc_wX hh dd xo xr xn n pa st (ct + nI j) k lo rg me rt) H_1 := hP
        have hD : va_D A (wc_wX hh dd xo xr xn n pa st (ct + nI j) k lo rg me rt) := hD
        refine lv_iload_n hx hb dX0_run_65 rfl (lv_at hl 2 rfl) ?_
        exact W.iret (v := nI j) hx hb hr (fun t ht hW => ⟨⟨nI j, (xo, xr, xn, n, pa, st, ct + nI j, k, lo, rg, me, rt), rfl, wc_ruP_mk (wc_rn_j hZ wc_rn_0) hBk hR, by rw [ht]; exact hP, va_K.moved hW.alike hK, hD⟩, hS.F ht⟩) hS.2.2 dX0_run_66
      · exact absurd c_27 (by omega)
    | succ f ih =>
      intro j pa st k lo rg me rt ro bk hj hZ hBk hR H locs hP hD hS ls hl
      refine lv_iload_n hx hb dX0_run_25 rfl (lv_at hl 2 rfl) ?_
      refine lv_iload_n hx hb dX0_run_26 rfl (lv_at hl 1 rfl) ?_
      refine wc_icmp_ge (tgt := 55) hx hb (x := j) (y := tm) (by omega) (by omega) dX0_run_27 (by decide) (fun c_27 => ?_) (fun c_27 => ?_)
      · exact absurd c_27 (by omega)
      · refine lv_aload_n hx hb dX0_run_30 rfl (lv_at hl 0 rfl) ?_
        refine va_get (D := (dC, dI)) (ci := 0) (v := .int st) (C := RX0) (T := TX0) (N := 12) hx hb hts in_X0 hown hK hP 0 rfl rfl 5 (by decide) (hts _ q26) (fun _ h9 => h9) rfl dX0_run_31 ?_
        refine lv_if_ne (tgt := 55) hx hb dX0_run_34 (by decide) (fun c_34 => ?_) (fun c_34 => ?_)
        · refine lv_aload_n hx hb dX0_run_55 rfl (lv_at hl 0 rfl) ?_
          refine lv_dup hx hb dX0_run_56 rfl ?_
          refine va_get (D := (dC, dI)) (ci := 0) (v := .int ct) (C := RX0) (T := TX0) (N := 12) hx hb hts in_X0 hown hK hP 0 rfl rfl 6 (by decide) (hts _ q27) (fun _ h9 => h9) rfl dX0_run_57 ?_
          refine lv_iload_n hx hb dX0_run_60 rfl (lv_at hl 2 rfl) ?_
          refine lv_iadd hx hb dX0_run_61 ?_
          refine va_put (D := (dC, dI)) (ci := 0) (v := .int (ct + nI j)) (ty := .int) (C := RX0) (T := TX0) (N := 12) hx hb hts in_X0 tyX0 tyX0_ok nmX0 hown hK hP hD hS 0 rfl rfl 6 (by decide) (hts _ q27) (fun _ h9 => h9) rfl (by decide +kernel) rfl rfl (Nat.le_of_ble_eq_true rfl) dX0_run_62 (fun H_2 locs hP hD hS => ?_)
          have hP : va_P (dC, dI) vwCl (wc_wX hh dd xo xr xn n pa st (ct + nI j) k lo rg me rt) H_2 := hP
          have hD : va_D A (wc_wX hh dd xo xr xn n pa st (ct + nI j) k lo rg me rt) := hD
          refine lv_iload_n hx hb dX0_run_65 rfl (lv_at hl 2 rfl) ?_
          exact W.iret (v := nI j) hx hb hr (fun t ht hW => ⟨⟨nI j, (xo, xr, xn, n, pa, st, ct + nI j, k, lo, rg, me, rt), rfl, wc_ruP_mk (wc_rn_j hZ (wc_rn_stop c_34)) hBk hR, by rw [ht]; exact hP, va_K.moved hW.alike hK, hD⟩, hS.F ht⟩) hS.2.2 dX0_run_66
        · subst c_34
          refine lv_iload_n hx hb dX0_run_37 rfl (lv_at hl 2 rfl) ?_
          refine lv_aload_n hx hb dX0_run_38 rfl (lv_at hl 0 rfl) ?_
          by_cases hgo : wc_go n mo k pa
          · have hFc := va_free (wc := wc_wX hh dd xo xr xn n pa 0 ct k lo rg me rt) hD hS hA [0, 1, 2, 3, 4, 5, 6] rfl
            refine va_calli (va_runV (As := []) (rest := [.int (nI j)]) ⟨hx, hb, hml, hown, hts⟩ (wc_step l dC dI hh dd H.size xo xr xn n pa ct k lo rg me rt mo ma mb md mn ro bk hPg hBk hR) (cwV 0 hts (lw_V q84 q86 qs1 q11 q87) rfl rfl rfl (by decide +kernel) ⟨Nat.le_of_ble_eq_true rfl, Nat.le_of_ble_eq_true rfl⟩) (wc_preV hK hP hD (ci := 0) (q0 := 0) rfl rfl) rfl rfl hl.1 rfl (lv_room (Nat.le_of_ble_eq_true rfl)) dX0_run_39 ⟨Nat.le_of_ble_eq_true rfl, Nat.le_of_ble_eq_true rfl⟩) hS (fun q _ h => hFc q h) hFc (fun r_39 u t H_3 locs ht hvm hw hBw hz1 hk1 hS => ?_)
            obtain ⟨hr1, lo', rg', me', rt', rfl, hBk', hR'⟩ := hw.1 hgo
            obtain ⟨hP1, hK1, hD1⟩ := hBw
            rw [ht] at hP1
            have hP : va_P (dC, dI) vwCl (wc_wX hh dd xo xr xn n ((wc_nxt mo ma mb md mn ro k bk pa).2.2.2.1) ((wc_nxt mo ma mb md mn ro k bk pa).2.2.2.2) ct ((wc_nxt mo ma mb md mn ro k bk pa).2.1) lo' rg' me' rt') H_3 := hP1
            have hD : va_D A (wc_wX hh dd xo xr xn n ((wc_nxt mo ma mb md mn ro k bk pa).2.2.2.1) ((wc_nxt mo ma mb md mn ro k bk pa).2.2.2.2) ct ((wc_nxt mo ma mb md mn ro k bk pa).2.1) lo' rg' me' rt') := hD1.weaken (fun _ q _ h => hFc q.1 h)
            refine wc_top (show r_39 = 1 from hr1) ?_
            refine lv_if_eq (tgt := 49) hx hb dX0_run_42 (by decide) (fun c_42 => ?_) (fun c_42 => ?_)
            · exact absurd c_42 (by decide)
            · refine lv_iconst (v := nI 1) hx hb dX0_run_45 (by decide +kernel) ?_
              refine lv_goto (tgt := 50) hx hb dX0_run_46 (by decide) ?_
              refine wc_iadd hx hb (x := j) (y := 1) dX0_run_50 ?_
              refine lv_istore_n (lv' := [(3, .int (nI (j + 1))), (0, .ref (hh 0)), (2, .int (nI tm))]) hx hb dX0_run_51 rfl hl (by decide) rfl (fun ls hl => ?_)
              refine lv_goto (tgt := 25) hx hb dX0_run_52 (by decide) ?_
              exact ih (j + 1) (wc_nxt mo ma mb md mn ro k bk pa).2.2.2.1 (wc_nxt mo ma mb md mn ro k bk pa).2.2.2.2 (wc_nxt mo ma mb md mn ro k bk pa).2.1 lo' rg' me' rt' (wc_nxt mo ma mb md mn ro k bk pa).1 (wc_nxt mo ma mb md mn ro k bk pa).2.2.1 (by omega) (wc_rn_s hZ (wc_rn_go rfl hgo)) hBk' hR' _ _ hP hD hS ls (lv_sub hl [1, 2, 0] rfl)
          · have hFc := va_free (wc := wc_wX hh dd xo xr xn n pa 0 ct k lo rg me rt) hD hS hA [0, 1, 2, 3, 4, 5, 6] rfl
            refine va_calli (va_runV (As := []) (rest := [.int (nI j)]) ⟨hx, hb, hml, hown, hts⟩ (wc_step l dC dI hh dd H.size xo xr xn n pa ct k lo rg me rt mo ma mb md mn ro bk hPg hBk hR) (cwV 0 hts (lw_V q84 q86 qs1 q11 q87) rfl rfl rfl (by decide +kernel) ⟨Nat.le_of_ble_eq_true rfl, Nat.le_of_ble_eq_true rfl⟩) (wc_preV hK hP hD (ci := 0) (q0 := 0) rfl rfl) rfl rfl hl.1 rfl (lv_room (Nat.le_of_ble_eq_true rfl)) dX0_run_39 ⟨Nat.le_of_ble_eq_true rfl, Nat.le_of_ble_eq_true rfl⟩) hS (fun q _ h => hFc q h) hFc (fun r_39 u t H_4 locs ht hvm hw hBw hz1 hk1 hS => ?_)
            obtain ⟨hr1, rfl⟩ := hw.2 hgo
            obtain ⟨hP1, hK1, hD1⟩ := hBw
            rw [ht] at hP1
            have hP : va_P (dC, dI) vwCl (wc_wX hh dd xo xr xn n pa 1 ct k lo rg me rt) H_4 := hP1
            have hD : va_D A (wc_wX hh dd xo xr xn n pa 1 ct k lo rg me rt) := hD1.weaken (fun _ q _ h => hFc q.1 h)
            refine wc_top (show r_39 = 0 from hr1) ?_
            refine lv_if_eq (tgt := 49) hx hb dX0_run_42 (by decide) (fun c_42 => ?_) (fun c_42 => ?_)
            · refine lv_iconst (v := nI 0) hx hb dX0_run_49 (by decide +kernel) ?_
              refine wc_iadd hx hb (x := j) (y := 0) dX0_run_50 ?_
              refine lv_istore_n (lv' := [(3, .int (nI (j + 0))), (0, .ref (hh 0)), (2, .int (nI tm))]) hx hb dX0_run_51 rfl hl (by decide) rfl (fun ls hl => ?_)
              refine lv_goto (tgt := 25) hx hb dX0_run_52 (by decide) ?_
              refine lv_iload_n hx hb dX0_run_25 rfl (lv_at hl 0 rfl) ?_
              refine lv_iload_n hx hb dX0_run_26 rfl (lv_at hl 2 rfl) ?_
              refine wc_icmp_ge (tgt := 55) hx hb (x := j + 0) (y := tm) (by omega) (by omega) dX0_run_27 (by decide) (fun c_27 => ?_) (fun c_27 => ?_)
              · exact absurd c_27 (by omega)
              · refine lv_aload_n hx hb dX0_run_30 rfl (lv_at hl 1 rfl) ?_
                refine va_get (D := (dC, dI)) (ci := 0) (v := .int 1) (C := RX0) (T := TX0) (N := 12) hx hb hts in_X0 hown hK hP 0 rfl rfl 5 (by decide) (hts _ q26) (fun _ h9 => h9) rfl dX0_run_31 ?_
                refine lv_if_ne (tgt := 55) hx hb dX0_run_34 (by decide) (fun c_34 => ?_) (fun c_34 => ?_)
                · refine lv_aload_n hx hb dX0_run_55 rfl (lv_at hl 1 rfl) ?_
                  refine lv_dup hx hb dX0_run_56 rfl ?_
                  refine va_get (D := (dC, dI)) (ci := 0) (v := .int ct) (C := RX0) (T := TX0) (N := 12) hx hb hts in_X0 hown hK hP 0 rfl rfl 6 (by decide) (hts _ q27) (fun _ h9 => h9) rfl dX0_run_57 ?_
                  refine lv_iload_n hx hb dX0_run_60 rfl (lv_at hl 0 rfl) ?_
                  refine lv_iadd hx hb dX0_run_61 ?_
                  refine va_put (D := (dC, dI)) (ci := 0) (v := .int (ct + nI (j + 0))) (ty := .int) (C := RX0) (T := TX0) (N := 12) hx hb hts in_X0 tyX0 tyX0_ok nmX0 hown hK hP hD hS 0 rfl rfl 6 (by decide) (hts _ q27) (fun _ h9 => h9) rfl (by decide +kernel) rfl rfl (Nat.le_of_ble_eq_true rfl) dX0_run_62 (fun H_5 locs hP hD hS => ?_)
                  have hP : va_P (dC, dI) vwCl (wc_wX hh dd xo xr xn n pa 1 (ct + nI (j + 0)) k lo rg me rt) H_5 := hP
                  have hD : va_D A (wc_wX hh dd xo xr xn n pa 1 (ct + nI (j + 0)) k lo rg me rt) := hD
                  refine lv_iload_n hx hb dX0_run_65 rfl (lv_at hl 0 rfl) ?_
                  exact W.iret (v := nI (j + 0)) hx hb hr (fun t ht hW => ⟨⟨nI (j + 0), (xo, xr, xn, n, pa, 1, ct + nI (j + 0), k, lo, rg, me, rt), rfl, wc_ruP_mk (wc_rn_j hZ (wc_rn_out rfl hgo)) hBk hR, by rw [ht]; exact hP, va_K.moved hW.alike hK, hD⟩, hS.F ht⟩) hS.2.2 dX0_run_66
                · exact absurd c_34 (by decide)
            · exact absurd rfl c_42
  refine lv_iload_n hx hb dX0_run_0 rfl (lv_at hl 1 rfl) ?_
  refine lv_if_ge (tgt := 8) hx hb dX0_run_1 (by decide) (fun c_1 => ?_) (fun c_1 => ?_)
  · refine lv_iload_n hx hb dX0_run_8 rfl (lv_at hl 1 rfl) ?_
    refine lv_sipush (v := nI 200) hx hb dX0_run_9 (by decide +kernel) ?_
    refine lv_icmp_le (tgt := 21) hx hb dX0_run_12 (by decide) (fun c_12 => ?_) (fun c_12 => ?_)
    · obtain ⟨j0, hj0, rfl⟩ := nI_of (Int32.not_lt.mpr c_1)
      have hj2 : j0 ≤ 200 := (nI_leI hj0 (by omega)).mp c_12
      refine lv_iload_n hx hb dX0_run_21 rfl (lv_at hl 1 rfl) ?_
      refine lv_istore_n (lv' := [(2, .int (nI j0)), (0, .ref (hh 0)), (1, .int (nI j0))]) hx hb dX0_run_22 rfl hl (by decide) rfl (fun ls hl => ?_)
      refine lv_iconst (v := nI 0) hx hb dX0_run_23 (by decide +kernel) ?_
      refine lv_istore_n (lv' := [(3, .int (nI 0)), (2, .int (nI j0)), (0, .ref (hh 0)), (1, .int (nI j0))]) hx hb dX0_run_24 rfl hl (by decide) rfl (fun ls hl => ?_)
      exact loop j0 hj2 j0 0 pa st k lo rg me rt ro bk (by omega) (by rw [← hZ, wc_cnt2 hj0 hj2, Nat.zero_add]) hBk hR _ _ hP hD hS ls (lv_sub hl [2, 1, 0] rfl)
    · refine lv_sipush (v := nI 200) hx hb dX0_run_15 (by decide +kernel) ?_
      refine lv_goto (tgt := 22) hx hb dX0_run_18 (by decide) ?_
      refine lv_istore_n (lv' := [(2, .int (nI 200)), (0, .ref (hh 0)), (1, .int x)]) hx hb dX0_run_22 rfl hl (by decide) rfl (fun ls hl => ?_)
      refine lv_iconst (v := nI 0) hx hb dX0_run_23 (by decide +kernel) ?_
      refine lv_istore_n (lv' := [(3, .int (nI 0)), (2, .int (nI 200)), (0, .ref (hh 0)), (1, .int x)]) hx hb dX0_run_24 rfl hl (by decide) rfl (fun ls hl => ?_)
      exact loop 200 (by omega) 200 0 pa st k lo rg me rt ro bk (by omega) (by rw [← hZ, wc_cnt3 (Int32.not_lt.mpr c_1) c_12, Nat.zero_add]) hBk hR _ _ hP hD hS ls (lv_sub hl [2, 1, 0] rfl)
  · refine lv_iconst (v := nI 0) hx hb dX0_run_4 (by decide +kernel) ?_
    refine lv_goto (tgt := 22) hx hb dX0_run_5 (by decide) ?_
    refine lv_istore_n (lv' := [(2, .int (nI 0)), (0, .ref (hh 0)), (1, .int x)]) hx hb dX0_run_22 rfl hl (by decide) rfl (fun ls hl => ?_)
    refine lv_iconst (v := nI 0) hx hb dX0_run_23 (by decide +kernel) ?_
    refine lv_istore_n (lv' := [(3, .int (nI 0)), (2, .int (nI 0)), (0, .ref (hh 0)), (1, .int x)]) hx hb dX0_run_24 rfl hl (by decide) rfl (fun ls hl => ?_)
    exact loop 0 (by omega) 0 0 pa st k lo rg me rt ro bk (by omega) (by rw [← hZ, wc_cnt1 (Int32.not_le.mp c_1), Nat.zero_add]) hBk hR _ _ hP hD hS ls (lv_sub hl [2, 1, 0] rfl)
end
section
/-! WindowedCallsModel: all but step and run -/
set_option maxHeartbeats 4000000 in
set_option maxRecDepth 100000 in
/-- isRegister(r) of the model -/
theorem wc_mIsRegister (l : Launch) (sz h0 : Nat) (x : Int32) : Met l yX1_isRegister (ws_ yX1_isRegister cX1_isRegister 2 (some .boolean)) ({ frames := 0, cells := 0, slots := 0, locals := 0 }) (va_Pc [.ref h0, .int x] (fun U => U.heap.size = sz)) (va_Qi (fun (r : Int32) (_ : Unit) => r = wc_isr x) (fun _ _ => True) (va_A [] sz)) 0 0 (va_A [] sz) := by
  refine Met.ofW (cc := cX1_isRegister) (maxL := 2) (ret := (some .boolean)) (by decide) rfl ?_
  intro p e s m args below meth c s₁ B hml hv
  obtain ⟨rfl, hsz⟩ := hv
  have hx := B.exec
  have hb := B.bytes
  have hr := B.returns
  have hts := atoms_spec (ws := ws_ yX1_isRegister cX1_isRegister 2 (some .boolean)) B.pre
  have hts : ∀ w ∈ lw_all, w.before _ s = true := fun w h => hts w (List.mem_cons_of_mem _ h)
  have hown : s.vm.findClass RX1 = some m.cls := findClass_of_methodNamed B.named
  have hlocks := B.notSynchronized
  subst hsz
  generalize hAe : va_A [] s.heap.size = A
  have hA : ∀ q : Nat, s.heap.size ≤ q → A q := fun q h => by rw [← hAe]; exact Or.inr h
  have hS : va_S A s.heap s.heap [] := va_S.rf
  have hl := lv_entry ([.ref h0, .int x]) (n := 2) (Nat.le_of_ble_eq_true rfl)
  rw [lg_entry_eq]
  generalize (lg_sl ([.ref h0, .int x]) ++ List.replicate (2 - (lg_sl ([.ref h0, .int x])).length) Slot.unset).toArray = ls at hl ⊢
  have hl : lv_has ls 2 [(0, .ref h0), (1, .int x)] := hl
  refine lv_iload_n hx hb dX1_isRegister_0 rfl (lv_at hl 1 rfl) ?_
  refine lv_if_lt (tgt := 14) hx hb dX1_isRegister_1 (by decide) (fun c_1 => ?_) (fun c_1 => ?_)
  · refine lv_iconst (v := 0) hx hb dX1_isRegister_14 (by decide +kernel) ?_
    exact W.zret (v := 0) hx hb hr rfl (fun t ht hW => ⟨⟨0, (), rfl, (if_neg (fun h => h.1 c_1)).symm, trivial⟩, hS.F ht⟩) hS.2.2 dX1_isRegister_15
  · refine lv_iload_n hx hb dX1_isRegister_4 rfl (lv_at hl 1 rfl) ?_
    refine lv_bipush (v := nI 7) hx hb dX1_isRegister_5 (by decide +kernel) ?_
    refine lv_icmp_gt (tgt := 14) hx hb dX1_isRegister_7 (by decide) (fun c_7 => ?_) (fun c_7 => ?_)
    · refine lv_iconst (v := 0) hx hb dX1_isRegister_14 (by decide +kernel) ?_
      exact W.zret (v := 0) hx hb hr rfl (fun t ht hW => ⟨⟨0, (), rfl, (if_neg (fun h => (wc_78 x).mp h.2 c_7)).symm, trivial⟩, hS.F ht⟩) hS.2.2 dX1_isRegister_15
    · refine lv_iconst (v := 1) hx hb dX1_isRegister_10 (by decide +kernel) ?_
      refine lv_goto (tgt := 15) hx hb dX1_isRegister_11 (by decide) ?_
      exact W.zret (v := 1) hx hb hr rfl (fun t ht hW => ⟨⟨1, (), rfl, (if_pos ⟨c_1, (wc_78 x).mpr c_7⟩).symm, trivial⟩, hS.F ht⟩) hS.2.2 dX1_isRegister_15
set_option maxHeartbeats 4000000 in
set_option maxRecDepth 100000 in
/-- halted() of the model -/
theorem wc_mHalted (l : Launch) (dC : Nat → ClassId) (dI : Nat → Nat → Nat) (hh : Nat → Nat) (dd : Nat → ClassId) (sz : Nat) (n : Nat) (mo ma mb md mn ro : Nat → Int32) (k : Nat) (bk : Nat → Int32) (pa ov ca : Int32) (hov : ov = 0 ∨ ov = 1) : Met l yX1_halted (ws_ yX1_halted cX1_halted 1 (some .boolean)) ({ frames := 0, cells := 0, slots := 0, locals := 0 }) (va_Pc [.ref (hh 0)] (wc_pw dC dI (wc_wM hh dd n mo ma mb md mn ro k bk pa ov ca) (wc_tM dd) sz)) (va_Qi (fun (r : Int32) (u : wc_SM) => r = ov ∧ u = (n, mo, ma, mb, md, mn, ro, k, bk, pa, ov, ca)) (wc_bM dC dI hh dd (va_A (wc_wM hh dd n mo ma mb md mn ro k bk pa ov ca) sz)) (va_A (wc_wM hh dd n mo ma mb md mn ro k bk pa ov ca) sz)) 0 0 (va_A (wc_wM hh dd n mo ma mb md mn ro k bk pa ov ca) sz) := by
  refine Met.ofW (cc := cX1_halted) (maxL := 1) (ret := (some .boolean)) (by decide) rfl ?_
  intro p e s m args below meth c s₁ B hml hv
  obtain ⟨rfl, hsz, hP, hK, hD0⟩ := hv
  have hx := B.exec
  have hb := B.bytes
  have hr := B.returns
  have hts := atoms_spec (ws := ws_ yX1_halted cX1_halted 1 (some .boolean)) B.pre
  have hts : ∀ w ∈ lw_all, w.before _ s = true := fun w h => hts w (List.mem_cons_of_mem _ h)
  have hown : s.vm.findClass RX1 = some m.cls := findClass_of_methodNamed B.named
  have hlocks := B.notSynchronized
  subst hsz
  have hD := hD0.self (sz := s.heap.size)
  generalize hAe : va_A (wc_wM hh dd n mo ma mb md mn ro k bk pa ov ca) s.heap.size = A at hD ⊢
  have hA : ∀ q : Nat, s.heap.size ≤ q → A q := fun q h => by rw [← hAe]; exact Or.inr h
  have hS : va_S A s.heap s.heap [] := va_S.rf
  have hP : va_P (dC, dI) vwCl (wc_wM hh dd n mo ma mb md mn ro k bk pa ov ca) s.heap := hP
  have hl := lv_entry ([.ref (hh 0)]) (n := 1) (Nat.le_of_ble_eq_true rfl)
  rw [lg_entry_eq]
  generalize (lg_sl ([.ref (hh 0)]) ++ List.replicate (1 - (lg_sl ([.ref (hh 0)])).length) Slot.unset).toArray = ls at hl ⊢
  have hl : lv_has ls 1 [(0, .ref (hh 0))] := hl
  refine lv_aload_n hx hb dX1_halted_0 rfl (lv_at hl 0 rfl) ?_
  refine va_get (D := (dC, dI)) (ci := 1) (v := .int ov) (C := RX1) (T := TX1) (N := 12) hx hb hts in_X1 hown hK hP 0 rfl rfl 10 (by decide) (hts _ q173) (fun _ h9 => h9) rfl dX1_halted_1 ?_
  exact W.zret (v := ov) hx hb hr (by rcases hov with h | h <;> rw [h] <;> rfl) (fun t ht hW => ⟨⟨ov, (n, mo, ma, mb, md, mn, ro, k, bk, pa, ov, ca), rfl, ⟨rfl, rfl⟩, by rw [ht]; exact hP, va_K.moved hW.alike hK, hD⟩, hS.F ht⟩) hS.2.2 dX1_halted_4
set_option maxHeartbeats 4000000 in
set_option maxRecDepth 100000 in
/-- position() of the model -/
theorem wc_mPosition (l : Launch) (dC : Nat → ClassId) (dI : Nat → Nat → Nat) (hh : Nat → Nat) (dd : Nat → ClassId) (sz : Nat) (n : Nat) (mo ma mb md mn ro : Nat → Int32) (k : Nat) (bk : Nat → Int32) (pa ov ca : Int32) : Met l yX1_position (ws_ yX1_position cX1_position 1 (some .int)) ({ frames := 0, cells := 0, slots := 0, locals := 0 }) (va_Pc [.ref (hh 0)] (wc_pw dC dI (wc_wM hh dd n mo ma mb md mn ro k bk pa ov ca) (wc_tM dd) sz)) (va_Qi (fun (r : Int32) (u : wc_SM) => r = pa ∧ u = (n, mo, ma, mb, md, mn, ro, k, bk, pa, ov, ca)) (wc_bM dC dI hh dd (va_A (wc_wM hh dd n mo ma mb md mn ro k bk pa ov ca) sz)) (va_A (wc_wM hh dd n mo ma mb md mn ro k bk pa ov ca) sz)) 0 0 (va_A (wc_wM hh dd n mo ma mb md mn ro k bk pa ov ca) sz) := by
  refine Met.ofW (cc := cX1_position) (maxL := 1) (ret := (some .int)) (by decide) rfl ?_
  intro p e s m args below meth c s₁ B hml hv
  obtain ⟨rfl, hsz, hP, hK, hD0⟩ := hv
  have hx := B.exec
  have hb := B.bytes
  have hr := B.returns
  have hts := atoms_spec (ws := ws_ yX1_position cX1_position 1 (some .int)) B.pre
  have hts : ∀ w ∈ lw_all, w.before _ s = true := fun w h => hts w (List.mem_cons_of_mem _ h)
  have hown : s.vm.findClass RX1 = some m.cls := findClass_of_methodNamed B.named
  have hlocks := B.notSynchronized
  subst hsz
  have hD := hD0.self (sz := s.heap.size)
  generalize hAe : va_A (wc_wM hh dd n mo ma mb md mn ro k bk pa ov ca) s.heap.size = A at hD ⊢
  have hA : ∀ q : Nat, s.heap.size ≤ q → A q := fun q h => by rw [← hAe]; exact Or.inr h
  have hS : va_S A s.heap s.heap [] := va_S.rf
  have hP : va_P (dC, dI) vwCl (wc_wM hh dd n mo ma mb md mn ro k bk pa ov ca) s.heap := hP
  have hl := lv_entry ([.ref (hh 0)]) (n := 1) (Nat.le_of_ble_eq_true rfl)
  rw [lg_entry_eq]
  generalize (lg_sl ([.ref (hh 0)]) ++ List.replicate (1 - (lg_sl ([.ref (hh 0)])).length) Slot.unset).toArray = ls at hl ⊢
  have hl : lv_has ls 1 [(0, .ref (hh 0))] := hl
  refine lv_aload_n hx hb dX1_position_0 rfl (lv_at hl 0 rfl) ?_
  refine va_get (D := (dC, dI)) (ci := 1) (v := .int pa) (C := RX1) (T := TX1) (N := 12) hx hb hts in_X1 hown hK hP 0 rfl rfl 9 (by decide) (hts _ q172) (fun _ h9 => h9) rfl dX1_position_1 ?_
  exact W.iret (v := pa) hx hb hr (fun t ht hW => ⟨⟨pa, (n, mo, ma, mb, md, mn, ro, k, bk, pa, ov, ca), rfl, ⟨rfl, rfl⟩, by rw [ht]; exact hP, va_K.moved hW.alike hK, hD⟩, hS.F ht⟩) hS.2.2 dX1_position_4
set_option maxHeartbeats 4000000 in
set_option maxRecDepth 100000 in
/-- depth() of the model -/
theorem wc_mDepth (l : Launch) (dC : Nat → ClassId) (dI : Nat → Nat → Nat) (hh : Nat → Nat) (dd : Nat → ClassId) (sz : Nat) (n : Nat) (mo ma mb md mn ro : Nat → Int32) (k : Nat) (bk : Nat → Int32) (pa ov ca : Int32) : Met l yX1_depth (ws_ yX1_depth cX1_depth 1 (some .int)) ({ frames := 0, cells := 0, slots := 0, locals := 0 }) (va_Pc [.ref (hh 0)] (wc_pw dC dI (wc_wM hh dd n mo ma mb md mn ro k bk pa ov ca) (wc_tM dd) sz)) (va_Qi (fun (r : Int32) (u : wc_SM) => r = nI (k + 1) ∧ u = (n, mo, ma, mb, md, mn, ro, k, bk, pa, ov, ca)) (wc_bM dC dI hh dd (va_A (wc_wM hh dd n mo ma mb md mn ro k bk pa ov ca) sz)) (va_A (wc_wM hh dd n mo ma mb md mn ro k bk pa ov ca) sz)) 0 0 (va_A (wc_wM hh dd n mo ma mb md mn ro k bk pa ov ca) sz) := by
  refine Met.ofW (cc := cX1_depth) (maxL := 1) (ret := (some .int)) (by decide) rfl ?_
  intro p e s m args below meth c s₁ B hml hv
  obtain ⟨rfl, hsz, hP, hK, hD0⟩ := hv
  have hx := B.exec
  have hb := B.bytes
  have hr := B.returns
  have hts := atoms_spec (ws := ws_ yX1_depth cX1_depth 1 (some .int)) B.pre
  have hts : ∀ w ∈ lw_all, w.before _ s = true := fun w h => hts w (List.mem_cons_of_mem _ h)
  have hown : s.vm.findClass RX1 = some m.cls := findClass_of_methodNamed B.named
  have hlocks := B.notSynchronized
  subst hsz
  have hD := hD0.self (sz := s.heap.size)
  generalize hAe : va_A (wc_wM hh dd n mo ma mb md mn ro k bk pa ov ca) s.heap.size = A at hD ⊢
  have hA : ∀ q : Nat, s.heap.size ≤ q → A q := fun q h => by rw [← hAe]; exact Or.inr h
  have hS : va_S A s.heap s.heap [] := va_S.rf
  have hP : va_P (dC, dI) vwCl (wc_wM hh dd n mo ma mb md mn ro k bk pa ov ca) s.heap := hP
  have hl := lv_entry ([.ref (hh 0)]) (n := 1) (Nat.le_of_ble_eq_true rfl)
  rw [lg_entry_eq]
  generalize (lg_sl ([.ref (hh 0)]) ++ List.replicate (1 - (lg_sl ([.ref (hh 0)])).length) Slot.unset).toArray = ls at hl ⊢
  have hl : lv_has ls 1 [(0, .ref (hh 0))] := hl
  refine lv_aload_n hx hb dX1_depth_0 rfl (lv_at hl 0 rfl) ?_
  refine va_get (D := (dC, dI)) (ci := 1) (v := .int (nI k)) (C := RX1) (T := TX1) (N := 12) hx hb hts in_X1 hown hK hP 0 rfl rfl 7 (by decide) (hts _ q170) (fun _ h9 => h9) rfl dX1_depth_1 ?_
  refine lv_iconst (v := nI 1) hx hb dX1_depth_4 (by decide +kernel) ?_
  refine wc_iadd hx hb (x := k) (y := 1) dX1_depth_5 ?_
  exact W.iret (v := nI (k + 1)) hx hb hr (fun t ht hW => ⟨⟨nI (k + 1), (n, mo, ma, mb, md, mn, ro, k, bk, pa, ov, ca), rfl, ⟨rfl, rfl⟩, by rw [ht]; exact hP, va_K.moved hW.alike hK, hD⟩, hS.F ht⟩) hS.2.2 dX1_depth_6
set_option maxHeartbeats 4000000 in
set_option maxRecDepth 100000 in
/-- done() of the model -/
theorem wc_mDone (l : Launch) (dC : Nat → ClassId) (dI : Nat → Nat → Nat) (hh : Nat → Nat) (dd : Nat → ClassId) (sz : Nat) (n : Nat) (mo ma mb md mn ro : Nat → Int32) (k : Nat) (bk : Nat → Int32) (pa ov ca : Int32) : Met l yX1_done (ws_ yX1_done cX1_done 1 (some .int)) ({ frames := 0, cells := 0, slots := 0, locals := 0 }) (va_Pc [.ref (hh 0)] (wc_pw dC dI (wc_wM hh dd n mo ma mb md mn ro k bk pa ov ca) (wc_tM dd) sz)) (va_Qi (fun (r : Int32) (u : wc_SM) => r = ca ∧ u = (n, mo, ma, mb, md, mn, ro, k, bk, pa, ov, ca)) (wc_bM dC dI hh dd (va_A (wc_wM hh dd n mo ma mb md mn ro k bk pa ov ca) sz)) (va_A (wc_wM hh dd n mo ma mb md mn ro k bk pa ov ca) sz)) 0 0 (va_A (wc_wM hh dd n mo ma mb md mn ro k bk pa ov ca) sz) := by
  refine Met.ofW (cc := cX1_done) (maxL := 1) (ret := (some .int)) (by decide) rfl ?_
  intro p e s m args below meth c s₁ B hml hv
  obtain ⟨rfl, hsz, hP, hK, hD0⟩ := hv
  have hx := B.exec
  have hb := B.bytes
  have hr := B.returns
  have hts := atoms_spec (ws := ws_ yX1_done cX1_done 1 (some .int)) B.pre
  have hts : ∀ w ∈ lw_all, w.before _ s = true := fun w h => hts w (List.mem_cons_of_mem _ h)
  have hown : s.vm.findClass RX1 = some m.cls := findClass_of_methodNamed B.named
  have hlocks := B.notSynchronized
  subst hsz
  have hD := hD0.self (sz := s.heap.size)
  generalize hAe : va_A (wc_wM hh dd n mo ma mb md mn ro k bk pa ov ca) s.heap.size = A at hD ⊢
  have hA : ∀ q : Nat, s.heap.size ≤ q → A q := fun q h => by rw [← hAe]; exact Or.inr h
  have hS : va_S A s.heap s.heap [] := va_S.rf
  have hP : va_P (dC, dI) vwCl (wc_wM hh dd n mo ma mb md mn ro k bk pa ov ca) s.heap := hP
  have hl := lv_entry ([.ref (hh 0)]) (n := 1) (Nat.le_of_ble_eq_true rfl)
  rw [lg_entry_eq]
  generalize (lg_sl ([.ref (hh 0)]) ++ List.replicate (1 - (lg_sl ([.ref (hh 0)])).length) Slot.unset).toArray = ls at hl ⊢
  have hl : lv_has ls 1 [(0, .ref (hh 0))] := hl
  refine lv_aload_n hx hb dX1_done_0 rfl (lv_at hl 0 rfl) ?_
  refine va_get (D := (dC, dI)) (ci := 1) (v := .int ca) (C := RX1) (T := TX1) (N := 12) hx hb hts in_X1 hown hK hP 0 rfl rfl 11 (by decide) (hts _ q174) (fun _ h9 => h9) rfl dX1_done_1 ?_
  exact W.iret (v := ca) hx hb hr (fun t ht hW => ⟨⟨ca, (n, mo, ma, mb, md, mn, ro, k, bk, pa, ov, ca), rfl, ⟨rfl, rfl⟩, by rw [ht]; exact hP, va_K.moved hW.alike hK, hD⟩, hS.F ht⟩) hS.2.2 dX1_done_4
set_option maxHeartbeats 4000000 in
set_option maxRecDepth 100000 in
/-- drop() of the model -/
theorem wc_mDrop (l : Launch) (dC : Nat → ClassId) (dI : Nat → Nat → Nat) (hh : Nat → Nat) (dd : Nat → ClassId) (sz : Nat) (n : Nat) (mo ma mb md mn ro : Nat → Int32) (k : Nat) (bk : Nat → Int32) (pa ov ca : Int32) (hn : n ≤ 24) : Met l yX1_drop (ws_ yX1_drop cX1_drop 1 (some .int)) ({ frames := 0, cells := 0, slots := 0, locals := 0 }) (va_Pc [.ref (hh 0)] (wc_pw dC dI (wc_wM hh dd n mo ma mb md mn ro k bk pa ov ca) (wc_tM dd) sz)) (va_Qi (fun (r : Int32) (u : wc_SM) => r = wc_dr n ∧ u = (n - 1, mo, ma, mb, md, mn, ro, k, bk, pa, ov, ca)) (wc_bM dC dI hh dd (va_A (wc_wM hh dd n mo ma mb md mn ro k bk pa ov ca) sz)) (va_A (wc_wM hh dd n mo ma mb md mn ro k bk pa ov ca) sz)) 0 0 (va_A (wc_wM hh dd n mo ma mb md mn ro k bk pa ov ca) sz) := by
  refine Met.ofW (cc := cX1_drop) (maxL := 1) (ret := (some .int)) (by decide) rfl ?_
  intro p e s m args below meth c s₁ B hml hv
  obtain ⟨rfl, hsz, hP, hK, hD0⟩ := hv
  have hx := B.exec
  have hb := B.bytes
  have hr := B.returns
  have hts := atoms_spec (ws := ws_ yX1_drop cX1_drop 1 (some .int)) B.pre
  have hts : ∀ w ∈ lw_all, w.before _ s = true := fun w h => hts w (List.mem_cons_of_mem _ h)
  have hown : s.vm.findClass RX1 = some m.cls := findClass_of_methodNamed B.named
  have hlocks := B.notSynchronized
  subst hsz
  have hD := hD0.self (sz := s.heap.size)
  generalize hAe : va_A (wc_wM hh dd n mo ma mb md mn ro k bk pa ov ca) s.heap.size = A at hD ⊢
  have hA : ∀ q : Nat, s.heap.size ≤ q → A q := fun q h => by rw [← hAe]; exact Or.inr h
  have hS : va_S A s.heap s.heap [] := va_S.rf
  have hP : va_P (dC, dI) vwCl (wc_wM hh dd n mo ma mb md mn ro k bk pa ov ca) s.heap := hP
  have hl := lv_entry ([.ref (hh 0)]) (n := 1) (Nat.le_of_ble_eq_true rfl)
  rw [lg_entry_eq]
  generalize (lg_sl ([.ref (hh 0)]) ++ List.replicate (1 - (lg_sl ([.ref (hh 0)])).length) Slot.unset).toArray = ls at hl ⊢
  have hl : lv_has ls 1 [(0, .ref (hh 0))] := hl
  refine lv_aload_n hx hb dX1_drop_0 rfl (lv_at hl 0 rfl) ?_
  refine va_get (D := (dC, dI)) (ci := 1) (v := .int (nI n)) (C := RX1) (T := TX1) (N := 12) hx hb hts in_X1 hown hK hP 0 rfl rfl 0 (by decide) (hts _ q163) (fun _ h9 => h9) rfl dX1_drop_1 ?_
  refine wc_if_ne (tgt := 9) hx hb (x := n) (by omega) dX1_drop_4 (by decide) (fun c_4 => ?_) (fun c_4 => ?_)
  · refine lv_aload_n hx hb dX1_drop_9 rfl (lv_at hl 0 rfl) ?_
    refine lv_dup hx hb dX1_drop_10 rfl ?_
    refine va_get (D := (dC, dI)) (ci := 1) (v := .int (nI n)) (C := RX1) (T := TX1) (N := 12) hx hb hts in_X1 hown hK hP 0 rfl rfl 0 (by decide) (hts _ q163) (fun _ h9 => h9) rfl dX1_drop_11 ?_
    refine lv_iconst (v := nI 1) hx hb dX1_drop_14 (by decide +kernel) ?_
    refine wc_isub hx hb (x := n) (y := 1) (by omega) dX1_drop_15 ?_
    refine va_put (D := (dC, dI)) (ci := 1) (v := .int (nI (n - 1))) (ty := .int) (C := RX1) (T := TX1) (N := 12) hx hb hts in_X1 tyX1 tyX1_ok nmX1 hown hK hP hD hS 0 rfl rfl 0 (by decide) (hts _ q163) (fun _ h9 => h9) rfl (by decide +kernel) rfl rfl (Nat.le_of_ble_eq_true rfl) dX1_drop_16 (fun H_1 locs hP hD hS => ?_)
    have hP : va_P (dC, dI) vwCl (wc_wM hh dd (n - 1) mo ma mb md mn ro k bk pa ov ca) H_1 := hP
    have hD : va_D A (wc_wM hh dd (n - 1) mo ma mb md mn ro k bk pa ov ca) := hD
    refine lv_aload_n hx hb dX1_drop_19 rfl (lv_at hl 0 rfl) ?_
    refine va_get (D := (dC, dI)) (ci := 1) (v := .int (nI (n - 1))) (C := RX1) (T := TX1) (N := 12) hx hb hts in_X1 hown hK hP 0 rfl rfl 0 (by decide) (hts _ q163) (fun _ h9 => h9) rfl dX1_drop_20 ?_
    exact W.iret (v := nI (n - 1)) hx hb hr (fun t ht hW => ⟨⟨nI (n - 1), (n - 1, mo, ma, mb, md, mn, ro, k, bk, pa, ov, ca), rfl, ⟨(if_neg c_4).symm, rfl⟩, by rw [ht]; exact hP, va_K.moved hW.alike hK, hD⟩, hS.F ht⟩) hS.2.2 dX1_drop_23
  · refine lv_iconst (v := (-1)) hx hb dX1_drop_7 (by decide +kernel) ?_
    exact W.iret (v := (-1)) hx hb hr (fun t ht hW => ⟨⟨(-1), (n, mo, ma, mb, md, mn, ro, k, bk, pa, ov, ca), rfl, ⟨(if_pos c_4).symm, by rw [c_4]⟩, by rw [ht]; exact hP, va_K.moved hW.alike hK, hD⟩, hS.F ht⟩) hS.2.2 dX1_drop_8
set_option maxHeartbeats 4000000 in
set_option maxRecDepth 100000 in
/-- emit(op, regs, n) of the model -/
theorem wc_mEmit (l : Launch) (dC : Nat → ClassId) (dI : Nat → Nat → Nat) (hh : Nat → Nat) (dd : Nat → ClassId) (sz : Nat) (n : Nat) (mo ma mb md mn ro : Nat → Int32) (k : Nat) (bk : Nat → Int32) (pa ov ca : Int32) (hn : n ≤ 24) (op g v : Int32) : Met l yX1_emit (ws_ yX1_emit cX1_emit 4 (some .int)) ({ frames := 0, cells := 0, slots := 0, locals := 0 }) (va_Pc [.ref (hh 0), .int op, .int g, .int v] (wc_pw dC dI (wc_wM hh dd n mo ma mb md mn ro k bk pa ov ca) (wc_tM dd) sz)) (va_Qi (fun (r : Int32) (u : wc_SM) => r = wc_er op g n ∧ u = (wc_en op g n, wc_eU op g n mo op, wc_eU op g n ma (g &&& nI 7), wc_eU op g n mb ((g >>> (nI 3 &&& 31)) &&& nI 7), wc_eU op g n md (g >>> (nI 6 &&& 31)), wc_eU op g n mn v, ro, k, bk, pa, ov, ca)) (wc_bM dC dI hh dd (va_A (wc_wM hh dd n mo ma mb md mn ro k bk pa ov ca) sz)) (va_A (wc_wM hh dd n mo ma mb md mn ro k bk pa ov ca) sz)) 0 0 (va_A (wc_wM hh dd n mo ma mb md mn ro k bk pa ov ca) sz) := by
  refine Met.ofW (cc := cX1_emit) (maxL := 4) (ret := (some .int)) (by decide) rfl ?_
  intro p e s m args below meth c s₁ B hml hv
  obtain ⟨rfl, hsz, hP, hK, hD0⟩ := hv
  have hx := B.exec
  have hb := B.bytes
  have hr := B.returns
  have hts := atoms_spec (ws := ws_ yX1_emit cX1_emit 4 (some .int)) B.pre
  have hts : ∀ w ∈ lw_all, w.before _ s = true := fun w h => hts w (List.mem_cons_of_mem _ h)
  have hown : s.vm.findClass RX1 = some m.cls := findClass_of_methodNamed B.named
  have hlocks := B.notSynchronized
  subst hsz
  have hD := hD0.self (sz := s.heap.size)
  generalize hAe : va_A (wc_wM hh dd n mo ma mb md mn ro k bk pa ov ca) s.heap.size = A at hD ⊢
  have hA : ∀ q : Nat, s.heap.size ≤ q → A q := fun q h => by rw [← hAe]; exact Or.inr h
  have hS : va_S A s.heap s.heap [] := va_S.rf
  have hP : va_P (dC, dI) vwCl (wc_wM hh dd n mo ma mb md mn ro k bk pa ov ca) s.heap := hP
  have hl := lv_entry ([.ref (hh 0), .int op, .int g, .int v]) (n := 4) (Nat.le_of_ble_eq_true rfl)
  rw [lg_entry_eq]
  generalize (lg_sl ([.ref (hh 0), .int op, .int g, .int v]) ++ List.replicate (4 - (lg_sl ([.ref (hh 0), .int op, .int g, .int v])).length) Slot.unset).toArray = ls at hl ⊢
  have hl : lv_has ls 4 [(0, .ref (hh 0)), (1, .int op), (2, .int g), (3, .int v)] := hl
  refine lv_iload_n hx hb dX1_emit_0 rfl (lv_at hl 1 rfl) ?_
  refine lv_if_lt (tgt := 21) hx hb dX1_emit_1 (by decide) (fun c_1 => ?_) (fun c_1 => ?_)
  · refine lv_iconst (v := (-1)) hx hb dX1_emit_21 (by decide +kernel) ?_
    have hbd : wc_bad op g := Or.inl c_1
    exact W.iret (v := (-1)) hx hb hr (fun t ht hW => ⟨⟨(-1), (n, mo, ma, mb, md, mn, ro, k, bk, pa, ov, ca), rfl, ⟨(wc_er1 hbd).symm, by rw [wc_en1 hbd, wc_eU1 hbd, wc_eU1 hbd, wc_eU1 hbd, wc_eU1 hbd, wc_eU1 hbd]⟩, by rw [ht]; exact hP, va_K.moved hW.alike hK, hD⟩, hS.F ht⟩) hS.2.2 dX1_emit_22
  · refine lv_iload_n hx hb dX1_emit_4 rfl (lv_at hl 1 rfl) ?_
    refine lv_bipush (v := nI 7) hx hb dX1_emit_5 (by decide +kernel) ?_
    refine lv_icmp_gt (tgt := 21) hx hb dX1_emit_7 (by decide) (fun c_7 => ?_) (fun c_7 => ?_)
    · refine lv_iconst (v := (-1)) hx hb dX1_emit_21 (by decide +kernel) ?_
      have hbd : wc_bad op g := Or.inr (Or.inl c_7)
      exact W.iret (v := (-1)) hx hb hr (fun t ht hW => ⟨⟨(-1), (n, mo, ma, mb, md, mn, ro, k, bk, pa, ov, ca), rfl, ⟨(wc_er1 hbd).symm, by rw [wc_en1 hbd, wc_eU1 hbd, wc_eU1 hbd, wc_eU1 hbd, wc_eU1 hbd, wc_eU1 hbd]⟩, by rw [ht]; exact hP, va_K.moved hW.alike hK, hD⟩, hS.F ht⟩) hS.2.2 dX1_emit_22
    · refine lv_iload_n hx hb dX1_emit_10 rfl (lv_at hl 2 rfl) ?_
      refine lv_if_lt (tgt := 21) hx hb dX1_emit_11 (by decide) (fun c_11 => ?_) (fun c_11 => ?_)
      · refine lv_iconst (v := (-1)) hx hb dX1_emit_21 (by decide +kernel) ?_
        have hbd : wc_bad op g := Or.inr (Or.inr (Or.inl c_11))
        exact W.iret (v := (-1)) hx hb hr (fun t ht hW => ⟨⟨(-1), (n, mo, ma, mb, md, mn, ro, k, bk, pa, ov, ca), rfl, ⟨(wc_er1 hbd).symm, by rw [wc_en1 hbd, wc_eU1 hbd, wc_eU1 hbd, wc_eU1 hbd, wc_eU1 hbd, wc_eU1 hbd]⟩, by rw [ht]; exact hP, va_K.moved hW.alike hK, hD⟩, hS.F ht⟩) hS.2.2 dX1_emit_22
      · refine lv_iload_n hx hb dX1_emit_14 rfl (lv_at hl 2 rfl) ?_
        refine lv_sipush (v := nI 511) hx hb dX1_emit_15 (by decide +kernel) ?_
        refine lv_icmp_le (tgt := 23) hx hb dX1_emit_18 (by decide) (fun c_18 => ?_) (fun c_18 => ?_)
        · refine lv_aload_n hx hb dX1_emit_23 rfl (lv_at hl 0 rfl) ?_
          refine va_get (D := (dC, dI)) (ci := 1) (v := .int (nI n)) (C := RX1) (T := TX1) (N := 12) hx hb hts in_X1 hown hK hP 0 rfl rfl 0 (by decide) (hts _ q163) (fun _ h9 => h9) rfl dX1_emit_24 ?_
          refine lv_bipush (v := nI 24) hx hb dX1_emit_27 (by decide +kernel) ?_
          refine wc_icmp_lt (tgt := 35) hx hb (x := n) (y := 24) (by omega) (by omega) dX1_emit_29 (by decide) (fun c_29 => ?_) (fun c_29 => ?_)
          · have hnb : ¬ wc_bad op g := wc_e_nb c_1 c_7 c_11 c_18
            have h24 : ¬ 24 ≤ n := by omega
            refine lv_aload_n hx hb dX1_emit_35 rfl (lv_at hl 0 rfl) ?_
            refine va_get (D := (dC, dI)) (ci := 1) (v := .ref (hh 1)) (C := RX1) (T := TX1) (N := 12) hx hb hts in_X1 hown hK hP 0 rfl rfl 1 (by decide) (hts _ q164) (fun _ h9 => h9) rfl dX1_emit_36 ?_
            refine lv_aload_n hx hb dX1_emit_39 rfl (lv_at hl 0 rfl) ?_
            refine va_get (D := (dC, dI)) (ci := 1) (v := .int (nI n)) (C := RX1) (T := TX1) (N := 12) hx hb hts in_X1 hown hK hP 0 rfl rfl 0 (by decide) (hts _ q163) (fun _ h9 => h9) rfl dX1_emit_40 ?_
            refine lv_iload_n hx hb dX1_emit_43 rfl (lv_at hl 1 rfl) ?_
            refine wc_iast hx hb hK hP hD hS 1 0 rfl rfl (j := n) (by omega) (by decide) dX1_emit_44 (fun H_1 locs hP hD hS => ?_)
            have hP : va_P (dC, dI) vwCl (wc_wM hh dd n (upd mo n op) ma mb md mn ro k bk pa ov ca) H_1 := hP
            have hD : va_D A (wc_wM hh dd n (upd mo n op) ma mb md mn ro k bk pa ov ca) := hD
            refine lv_aload_n hx hb dX1_emit_45 rfl (lv_at hl 0 rfl) ?_
            refine va_get (D := (dC, dI)) (ci := 1) (v := .ref (hh 2)) (C := RX1) (T := TX1) (N := 12) hx hb hts in_X1 hown hK hP 0 rfl rfl 2 (by decide) (hts _ q165) (fun _ h9 => h9) rfl dX1_emit_46 ?_
            refine lv_aload_n hx hb dX1_emit_49 rfl (lv_at hl 0 rfl) ?_
            refine va_get (D := (dC, dI)) (ci := 1) (v := .int (nI n)) (C := RX1) (T := TX1) (N := 12) hx hb hts in_X1 hown hK hP 0 rfl rfl 0 (by decide) (hts _ q163) (fun _ h9 => h9) rfl dX1_emit_50 ?_
            refine lv_iload_n hx hb dX1_emit_53 rfl (lv_at hl 2 rfl) ?_
            refine lv_bipush (v := nI 7) hx hb dX1_emit_54 (by decide +kernel) ?_
            refine lv_iand hx hb dX1_emit_56 ?_
            refine wc_iast hx hb hK hP hD hS 2 1 rfl rfl (j := n) (by omega) (by decide) dX1_emit_57 (fun H_2 locs hP hD hS => ?_)
            have hP : va_P (dC, dI) vwCl (wc_wM hh dd n (upd mo n op) (upd ma n (g &&& nI 7)) mb md mn ro k bk pa ov ca) H_2 := hP
            have hD : va_D A (wc_wM hh dd n (upd mo n op) (upd ma n (g &&& nI 7)) mb md mn ro k bk pa ov ca) := hD
            refine lv_aload_n hx hb dX1_emit_58 rfl (lv_at hl 0 rfl) ?_
            refine va_get (D := (dC, dI)) (ci := 1) (v := .ref (hh 3)) (C := RX1) (T := TX1) (N := 12) hx hb hts in_X1 hown hK hP 0 rfl rfl 3 (by decide) (hts _ q166) (fun _ h9 => h9) rfl dX1_emit_59 ?_
            refine lv_aload_n hx hb dX1_emit_62 rfl (lv_at hl 0 rfl) ?_
            refine va_get (D := (dC, dI)) (ci := 1) (v := .int (nI n)) (C := RX1) (T := TX1) (N := 12) hx hb hts in_X1 hown hK hP 0 rfl rfl 0 (by decide) (hts _ q163) (fun _ h9 => h9) rfl dX1_emit_63 ?_
            refine lv_iload_n hx hb dX1_emit_66 rfl (lv_at hl 2 rfl) ?_
            refine lv_iconst (v := nI 3) hx hb dX1_emit_67 (by decide +kernel) ?_
            refine lv_ishr hx hb dX1_emit_68 ?_
            refine lv_bipush (v := nI 7) hx hb dX1_emit_69 (by decide +kernel) ?_
            refine lv_iand hx hb dX1_emit_71 ?_
            refine wc_iast hx hb hK hP hD hS 3 2 rfl rfl (j := n) (by omega) (by decide) dX1_emit_72 (fun H_3 locs hP hD hS => ?_)
            have hP : va_P (dC, dI) vwCl (wc_wM hh dd n (upd mo n op) (upd ma n (g &&& nI 7)) (upd mb n ((g >>> (nI 3 &&& 31)) &&& nI 7)) md mn ro k bk pa ov ca) H_3 := hP
            have hD : va_D A (wc_wM hh dd n (upd mo n op) (upd ma n (g &&& nI 7)) (upd mb n ((g >>> (nI 3 &&& 31)) &&& nI 7)) md mn ro k bk pa ov ca) := hD
            refine lv_aload_n hx hb dX1_emit_73 rfl (lv_at hl 0 rfl) ?_
            refine va_get (D := (dC, dI)) (ci := 1) (v := .ref (hh 4)) (C := RX1) (T := TX1) (N := 12) hx hb hts in_X1 hown hK hP 0 rfl rfl 4 (by decide) (hts _ q167) (fun _ h9 => h9) rfl dX1_emit_74 ?_
            refine lv_aload_n hx hb dX1_emit_77 rfl (lv_at hl 0 rfl) ?_
            refine va_get (D := (dC, dI)) (ci := 1) (v := .int (nI n)) (C := RX1) (T := TX1) (N := 12) hx hb hts in_X1 hown hK hP 0 rfl rfl 0 (by decide) (hts _ q163) (fun _ h9 => h9) rfl dX1_emit_78 ?_
            refine lv_iload_n hx hb dX1_emit_81 rfl (lv_at hl 2 rfl) ?_
            refine lv_bipush (v := nI 6) hx hb dX1_emit_82 (by decide +kernel) ?_
            refine lv_ishr hx hb dX1_emit_84 ?_
            refine wc_iast hx hb hK hP hD hS 4 3 rfl rfl (j := n) (by omega) (by decide) dX1_emit_85 (fun H_4 locs hP hD hS => ?_)
            have hP : va_P (dC, dI) vwCl (wc_wM hh dd n (upd mo n op) (upd ma n (g &&& nI 7)) (upd mb n ((g >>> (nI 3 &&& 31)) &&& nI 7)) (upd md n (g >>> (nI 6 &&& 31))) mn ro k bk pa ov ca) H_4 := hP
            have hD : va_D A (wc_wM hh dd n (upd mo n op) (upd ma n (g &&& nI 7)) (upd mb n ((g >>> (nI 3 &&& 31)) &&& nI 7)) (upd md n (g >>> (nI 6 &&& 31))) mn ro k bk pa ov ca) := hD
            refine lv_aload_n hx hb dX1_emit_86 rfl (lv_at hl 0 rfl) ?_
            refine va_get (D := (dC, dI)) (ci := 1) (v := .ref (hh 5)) (C := RX1) (T := TX1) (N := 12) hx hb hts in_X1 hown hK hP 0 rfl rfl 5 (by decide) (hts _ q168) (fun _ h9 => h9) rfl dX1_emit_87 ?_
            refine lv_aload_n hx hb dX1_emit_90 rfl (lv_at hl 0 rfl) ?_
            refine va_get (D := (dC, dI)) (ci := 1) (v := .int (nI n)) (C := RX1) (T := TX1) (N := 12) hx hb hts in_X1 hown hK hP 0 rfl rfl 0 (by decide) (hts _ q163) (fun _ h9 => h9) rfl dX1_emit_91 ?_
            refine lv_iload_n hx hb dX1_emit_94 rfl (lv_at hl 3 rfl) ?_
            refine wc_iast hx hb hK hP hD hS 5 4 rfl rfl (j := n) (by omega) (by decide) dX1_emit_95 (fun H_5 locs hP hD hS => ?_)
            have hP : va_P (dC, dI) vwCl (wc_wM hh dd n (upd mo n op) (upd ma n (g &&& nI 7)) (upd mb n ((g >>> (nI 3 &&& 31)) &&& nI 7)) (upd md n (g >>> (nI 6 &&& 31))) (upd mn n v) ro k bk pa ov ca) H_5 := hP
            have hD : va_D A (wc_wM hh dd n (upd mo n op) (upd ma n (g &&& nI 7)) (upd mb n ((g >>> (nI 3 &&& 31)) &&& nI 7)) (upd md n (g >>> (nI 6 &&& 31))) (upd mn n v) ro k bk pa ov ca) := hD
            refine lv_aload_n hx hb dX1_emit_96 rfl (lv_at hl 0 rfl) ?_
            refine lv_dup hx hb dX1_emit_97 rfl ?_
            refine va_get (D := (dC, dI)) (ci := 1) (v := .int (nI n)) (C := RX1) (T := TX1) (N := 12) hx hb hts in_X1 hown hK hP 0 rfl rfl 0 (by decide) (hts _ q163) (fun _ h9 => h9) rfl dX1_emit_98 ?_
            refine lv_iconst (v := nI 1) hx hb dX1_emit_101 (by decide +kernel) ?_
            refine wc_iadd hx hb (x := n) (y := 1) dX1_emit_102 ?_
            refine va_put (D := (dC, dI)) (ci := 1) (v := .int (nI (n + 1))) (ty := .int) (C := RX1) (T := TX1) (N := 12) hx hb hts in_X1 tyX1 tyX1_ok nmX1 hown hK hP hD hS 0 rfl rfl 0 (by decide) (hts _ q163) (fun _ h9 => h9) rfl (by decide +kernel) rfl rfl (Nat.le_of_ble_eq_true rfl) dX1_emit_103 (fun H_6 locs hP hD hS => ?_)
            have hP : va_P (dC, dI) vwCl (wc_wM hh dd (n + 1) (upd mo n op) (upd ma n (g &&& nI 7)) (upd mb n ((g >>> (nI 3 &&& 31)) &&& nI 7)) (upd md n (g >>> (nI 6 &&& 31))) (upd mn n v) ro k bk pa ov ca) H_6 := hP
            have hD : va_D A (wc_wM hh dd (n + 1) (upd mo n op) (upd ma n (g &&& nI 7)) (upd mb n ((g >>> (nI 3 &&& 31)) &&& nI 7)) (upd md n (g >>> (nI 6 &&& 31))) (upd mn n v) ro k bk pa ov ca) := hD
            refine lv_aload_n hx hb dX1_emit_106 rfl (lv_at hl 0 rfl) ?_
            refine va_get (D := (dC, dI)) (ci := 1) (v := .int (nI (n + 1))) (C := RX1) (T := TX1) (N := 12) hx hb hts in_X1 hown hK hP 0 rfl rfl 0 (by decide) (hts _ q163) (fun _ h9 => h9) rfl dX1_emit_107 ?_
            refine lv_iconst (v := nI 1) hx hb dX1_emit_110 (by decide +kernel) ?_
            refine wc_isub hx hb (x := n + 1) (y := 1) (by omega) dX1_emit_111 ?_
            refine wc_top (show nI ((n + 1) - 1) = nI n from congrArg nI (by omega)) ?_
            exact W.iret (v := nI n) hx hb hr (fun t ht hW => ⟨⟨nI n, (n + 1, upd mo n op, upd ma n (g &&& nI 7), upd mb n ((g >>> (nI 3 &&& 31)) &&& nI 7), upd md n (g >>> (nI 6 &&& 31)), upd mn n v, ro, k, bk, pa, ov, ca), rfl, ⟨(wc_er3 hnb h24).symm, by rw [wc_en3 hnb h24, wc_eU3 hnb h24, wc_eU3 hnb h24, wc_eU3 hnb h24, wc_eU3 hnb h24, wc_eU3 hnb h24]⟩, by rw [ht]; exact hP, va_K.moved hW.alike hK, hD⟩, hS.F ht⟩) hS.2.2 dX1_emit_112
          · have hnb : ¬ wc_bad op g := wc_e_nb c_1 c_7 c_11 c_18
            have h24 : 24 ≤ n := by omega
            refine lv_bipush (v := (-2)) hx hb dX1_emit_32 (by decide +kernel) ?_
            exact W.iret (v := (-2)) hx hb hr (fun t ht hW => ⟨⟨(-2), (n, mo, ma, mb, md, mn, ro, k, bk, pa, ov, ca), rfl, ⟨(wc_er2 hnb h24).symm, by rw [wc_en2 hnb h24, wc_eU2 hnb h24, wc_eU2 hnb h24, wc_eU2 hnb h24, wc_eU2 hnb h24, wc_eU2 hnb h24]⟩, by rw [ht]; exact hP, va_K.moved hW.alike hK, hD⟩, hS.F ht⟩) hS.2.2 dX1_emit_34
        · refine lv_iconst (v := (-1)) hx hb dX1_emit_21 (by decide +kernel) ?_
          have hbd : wc_bad op g := Or.inr (Or.inr (Or.inr c_18))
          exact W.iret (v := (-1)) hx hb hr (fun t ht hW => ⟨⟨(-1), (n, mo, ma, mb, md, mn, ro, k, bk, pa, ov, ca), rfl, ⟨(wc_er1 hbd).symm, by rw [wc_en1 hbd, wc_eU1 hbd, wc_eU1 hbd, wc_eU1 hbd, wc_eU1 hbd, wc_eU1 hbd]⟩, by rw [ht]; exact hP, va_K.moved hW.alike hK, hD⟩, hS.F ht⟩) hS.2.2 dX1_emit_22
set_option maxHeartbeats 4000000 in
set_option maxRecDepth 100000 in
/-- restart() of the model -/
theorem wc_mRestart (l : Launch) (dC : Nat → ClassId) (dI : Nat → Nat → Nat) (hh : Nat → Nat) (dd : Nat → ClassId) (sz : Nat) (n : Nat) (mo ma mb md mn ro : Nat → Int32) (k : Nat) (bk : Nat → Int32) (pa ov ca : Int32) : Met l yX1_restart (ws_ yX1_restart cX1_restart 2 none) ({ frames := 0, cells := 0, slots := 0, locals := 0 }) (va_Pc [.ref (hh 0)] (wc_pw dC dI (wc_wM hh dd n mo ma mb md mn ro k bk pa ov ca) (wc_tM dd) sz)) (va_Qv (fun (u : wc_SM) => ∃ ro' : Nat → Int32, u = (n, mo, ma, mb, md, mn, ro', 0, bk, nI 0, nI 0, nI 0) ∧ ∀ q, q < 124 → ro' q = 0) (wc_bM dC dI hh dd (va_A (wc_wM hh dd n mo ma mb md mn ro k bk pa ov ca) sz)) (va_A (wc_wM hh dd n mo ma mb md mn ro k bk pa ov ca) sz)) 0 0 (va_A (wc_wM hh dd n mo ma mb md mn ro k bk pa ov ca) sz) := by
  refine Met.ofW (cc := cX1_restart) (maxL := 2) (ret := none) (by decide) rfl ?_
  intro p e s m args below meth c s₁ B hml hv
  obtain ⟨rfl, hsz, hP, hK, hD0⟩ := hv
  have hx := B.exec
  have hb := B.bytes
  have hr := B.returns
  have hts := atoms_spec (ws := ws_ yX1_restart cX1_restart 2 none) B.pre
  have hts : ∀ w ∈ lw_all, w.before _ s = true := fun w h => hts w (List.mem_cons_of_mem _ h)
  have hown : s.vm.findClass RX1 = some m.cls := findClass_of_methodNamed B.named
  have hlocks := B.notSynchronized
  subst hsz
  have hD := hD0.self (sz := s.heap.size)
  generalize hAe : va_A (wc_wM hh dd n mo ma mb md mn ro k bk pa ov ca) s.heap.size = A at hD ⊢
  have hA : ∀ q : Nat, s.heap.size ≤ q → A q := fun q h => by rw [← hAe]; exact Or.inr h
  have hS : va_S A s.heap s.heap [] := va_S.rf
  have hP : va_P (dC, dI) vwCl (wc_wM hh dd n mo ma mb md mn ro k bk pa ov ca) s.heap := hP
  have hl := lv_entry ([.ref (hh 0)]) (n := 2) (Nat.le_of_ble_eq_true rfl)
  rw [lg_entry_eq]
  generalize (lg_sl ([.ref (hh 0)]) ++ List.replicate (2 - (lg_sl ([.ref (hh 0)])).length) Slot.unset).toArray = ls at hl ⊢
  have hl : lv_has ls 2 [(0, .ref (hh 0))] := hl
  have loop : ∀ (f j : Nat) (ro : Nat → Int32), j + f = 124 → (∀ q, q < j → ro q = 0) → ∀ (H : Heap) (locs : List Loc), va_P (dC, dI) vwCl (wc_wM hh dd n mo ma mb md mn ro k bk pa ov ca) H → va_D A (wc_wM hh dd n mo ma mb md mn ro k bk pa ov ca) → va_S A s.heap H locs → ∀ (ls : Array Slot), lv_has ls 2 [(0, .ref (hh 0)), (1, .int (nI j))] → W p l e (headSpec (ws_ yX1_restart cX1_restart 2 none) ({ frames := 0, cells := 0, slots := 0, locals := 0 })).room s m ([.ref (hh 0)] : List Value).toArray below meth c H locs 0 0 (MQ below (va_Qv (fun (u : wc_SM) => ∃ ro' : Nat → Int32, u = (n, mo, ma, mb, md, mn, ro', 0, bk, nI 0, nI 0, nI 0) ∧ ∀ q, q < 124 → ro' q = 0) (wc_bM dC dI hh dd A) A) ([.ref (hh 0)] : List Value).toArray s 0 0 A) (F0 m 2 ls []) := by
    intro f
    induction f with
    | zero =>
      intro j ro hj hro H locs hP hD hS ls hl
      refine lv_iload_n hx hb dX1_restart_2 rfl (lv_at hl 1 rfl) ?_
      refine lv_bipush (v := nI 124) hx hb dX1_restart_3 (by decide +kernel) ?_
      refine wc_icmp_ge (tgt := 21) hx hb (x := j) (y := 124) (by omega) (by omega) dX1_restart_5 (by decide) (fun c_5 => ?_) (fun c_5 => ?_)
      · have ej : j = 124 := by omega
        subst ej
        refine lv_aload_n hx hb dX1_restart_21 rfl (lv_at hl 0 rfl) ?_
        refine lv_iconst (v := nI 0) hx hb dX1_restart_22 (by decide +kernel) ?_
        refine va_put (D := (dC, dI)) (ci := 1) (v := .int (nI 0)) (ty := .int) (C := RX1) (T := TX1) (N := 12) hx hb hts in_X1 tyX1 tyX1_ok nmX1 hown hK hP hD hS 0 rfl rfl 7 (by decide) (hts _ q170) (fun _ h9 => h9) rfl (by decide +kernel) rfl rfl (Nat.le_of_ble_eq_true rfl) dX1_restart_23 (fun H_1 locs hP hD hS => ?_)
        have hP : va_P (dC, dI) vwCl (wc_wM hh dd n mo ma mb md mn ro 0 bk pa ov ca) H_1 := hP
        have hD : va_D A (wc_wM hh dd n mo ma mb md mn ro 0 bk pa ov ca) := hD
        refine lv_aload_n hx hb dX1_restart_26 rfl (lv_at hl 0 rfl) ?_
        refine lv_iconst (v := nI 0) hx hb dX1_restart_27 (by decide +kernel) ?_
        refine va_put (D := (dC, dI)) (ci := 1) (v := .int (nI 0)) (ty := .int) (C := RX1) (T := TX1) (N := 12) hx hb hts in_X1 tyX1 tyX1_ok nmX1 hown hK hP hD hS 0 rfl rfl 9 (by decide) (hts _ q172) (fun _ h9 => h9) rfl (by decide +kernel) rfl rfl (Nat.le_of_ble_eq_true rfl) dX1_restart_28 (fun H_2 locs hP hD hS => ?_)
        have hP : va_P (dC, dI) vwCl (wc_wM hh dd n mo ma mb md mn ro 0 bk (nI 0) ov ca) H_2 := hP
        have hD : va_D A (wc_wM hh dd n mo ma mb md mn ro 0 bk (nI 0) ov ca) := hD
        refine lv_aload_n hx hb dX1_restart_31 rfl (lv_at hl 0 rfl) ?_
        refine lv_iconst (v := nI 0) hx hb dX1_restart_32 (by decide +kernel) ?_
        refine va_put (D := (dC, dI)) (ci := 1) (v := .int (nI 0)) (ty := .boolean) (C := RX1) (T := TX1) (N := 12) hx hb hts in_X1 tyX1 tyX1_ok nmX1 hown hK hP hD hS 0 rfl rfl 10 (by decide) (hts _ q173) (fun _ h9 => h9) rfl (by decide +kernel) rfl rfl (Nat.le_of_ble_eq_true rfl) dX1_restart_33 (fun H_3 locs hP hD hS => ?_)
        have hP : va_P (dC, dI) vwCl (wc_wM hh dd n mo ma mb md mn ro 0 bk (nI 0) (nI 0) ca) H_3 := hP
        have hD : va_D A (wc_wM hh dd n mo ma mb md mn ro 0 bk (nI 0) (nI 0) ca) := hD
        refine lv_aload_n hx hb dX1_restart_36 rfl (lv_at hl 0 rfl) ?_
        refine lv_iconst (v := nI 0) hx hb dX1_restart_37 (by decide +kernel) ?_
        refine va_put (D := (dC, dI)) (ci := 1) (v := .int (nI 0)) (ty := .int) (C := RX1) (T := TX1) (N := 12) hx hb hts in_X1 tyX1 tyX1_ok nmX1 hown hK hP hD hS 0 rfl rfl 11 (by decide) (hts _ q174) (fun _ h9 => h9) rfl (by decide +kernel) rfl rfl (Nat.le_of_ble_eq_true rfl) dX1_restart_38 (fun H_4 locs hP hD hS => ?_)
        have hP : va_P (dC, dI) vwCl (wc_wM hh dd n mo ma mb md mn ro 0 bk (nI 0) (nI 0) (nI 0)) H_4 := hP
        have hD : va_D A (wc_wM hh dd n mo ma mb md mn ro 0 bk (nI 0) (nI 0) (nI 0)) := hD
        exact W.vret hx hb hr (fun t ht hW => ⟨⟨(n, mo, ma, mb, md, mn, ro, 0, bk, nI 0, nI 0, nI 0), rfl, ⟨ro, rfl, hro⟩, by rw [ht]; exact hP, va_K.moved hW.alike hK, hD⟩, hS.F ht⟩) hS.2.2 dX1_restart_41
      · exact absurd c_5 (by omega)
    | succ f ih =>
      intro j ro hj hro H locs hP hD hS ls hl
      refine lv_iload_n hx hb dX1_restart_2 rfl (lv_at hl 1 rfl) ?_
      refine lv_bipush (v := nI 124) hx hb dX1_restart_3 (by decide +kernel) ?_
      refine wc_icmp_ge (tgt := 21) hx hb (x := j) (y := 124) (by omega) (by omega) dX1_restart_5 (by decide) (fun c_5 => ?_) (fun c_5 => ?_)
      · exact absurd c_5 (by omega)
      · refine lv_aload_n hx hb dX1_restart_8 rfl (lv_at hl 0 rfl) ?_
        refine va_get (D := (dC, dI)) (ci := 1) (v := .ref (hh 6)) (C := RX1) (T := TX1) (N := 12) hx hb hts in_X1 hown hK hP 0 rfl rfl 6 (by decide) (hts _ q169) (fun _ h9 => h9) rfl dX1_restart_9 ?_
        refine lv_iload_n hx hb dX1_restart_12 rfl (lv_at hl 1 rfl) ?_
        refine lv_iconst (v := nI 0) hx hb dX1_restart_13 (by decide +kernel) ?_
        refine wc_iast hx hb hK hP hD hS 6 5 rfl rfl (j := j) (by omega) (by decide) dX1_restart_14 (fun H_5 locs hP hD hS => ?_)
        have hP : va_P (dC, dI) vwCl (wc_wM hh dd n mo ma mb md mn (upd ro j (nI 0)) k bk pa ov ca) H_5 := hP
        have hD : va_D A (wc_wM hh dd n mo ma mb md mn (upd ro j (nI 0)) k bk pa ov ca) := hD
        refine lv_iinc (v := nI (j + 1)) (lv' := [(1, .int (nI (j + 1))), (0, .ref (hh 0))]) hx hb dX1_restart_15 hl (k := 1) rfl (by first | exact nI_add _ _ | decide +kernel) (by decide) rfl (fun ls hl => ?_)
        refine lv_goto (tgt := 2) hx hb dX1_restart_18 (by decide) ?_
        exact ih (j + 1) (upd ro j (nI 0)) (by omega) (fun q hq => by by_cases h : q = j; (subst h; exact pk_us.trans nI_0); exact (pk_un h).trans (hro q (by omega))) _ _ hP hD hS ls (lv_sub hl [1, 0] rfl)
  refine lv_iconst (v := nI 0) hx hb dX1_restart_0 (by decide +kernel) ?_
  refine lv_istore_n (lv' := [(1, .int (nI 0)), (0, .ref (hh 0))]) hx hb dX1_restart_1 rfl hl (by decide) rfl (fun ls hl => ?_)
  exact loop 124 0 ro (by omega) (fun q hq => absurd hq (by omega)) _ _ hP hD hS ls (lv_sub hl [1, 0] rfl)
set_option maxHeartbeats 4000000 in
set_option maxRecDepth 100000 in
/-- below(d, r) of the model -/
theorem wc_mBelow (l : Launch) (dC : Nat → ClassId) (dI : Nat → Nat → Nat) (hh : Nat → Nat) (dd : Nat → ClassId) (sz : Nat) (n : Nat) (mo ma mb md mn ro : Nat → Int32) (k : Nat) (bk : Nat → Int32) (pa ov ca : Int32) (hk : k ≤ 29) (d x : Int32) : Met l yX1_below (ws_ yX1_below cX1_below 3 (some .int)) ({ frames := 1, cells := 0, slots := 0, locals := 21 }) (va_Pc [.ref (hh 0), .int d, .int x] (wc_pw dC dI (wc_wM hh dd n mo ma mb md mn ro k bk pa ov ca) (wc_tM dd) sz)) (va_Qi (fun (r : Int32) (u : wc_SM) => r = wc_be d x k ro ∧ u = (n, mo, ma, mb, md, mn, ro, k, bk, pa, ov, ca)) (wc_bM dC dI hh dd (va_A (wc_wM hh dd n mo ma mb md mn ro k bk pa ov ca) sz)) (va_A (wc_wM hh dd n mo ma mb md mn ro k bk pa ov ca) sz)) 0 0 (va_A (wc_wM hh dd n mo ma mb md mn ro k bk pa ov ca) sz) := by
  refine Met.ofW (cc := cX1_below) (maxL := 3) (ret := (some .int)) (by decide) rfl ?_
  intro p e s m args below meth c s₁ B hml hv
  obtain ⟨rfl, hsz, hP, hK, hD0⟩ := hv
  have hx := B.exec
  have hb := B.bytes
  have hr := B.returns
  have hts := atoms_spec (ws := ws_ yX1_below cX1_below 3 (some .int)) B.pre
  have hts : ∀ w ∈ lw_all, w.before _ s = true := fun w h => hts w (List.mem_cons_of_mem _ h)
  have hown : s.vm.findClass RX1 = some m.cls := findClass_of_methodNamed B.named
  have hlocks := B.notSynchronized
  subst hsz
  have hD := hD0.self (sz := s.heap.size)
  generalize hAe : va_A (wc_wM hh dd n mo ma mb md mn ro k bk pa ov ca) s.heap.size = A at hD ⊢
  have hA : ∀ q : Nat, s.heap.size ≤ q → A q := fun q h => by rw [← hAe]; exact Or.inr h
  have hS : va_S A s.heap s.heap [] := va_S.rf
  have hP : va_P (dC, dI) vwCl (wc_wM hh dd n mo ma mb md mn ro k bk pa ov ca) s.heap := hP
  have hl := lv_entry ([.ref (hh 0), .int d, .int x]) (n := 3) (Nat.le_of_ble_eq_true rfl)
  rw [lg_entry_eq]
  generalize (lg_sl ([.ref (hh 0), .int d, .int x]) ++ List.replicate (3 - (lg_sl ([.ref (hh 0), .int d, .int x])).length) Slot.unset).toArray = ls at hl ⊢
  have hl : lv_has ls 3 [(0, .ref (hh 0)), (1, .int d), (2, .int x)] := hl
  refine lv_iload_n hx hb dX1_below_0 rfl (lv_at hl 1 rfl) ?_
  refine lv_if_lt (tgt := 38) hx hb dX1_below_1 (by decide) (fun c_1 => ?_) (fun c_1 => ?_)
  · refine lv_iconst (v := 0) hx hb dX1_below_38 (by decide +kernel) ?_
    exact W.iret (v := 0) hx hb hr (fun t ht hW => ⟨⟨0, (n, mo, ma, mb, md, mn, ro, k, bk, pa, ov, ca), rfl, ⟨(wc_be2 (fun h => h.1 c_1)).symm, rfl⟩, by rw [ht]; exact hP, va_K.moved hW.alike hK, hD⟩, hS.F ht⟩) hS.2.2 dX1_below_39
  · refine lv_iload_n hx hb dX1_below_4 rfl (lv_at hl 1 rfl) ?_
    refine lv_aload_n hx hb dX1_below_5 rfl (lv_at hl 0 rfl) ?_
    refine va_get (D := (dC, dI)) (ci := 1) (v := .int (nI k)) (C := RX1) (T := TX1) (N := 12) hx hb hts in_X1 hown hK hP 0 rfl rfl 7 (by decide) (hts _ q170) (fun _ h9 => h9) rfl dX1_below_6 ?_
    refine lv_icmp_gt (tgt := 38) hx hb dX1_below_9 (by decide) (fun c_9 => ?_) (fun c_9 => ?_)
    · refine lv_iconst (v := 0) hx hb dX1_below_38 (by decide +kernel) ?_
      exact W.iret (v := 0) hx hb hr (fun t ht hW => ⟨⟨0, (n, mo, ma, mb, md, mn, ro, k, bk, pa, ov, ca), rfl, ⟨(wc_be2 (fun h => (Int32.not_le.mpr c_9) h.2.1)).symm, rfl⟩, by rw [ht]; exact hP, va_K.moved hW.alike hK, hD⟩, hS.F ht⟩) hS.2.2 dX1_below_39
    · refine lv_aload_n hx hb dX1_below_12 rfl (lv_at hl 0 rfl) ?_
      refine lv_iload_n hx hb dX1_below_13 rfl (lv_at hl 2 rfl) ?_
      have hFc := wc_free0 hS hA
      refine va_calli (va_runV (As := [.int x]) (rest := []) ⟨hx, hb, hml, hown, hts⟩ (wc_mIsRegister l s.heap.size (hh 0) x) (cwV 1 hts (lw_V q240 q242 qs9 q12 q243) rfl rfl rfl (by decide +kernel) ⟨Nat.le_of_ble_eq_true rfl, Nat.le_of_ble_eq_true rfl⟩) (wc_preV0 hK hP (ci := 1) (q0 := 0) rfl rfl) rfl rfl hl.1 rfl (lv_room (Nat.le_of_ble_eq_true rfl)) dX1_below_14 ⟨Nat.le_of_ble_eq_true rfl, Nat.le_of_ble_eq_true rfl⟩) hS (fun q _ h => hFc q h) hFc (fun r_14 u t H_1 locs ht hvm hw hBw hz1 hk1 hS => ?_)
      have hq_14 := hw
      have hP := wc_keep hP hk1
      rcases wc_isr_cases x with ⟨hz, hz2⟩ | ⟨hz, j, hj, rfl⟩
      · refine wc_top (show r_14 = 0 from hq_14.trans hz) ?_
        refine lv_if_eq (tgt := 38) hx hb dX1_below_17 (by decide) (fun c_17 => ?_) (fun c_17 => ?_)
        · refine lv_iconst (v := 0) hx hb dX1_below_38 (by decide +kernel) ?_
          exact W.iret (v := 0) hx hb hr (fun t ht hW => ⟨⟨0, (n, mo, ma, mb, md, mn, ro, k, bk, pa, ov, ca), rfl, ⟨(wc_be2 (fun h => hz2 h.2.2)).symm, rfl⟩, by rw [ht]; exact hP, va_K.moved hW.alike hK, hD⟩, hS.F ht⟩) hS.2.2 dX1_below_39
        · exact absurd rfl c_17
      · refine wc_top (show r_14 = 1 from hq_14.trans hz) ?_
        refine lv_if_eq (tgt := 38) hx hb dX1_below_17 (by decide) (fun c_17 => ?_) (fun c_17 => ?_)
        · exact absurd c_17 (by decide)
        · obtain ⟨q, hq0, rfl⟩ := nI_of c_1
          have hqk : q ≤ k := (nI_leI hq0 (by omega)).mp (Int32.not_lt.mp c_9)
          refine lv_aload_n hx hb dX1_below_20 rfl (lv_at hl 0 rfl) ?_
          refine va_get (D := (dC, dI)) (ci := 1) (v := .ref (hh 6)) (C := RX1) (T := TX1) (N := 12) hx hb hts in_X1 hown hK hP 0 rfl rfl 6 (by decide) (hts _ q169) (fun _ h9 => h9) rfl dX1_below_21 ?_
          refine lv_iconst (v := nI 4) hx hb dX1_below_24 (by decide +kernel) ?_
          refine lv_aload_n hx hb dX1_below_25 rfl (lv_at hl 0 rfl) ?_
          refine va_get (D := (dC, dI)) (ci := 1) (v := .int (nI k)) (C := RX1) (T := TX1) (N := 12) hx hb hts in_X1 hown hK hP 0 rfl rfl 7 (by decide) (hts _ q170) (fun _ h9 => h9) rfl dX1_below_26 ?_
          refine lv_iload_n hx hb dX1_below_29 rfl (lv_at hl 1 rfl) ?_
          refine wc_isub hx hb (x := k) (y := q) (by omega) dX1_below_30 ?_
          refine wc_imul hx hb (x := 4) (y := k - q) dX1_below_31 ?_
          refine lv_iload_n hx hb dX1_below_32 rfl (lv_at hl 2 rfl) ?_
          refine wc_iadd hx hb (x := 4 * (k - q)) (y := j) dX1_below_33 ?_
          refine wc_iald hx hb hK hP 6 5 rfl rfl (j := 4 * (k - q) + j) (by omega) (by decide) dX1_below_34 ?_
          refine lv_goto (tgt := 39) hx hb dX1_below_35 (by decide) ?_
          exact W.iret (v := ro (4 * (k - q) + j)) hx hb hr (fun t ht hW => ⟨⟨ro (4 * (k - q) + j), (n, mo, ma, mb, md, mn, ro, k, bk, pa, ov, ca), rfl, ⟨(wc_be1 (by omega) hqk hj).symm, rfl⟩, by rw [ht]; exact hP, va_K.moved hW.alike hK, hD⟩, hS.F ht⟩) hS.2.2 dX1_below_39
set_option maxHeartbeats 4000000 in
set_option maxRecDepth 100000 in
/-- register(r) of the model -/
theorem wc_mRegister (l : Launch) (dC : Nat → ClassId) (dI : Nat → Nat → Nat) (hh : Nat → Nat) (dd : Nat → ClassId) (sz : Nat) (n : Nat) (mo ma mb md mn ro : Nat → Int32) (k : Nat) (bk : Nat → Int32) (pa ov ca : Int32) (hk : k ≤ 29) (x : Int32) : Met l yX1_register (ws_ yX1_register cX1_register 2 (some .int)) ({ frames := 2, cells := 0, slots := 0, locals := 43 }) (va_Pc [.ref (hh 0), .int x] (wc_pw dC dI (wc_wM hh dd n mo ma mb md mn ro k bk pa ov ca) (wc_tM dd) sz)) (va_Qi (fun (r : Int32) (u : wc_SM) => r = wc_be (nI 0) x k ro ∧ u = (n, mo, ma, mb, md, mn, ro, k, bk, pa, ov, ca)) (wc_bM dC dI hh dd (va_A (wc_wM hh dd n mo ma mb md mn ro k bk pa ov ca) sz)) (va_A (wc_wM hh dd n mo ma mb md mn ro k bk pa ov ca) sz)) 0 0 (va_A (wc_wM hh dd n mo ma mb md mn ro k bk pa ov ca) sz) := by
  refine Met.ofW (cc := cX1_register) (maxL := 2) (ret := (some .int)) (by decide) rfl ?_
  intro p e s m args below meth c s₁ B hml hv
  obtain ⟨rfl, hsz, hP, hK, hD0⟩ := hv
  have hx := B.exec
  have hb := B.bytes
  have hr := B.returns
  have hts := atoms_spec (ws := ws_ yX1_register cX1_register 2 (some .int)) B.pre
  have hts : ∀ w ∈ lw_all, w.before _ s = true := fun w h => hts w (List.mem_cons_of_mem _ h)
  have hown : s.vm.findClass RX1 = some m.cls := findClass_of_methodNamed B.named
  have hlocks := B.notSynchronized
  subst hsz
  have hD := hD0.self (sz := s.heap.size)
  generalize hAe : va_A (wc_wM hh dd n mo ma mb md mn ro k bk pa ov ca) s.heap.size = A at hD ⊢
  have hA : ∀ q : Nat, s.heap.size ≤ q → A q := fun q h => by rw [← hAe]; exact Or.inr h
  have hS : va_S A s.heap s.heap [] := va_S.rf
  have hP : va_P (dC, dI) vwCl (wc_wM hh dd n mo ma mb md mn ro k bk pa ov ca) s.heap := hP
  have hl := lv_entry ([.ref (hh 0), .int x]) (n := 2) (Nat.le_of_ble_eq_true rfl)
  rw [lg_entry_eq]
  generalize (lg_sl ([.ref (hh 0), .int x]) ++ List.replicate (2 - (lg_sl ([.ref (hh 0), .int x])).length) Slot.unset).toArray = ls at hl ⊢
  have hl : lv_has ls 2 [(0, .ref (hh 0)), (1, .int x)] := hl
  refine lv_aload_n hx hb dX1_register_0 rfl (lv_at hl 0 rfl) ?_
  refine lv_iconst (v := nI 0) hx hb dX1_register_1 (by decide +kernel) ?_
  refine lv_iload_n hx hb dX1_register_2 rfl (lv_at hl 1 rfl) ?_
  have hFc := va_free (wc := wc_wM hh dd n mo ma mb md mn ro k bk pa ov ca) hD hS hA [0, 1, 2, 3, 4, 5, 6, 7] rfl
  refine va_calli (va_runV (As := [.int (nI 0), .int x]) (rest := []) ⟨hx, hb, hml, hown, hts⟩ (wc_mBelow l dC dI hh dd s.heap.size n mo ma mb md mn ro k bk pa ov ca hk (nI 0) x) (cwV 2 hts (lw_V q236 q237 q238 q12 q239) rfl rfl rfl (by decide +kernel) ⟨Nat.le_of_ble_eq_true rfl, Nat.le_of_ble_eq_true rfl⟩) (wc_preV hK hP hD (ci := 1) (q0 := 0) rfl rfl) rfl rfl hl.1 rfl (lv_room (Nat.le_of_ble_eq_true rfl)) dX1_register_3 ⟨Nat.le_of_ble_eq_true rfl, Nat.le_of_ble_eq_true rfl⟩) hS (fun q _ h => hFc q h) hFc (fun r_3 u t H_1 locs ht hvm hw hBw hz1 hk1 hS => ?_)
  obtain ⟨hq_3, rfl⟩ := hw
  obtain ⟨hP1, hK1, hD1⟩ := hBw
  rw [ht] at hP1
  have hP : va_P (dC, dI) vwCl (wc_wM hh dd n mo ma mb md mn ro k bk pa ov ca) H_1 := hP1
  have hD : va_D A (wc_wM hh dd n mo ma mb md mn ro k bk pa ov ca) := hD1.weaken (fun _ q _ h => hFc q.1 h)
  refine wc_top (show r_3 = wc_be (nI 0) x k ro from hq_3) ?_
  exact W.iret (v := wc_be (nI 0) x k ro) hx hb hr (fun t ht hW => ⟨⟨wc_be (nI 0) x k ro, (n, mo, ma, mb, md, mn, ro, k, bk, pa, ov, ca), rfl, ⟨rfl, rfl⟩, by rw [ht]; exact hP, va_K.moved hW.alike hK, hD⟩, hS.F ht⟩) hS.2.2 dX1_register_6
set_option maxHeartbeats 4000000 in
set_option maxRecDepth 100000 in
/-- put(r, v) of the model -/
theorem wc_mPut (l : Launch) (dC : Nat → ClassId) (dI : Nat → Nat → Nat) (hh : Nat → Nat) (dd : Nat → ClassId) (sz : Nat) (n : Nat) (mo ma mb md mn ro : Nat → Int32) (k : Nat) (bk : Nat → Int32) (pa ov ca : Int32) (hk : k ≤ 29) (x v : Int32) : Met l yX1_put (ws_ yX1_put cX1_put 3 (some .boolean)) ({ frames := 1, cells := 0, slots := 0, locals := 21 }) (va_Pc [.ref (hh 0), .int x, .int v] (wc_pw dC dI (wc_wM hh dd n mo ma mb md mn ro k bk pa ov ca) (wc_tM dd) sz)) (va_Qi (fun (r : Int32) (u : wc_SM) => r = wc_isr x ∧ u = (n, mo, ma, mb, md, mn, wc_pu x v k ro, k, bk, pa, ov, ca)) (wc_bM dC dI hh dd (va_A (wc_wM hh dd n mo ma mb md mn ro k bk pa ov ca) sz)) (va_A (wc_wM hh dd n mo ma mb md mn ro k bk pa ov ca) sz)) 0 0 (va_A (wc_wM hh dd n mo ma mb md mn ro k bk pa ov ca) sz) := by
  refine Met.ofW (cc := cX1_put) (maxL := 3) (ret := (some .boolean)) (by decide) rfl ?_
  intro p e s m args below meth c s₁ B hml hv
  obtain ⟨rfl, hsz, hP, hK, hD0⟩ := hv
  have hx := B.exec
  have hb := B.bytes
  have hr := B.returns
  have hts := atoms_spec (ws := ws_ yX1_put cX1_put 3 (some .boolean)) B.pre
  have hts : ∀ w ∈ lw_all, w.before _ s = true := fun w h => hts w (List.mem_cons_of_mem _ h)
  have hown : s.vm.findClass RX1 = some m.cls := findClass_of_methodNamed B.named
  have hlocks := B.notSynchronized
  subst hsz
  have hD := hD0.self (sz := s.heap.size)
  generalize hAe : va_A (wc_wM hh dd n mo ma mb md mn ro k bk pa ov ca) s.heap.size = A at hD ⊢
  have hA : ∀ q : Nat, s.heap.size ≤ q → A q := fun q h => by rw [← hAe]; exact Or.inr h
  have hS : va_S A s.heap s.heap [] := va_S.rf
  have hP : va_P (dC, dI) vwCl (wc_wM hh dd n mo ma mb md mn ro k bk pa ov ca) s.heap := hP
  have hl := lv_entry ([.ref (hh 0), .int x, .int v]) (n := 3) (Nat.le_of_ble_eq_true rfl)
  rw [lg_entry_eq]
  generalize (lg_sl ([.ref (hh 0), .int x, .int v]) ++ List.replicate (3 - (lg_sl ([.ref (hh 0), .int x, .int v])).length) Slot.unset).toArray = ls at hl ⊢
  have hl : lv_has ls 3 [(0, .ref (hh 0)), (1, .int x), (2, .int v)] := hl
  refine lv_aload_n hx hb dX1_put_0 rfl (lv_at hl 0 rfl) ?_
  refine lv_iload_n hx hb dX1_put_1 rfl (lv_at hl 1 rfl) ?_
  have hFc := wc_free0 hS hA
  refine va_calli (va_runV (As := [.int x]) (rest := []) ⟨hx, hb, hml, hown, hts⟩ (wc_mIsRegister l s.heap.size (hh 0) x) (cwV 1 hts (lw_V q240 q242 qs9 q12 q243) rfl rfl rfl (by decide +kernel) ⟨Nat.le_of_ble_eq_true rfl, Nat.le_of_ble_eq_true rfl⟩) (wc_preV0 hK hP (ci := 1) (q0 := 0) rfl rfl) rfl rfl hl.1 rfl (lv_room (Nat.le_of_ble_eq_true rfl)) dX1_put_2 ⟨Nat.le_of_ble_eq_true rfl, Nat.le_of_ble_eq_true rfl⟩) hS (fun q _ h => hFc q h) hFc (fun r_2 u t H_1 locs ht hvm hw hBw hz1 hk1 hS => ?_)
  have hq_2 := hw
  have hP := wc_keep hP hk1
  rcases wc_isr_cases x with ⟨hz, hz2⟩ | ⟨hz, j, hj, rfl⟩
  · refine wc_top (show r_2 = 0 from hq_2.trans hz) ?_
    refine lv_if_ne (tgt := 10) hx hb dX1_put_5 (by decide) (fun c_5 => ?_) (fun c_5 => ?_)
    · exact absurd rfl c_5
    · refine lv_iconst (v := 0) hx hb dX1_put_8 (by decide +kernel) ?_
      exact W.zret (v := 0) hx hb hr rfl (fun t ht hW => ⟨⟨0, (n, mo, ma, mb, md, mn, ro, k, bk, pa, ov, ca), rfl, ⟨hz.symm, by rw [wc_pu2 hz2]⟩, by rw [ht]; exact hP, va_K.moved hW.alike hK, hD⟩, hS.F ht⟩) hS.2.2 dX1_put_9
  · refine wc_top (show r_2 = 1 from hq_2.trans hz) ?_
    refine lv_if_ne (tgt := 10) hx hb dX1_put_5 (by decide) (fun c_5 => ?_) (fun c_5 => ?_)
    · refine lv_aload_n hx hb dX1_put_10 rfl (lv_at hl 0 rfl) ?_
      refine va_get (D := (dC, dI)) (ci := 1) (v := .ref (hh 6)) (C := RX1) (T := TX1) (N := 12) hx hb hts in_X1 hown hK hP 0 rfl rfl 6 (by decide) (hts _ q169) (fun _ h9 => h9) rfl dX1_put_11 ?_
      refine lv_iconst (v := nI 4) hx hb dX1_put_14 (by decide +kernel) ?_
      refine lv_aload_n hx hb dX1_put_15 rfl (lv_at hl 0 rfl) ?_
      refine va_get (D := (dC, dI)) (ci := 1) (v := .int (nI k)) (C := RX1) (T := TX1) (N := 12) hx hb hts in_X1 hown hK hP 0 rfl rfl 7 (by decide) (hts _ q170) (fun _ h9 => h9) rfl dX1_put_16 ?_
      refine wc_imul hx hb (x := 4) (y := k) dX1_put_19 ?_
      refine lv_iload_n hx hb dX1_put_20 rfl (lv_at hl 1 rfl) ?_
      refine wc_iadd hx hb (x := 4 * k) (y := j) dX1_put_21 ?_
      refine lv_iload_n hx hb dX1_put_22 rfl (lv_at hl 2 rfl) ?_
      refine wc_iast hx hb hK hP hD hS 6 5 rfl rfl (j := 4 * k + j) (by omega) (by decide) dX1_put_23 (fun H_2 locs hP hD hS => ?_)
      have hP : va_P (dC, dI) vwCl (wc_wM hh dd n mo ma mb md mn (upd ro (4 * k + j) v) k bk pa ov ca) H_2 := hP
      have hD : va_D A (wc_wM hh dd n mo ma mb md mn (upd ro (4 * k + j) v) k bk pa ov ca) := hD
      refine lv_iconst (v := 1) hx hb dX1_put_24 (by decide +kernel) ?_
      exact W.zret (v := 1) hx hb hr rfl (fun t ht hW => ⟨⟨1, (n, mo, ma, mb, md, mn, upd ro (4 * k + j) v, k, bk, pa, ov, ca), rfl, ⟨hz.symm, by rw [wc_pu1 hj]⟩, by rw [ht]; exact hP, va_K.moved hW.alike hK, hD⟩, hS.F ht⟩) hS.2.2 dX1_put_25
    · exact absurd c_5 (by decide)
set_option maxHeartbeats 4000000 in
set_option maxRecDepth 100000 in
/-- backTo(d) of the model -/
theorem wc_mBackTo (l : Launch) (dC : Nat → ClassId) (dI : Nat → Nat → Nat) (hh : Nat → Nat) (dd : Nat → ClassId) (sz : Nat) (n : Nat) (mo ma mb md mn ro : Nat → Int32) (k : Nat) (bk : Nat → Int32) (pa ov ca : Int32) (hk : k ≤ 29) (d : Int32) : Met l yX1_backTo (ws_ yX1_backTo cX1_backTo 2 (some .int)) ({ frames := 0, cells := 0, slots := 0, locals := 0 }) (va_Pc [.ref (hh 0), .int d] (wc_pw dC dI (wc_wM hh dd n mo ma mb md mn ro k bk pa ov ca) (wc_tM dd) sz)) (va_Qi (fun (r : Int32) (u : wc_SM) => r = wc_bt d k bk ∧ u = (n, mo, ma, mb, md, mn, ro, k, bk, pa, ov, ca)) (wc_bM dC dI hh dd (va_A (wc_wM hh dd n mo ma mb md mn ro k bk pa ov ca) sz)) (va_A (wc_wM hh dd n mo ma mb md mn ro k bk pa ov ca) sz)) 0 0 (va_A (wc_wM hh dd n mo ma mb md mn ro k bk pa ov ca) sz) := by
  refine Met.ofW (cc := cX1_backTo) (maxL := 2) (ret := (some .int)) (by decide) rfl ?_
  intro p e s m args below meth c s₁ B hml hv
  obtain ⟨rfl, hsz, hP, hK, hD0⟩ := hv
  have hx := B.exec
  have hb := B.bytes
  have hr := B.returns
  have hts := atoms_spec (ws := ws_ yX1_backTo cX1_backTo 2 (some .int)) B.pre
  have hts : ∀ w ∈ lw_all, w.before _ s = true := fun w h => hts w (List.mem_cons_of_mem _ h)
  have hown : s.vm.findClass RX1 = some m.cls := findClass_of_methodNamed B.named
  have hlocks := B.notSynchronized
  subst hsz
  have hD := hD0.self (sz := s.heap.size)
  generalize hAe : va_A (wc_wM hh dd n mo ma mb md mn ro k bk pa ov ca) s.heap.size = A at hD ⊢
  have hA : ∀ q : Nat, s.heap.size ≤ q → A q := fun q h => by rw [← hAe]; exact Or.inr h
  have hS : va_S A s.heap s.heap [] := va_S.rf
  have hP : va_P (dC, dI) vwCl (wc_wM hh dd n mo ma mb md mn ro k bk pa ov ca) s.heap := hP
  have hl := lv_entry ([.ref (hh 0), .int d]) (n := 2) (Nat.le_of_ble_eq_true rfl)
  rw [lg_entry_eq]
  generalize (lg_sl ([.ref (hh 0), .int d]) ++ List.replicate (2 - (lg_sl ([.ref (hh 0), .int d])).length) Slot.unset).toArray = ls at hl ⊢
  have hl : lv_has ls 2 [(0, .ref (hh 0)), (1, .int d)] := hl
  refine lv_iload_n hx hb dX1_backTo_0 rfl (lv_at hl 1 rfl) ?_
  refine lv_if_lt (tgt := 26) hx hb dX1_backTo_1 (by decide) (fun c_1 => ?_) (fun c_1 => ?_)
  · refine lv_iconst (v := (-1)) hx hb dX1_backTo_26 (by decide +kernel) ?_
    exact W.iret (v := (-1)) hx hb hr (fun t ht hW => ⟨⟨(-1), (n, mo, ma, mb, md, mn, ro, k, bk, pa, ov, ca), rfl, ⟨(wc_bt2 (fun h => h.1 c_1)).symm, rfl⟩, by rw [ht]; exact hP, va_K.moved hW.alike hK, hD⟩, hS.F ht⟩) hS.2.2 dX1_backTo_27
  · refine lv_iload_n hx hb dX1_backTo_4 rfl (lv_at hl 1 rfl) ?_
    refine lv_aload_n hx hb dX1_backTo_5 rfl (lv_at hl 0 rfl) ?_
    refine va_get (D := (dC, dI)) (ci := 1) (v := .int (nI k)) (C := RX1) (T := TX1) (N := 12) hx hb hts in_X1 hown hK hP 0 rfl rfl 7 (by decide) (hts _ q170) (fun _ h9 => h9) rfl dX1_backTo_6 ?_
    refine lv_icmp_ge (tgt := 26) hx hb dX1_backTo_9 (by decide) (fun c_9 => ?_) (fun c_9 => ?_)
    · refine lv_iconst (v := (-1)) hx hb dX1_backTo_26 (by decide +kernel) ?_
      exact W.iret (v := (-1)) hx hb hr (fun t ht hW => ⟨⟨(-1), (n, mo, ma, mb, md, mn, ro, k, bk, pa, ov, ca), rfl, ⟨(wc_bt2 (fun h => h.2 c_9)).symm, rfl⟩, by rw [ht]; exact hP, va_K.moved hW.alike hK, hD⟩, hS.F ht⟩) hS.2.2 dX1_backTo_27
    · obtain ⟨q, hq0, rfl⟩ := nI_of c_1
      have hqk : q < k := Nat.not_le.mp (fun h => c_9 ((nI_leI (by omega) hq0).mpr h))
      refine lv_aload_n hx hb dX1_backTo_12 rfl (lv_at hl 0 rfl) ?_
      refine va_get (D := (dC, dI)) (ci := 1) (v := .ref (hh 7)) (C := RX1) (T := TX1) (N := 12) hx hb hts in_X1 hown hK hP 0 rfl rfl 8 (by decide) (hts _ q171) (fun _ h9 => h9) rfl dX1_backTo_13 ?_
      refine lv_aload_n hx hb dX1_backTo_16 rfl (lv_at hl 0 rfl) ?_
      refine va_get (D := (dC, dI)) (ci := 1) (v := .int (nI k)) (C := RX1) (T := TX1) (N := 12) hx hb hts in_X1 hown hK hP 0 rfl rfl 7 (by decide) (hts _ q170) (fun _ h9 => h9) rfl dX1_backTo_17 ?_
      refine lv_iload_n hx hb dX1_backTo_20 rfl (lv_at hl 1 rfl) ?_
      refine wc_isub hx hb (x := k) (y := q) (by omega) dX1_backTo_21 ?_
      refine wc_iald hx hb hK hP 7 6 rfl rfl (j := k - q) (by omega) (by decide) dX1_backTo_22 ?_
      refine lv_goto (tgt := 27) hx hb dX1_backTo_23 (by decide) ?_
      exact W.iret (v := bk (k - q)) hx hb hr (fun t ht hW => ⟨⟨bk (k - q), (n, mo, ma, mb, md, mn, ro, k, bk, pa, ov, ca), rfl, ⟨(wc_bt1 (by omega) hqk).symm, rfl⟩, by rw [ht]; exact hP, va_K.moved hW.alike hK, hD⟩, hS.F ht⟩) hS.2.2 dX1_backTo_27
set_option maxHeartbeats 4000000 in
set_option maxRecDepth 100000 in
/-- digest() of the model -/
theorem wc_mDigest (l : Launch) (dC : Nat → ClassId) (dI : Nat → Nat → Nat) (hh : Nat → Nat) (dd : Nat → ClassId) (sz : Nat) (n : Nat) (mo ma mb md mn ro : Nat → Int32) (k : Nat) (bk : Nat → Int32) (pa ov ca : Int32) (hk : k ≤ 29) : Met l yX1_digest (ws_ yX1_digest cX1_digest 4 (some .int)) ({ frames := 0, cells := 0, slots := 0, locals := 0 }) (va_Pc [.ref (hh 0)] (wc_pw dC dI (wc_wM hh dd n mo ma mb md mn ro k bk pa ov ca) (wc_tM dd) sz)) (va_Qi (fun (r : Int32) (u : wc_SM) => r = wc_dgo ro (k + 1) ∧ u = (n, mo, ma, mb, md, mn, ro, k, bk, pa, ov, ca)) (wc_bM dC dI hh dd (va_A (wc_wM hh dd n mo ma mb md mn ro k bk pa ov ca) sz)) (va_A (wc_wM hh dd n mo ma mb md mn ro k bk pa ov ca) sz)) 0 0 (va_A (wc_wM hh dd n mo ma mb md mn ro k bk pa ov ca) sz) := by
  refine Met.ofW (cc := cX1_digest) (maxL := 4) (ret := (some .int)) (by decide) rfl ?_
  intro p e s m args below meth c s₁ B hml hv
  obtain ⟨rfl, hsz, hP, hK, hD0⟩ := hv
  have hx := B.exec
  have hb := B.bytes
  have hr := B.returns
  have hts := atoms_spec (ws := ws_ yX1_digest cX1_digest 4 (some .int)) B.pre
  have hts : ∀ w ∈ lw_all, w.before _ s = true := fun w h => hts w (List.mem_cons_of_mem _ h)
  have hown : s.vm.findClass RX1 = some m.cls := findClass_of_methodNamed B.named
  have hlocks := B.notSynchronized
  subst hsz
  have hD := hD0.self (sz := s.heap.size)
  generalize hAe : va_A (wc_wM hh dd n mo ma mb md mn ro k bk pa ov ca) s.heap.size = A at hD ⊢
  have hA : ∀ q : Nat, s.heap.size ≤ q → A q := fun q h => by rw [← hAe]; exact Or.inr h
  have hS : va_S A s.heap s.heap [] := va_S.rf
  have hP : va_P (dC, dI) vwCl (wc_wM hh dd n mo ma mb md mn ro k bk pa ov ca) s.heap := hP
  have hl := lv_entry ([.ref (hh 0)]) (n := 4) (Nat.le_of_ble_eq_true rfl)
  rw [lg_entry_eq]
  generalize (lg_sl ([.ref (hh 0)]) ++ List.replicate (4 - (lg_sl ([.ref (hh 0)])).length) Slot.unset).toArray = ls at hl ⊢
  have hl : lv_has ls 4 [(0, .ref (hh 0))] := hl
  have loop : ∀ (f q r : Nat) (v : Int32), (k - q) * 9 + (8 - r) < f → q ≤ k → r ≤ 8 → v = wc_dgi ro q r (wc_dgo ro q) → ∀ (ls : Array Slot), lv_has ls 4 [(0, .ref (hh 0)), (1, .int v), (2, .int (nI q)), (3, .int (nI r))] → W p l e (headSpec (ws_ yX1_digest cX1_digest 4 (some .int)) ({ frames := 0, cells := 0, slots := 0, locals := 0 })).room s m ([.ref (hh 0)] : List Value).toArray below meth c s.heap [] 0 0 (MQ below (va_Qi (fun (r : Int32) (u : wc_SM) => r = wc_dgo ro (k + 1) ∧ u = (n, mo, ma, mb, md, mn, ro, k, bk, pa, ov, ca)) (wc_bM dC dI hh dd A) A) ([.ref (hh 0)] : List Value).toArray s 0 0 A) (F0 m 14 ls []) := by
    intro f
    induction f with
    | zero => intro q r v h; exact absurd h (by omega)
    | succ f ih =>
      intro q r v hf hq hr8 ev ls hl
      refine lv_iload_n hx hb dX1_digest_14 rfl (lv_at hl 3 rfl) ?_
      refine lv_bipush (v := nI 8) hx hb dX1_digest_15 (by decide +kernel) ?_
      refine wc_icmp_ge (tgt := 48) hx hb (x := r) (y := 8) (by omega) (by omega) dX1_digest_17 (by decide) (fun c_17 => ?_) (fun c_17 => ?_)
      · refine lv_iinc (v := nI (q + 1)) (lv' := [(2, .int (nI (q + 1))), (0, .ref (hh 0)), (1, .int v), (3, .int (nI r))]) hx hb dX1_digest_48 hl (k := 2) rfl (by first | exact nI_add _ _ | decide +kernel) (by decide) rfl (fun ls hl => ?_)
        refine lv_goto (tgt := 4) hx hb dX1_digest_51 (by decide) ?_
        refine lv_iload_n hx hb dX1_digest_4 rfl (lv_at hl 0 rfl) ?_
        refine lv_aload_n hx hb dX1_digest_5 rfl (lv_at hl 1 rfl) ?_
        refine va_get (D := (dC, dI)) (ci := 1) (v := .int (nI k)) (C := RX1) (T := TX1) (N := 12) hx hb hts in_X1 hown hK hP 0 rfl rfl 7 (by decide) (hts _ q170) (fun _ h9 => h9) rfl dX1_digest_6 ?_
        refine wc_icmp_gt (tgt := 54) hx hb (x := q + 1) (y := k) (by omega) (by omega) dX1_digest_9 (by decide) (fun c_9 => ?_) (fun c_9 => ?_)
        · have hqk : q = k := by omega
          have hr9 : r = 8 := by omega
          subst hqk
          subst hr9
          refine lv_iload_n hx hb dX1_digest_54 rfl (lv_at hl 2 rfl) ?_
          exact W.iret (v := v) hx hb hr (fun t ht hW => ⟨⟨v, (n, mo, ma, mb, md, mn, ro, q, bk, pa, ov, ca), rfl, ⟨ev, rfl⟩, by rw [ht]; exact hP, va_K.moved hW.alike hK, hD⟩, hS.F ht⟩) hS.2.2 dX1_digest_55
        · have hr9 : r = 8 := by omega
          subst hr9
          refine lv_iconst (v := nI 0) hx hb dX1_digest_12 (by decide +kernel) ?_
          refine lv_istore_n (lv' := [(3, .int (nI 0)), (2, .int (nI (q + 1))), (0, .ref (hh 0)), (1, .int v)]) hx hb dX1_digest_13 rfl hl (by decide) rfl (fun ls hl => ?_)
          exact ih (q + 1) 0 v (by omega) (by omega) (by omega) ev ls (lv_sub hl [2, 3, 1, 0] rfl)
      · refine lv_iload_n hx hb dX1_digest_20 rfl (lv_at hl 1 rfl) ?_
        refine lv_bipush (v := nI 8) hx hb dX1_digest_21 (by decide +kernel) ?_
        refine lv_iload_n hx hb dX1_digest_23 rfl (lv_at hl 2 rfl) ?_
        refine wc_imul hx hb (x := 8) (y := q) dX1_digest_24 ?_
        refine lv_iload_n hx hb dX1_digest_25 rfl (lv_at hl 3 rfl) ?_
        refine wc_iadd hx hb (x := 8 * q) (y := r) dX1_digest_26 ?_
        refine lv_iconst (v := nI 1) hx hb dX1_digest_27 (by decide +kernel) ?_
        refine wc_iadd hx hb (x := 8 * q + r) (y := 1) dX1_digest_28 ?_
        refine lv_aload_n hx hb dX1_digest_29 rfl (lv_at hl 0 rfl) ?_
        refine va_get (D := (dC, dI)) (ci := 1) (v := .ref (hh 6)) (C := RX1) (T := TX1) (N := 12) hx hb hts in_X1 hown hK hP 0 rfl rfl 6 (by decide) (hts _ q169) (fun _ h9 => h9) rfl dX1_digest_30 ?_
        refine lv_iconst (v := nI 4) hx hb dX1_digest_33 (by decide +kernel) ?_
        refine lv_iload_n hx hb dX1_digest_34 rfl (lv_at hl 2 rfl) ?_
        refine wc_imul hx hb (x := 4) (y := q) dX1_digest_35 ?_
        refine lv_iload_n hx hb dX1_digest_36 rfl (lv_at hl 3 rfl) ?_
        refine wc_iadd hx hb (x := 4 * q) (y := r) dX1_digest_37 ?_
        refine wc_iald hx hb hK hP 6 5 rfl rfl (j := 4 * q + r) (by omega) (by decide) dX1_digest_38 ?_
        refine lv_imul hx hb dX1_digest_39 ?_
        refine lv_iadd hx hb dX1_digest_40 ?_
        refine lv_istore_n (lv' := [(1, .int (v + (nI (8 * q + r + 1) * (ro (4 * q + r))))), (0, .ref (hh 0)), (2, .int (nI q)), (3, .int (nI r))]) hx hb dX1_digest_41 rfl hl (by decide) rfl (fun ls hl => ?_)
        refine lv_iinc (v := nI (r + 1)) (lv' := [(3, .int (nI (r + 1))), (1, .int (v + (nI (8 * q + r + 1) * (ro (4 * q + r))))), (0, .ref (hh 0)), (2, .int (nI q))]) hx hb dX1_digest_42 hl (k := 3) rfl (by first | exact nI_add _ _ | decide +kernel) (by decide) rfl (fun ls hl => ?_)
        refine lv_goto (tgt := 14) hx hb dX1_digest_45 (by decide) ?_
        exact ih q (r + 1) (v + (nI (8 * q + r + 1) * (ro (4 * q + r)))) (by omega) hq (by omega) (by rw [ev]; rfl) ls (lv_sub hl [2, 1, 3, 0] rfl)
  refine lv_iconst (v := 0) hx hb dX1_digest_0 (by decide +kernel) ?_
  refine lv_istore_n (lv' := [(1, .int 0), (0, .ref (hh 0))]) hx hb dX1_digest_1 rfl hl (by decide) rfl (fun ls hl => ?_)
  refine lv_iconst (v := nI 0) hx hb dX1_digest_2 (by decide +kernel) ?_
  refine lv_istore_n (lv' := [(2, .int (nI 0)), (1, .int 0), (0, .ref (hh 0))]) hx hb dX1_digest_3 rfl hl (by decide) rfl (fun ls hl => ?_)
  refine lv_iload_n hx hb dX1_digest_4 rfl (lv_at hl 0 rfl) ?_
  refine lv_aload_n hx hb dX1_digest_5 rfl (lv_at hl 2 rfl) ?_
  refine va_get (D := (dC, dI)) (ci := 1) (v := .int (nI k)) (C := RX1) (T := TX1) (N := 12) hx hb hts in_X1 hown hK hP 0 rfl rfl 7 (by decide) (hts _ q170) (fun _ h9 => h9) rfl dX1_digest_6 ?_
  refine wc_icmp_gt (tgt := 54) hx hb (x := 0) (y := k) (by omega) (by omega) dX1_digest_9 (by decide) (fun c_9 => ?_) (fun c_9 => ?_)
  · exact absurd c_9 (by omega)
  · refine lv_iconst (v := nI 0) hx hb dX1_digest_12 (by decide +kernel) ?_
    refine lv_istore_n (lv' := [(3, .int (nI 0)), (2, .int (nI 0)), (1, .int 0), (0, .ref (hh 0))]) hx hb dX1_digest_13 rfl hl (by decide) rfl (fun ls hl => ?_)
    exact loop ((k - 0) * 9 + (8 - 0) + 1) 0 0 0 (by omega) (by omega) (by omega) rfl ls (lv_sub hl [3, 2, 1, 0] rfl)
end
section
/-! WindowedCallsModel: step, run -/
theorem wc_nx_k {o a b d ip : Nat} {w : Int32} {ro : Nat → Int32} {k : Nat} {bk : Nat → Int32} (ho : o < 8) (hk : k ≤ 29) (h5 : o = 5 → k ≤ 28) : (wc_nx o a b d ip w ro k bk).2.1 ≤ 29 := by
  rcases (show o = 0 ∨ o = 1 ∨ o = 2 ∨ o = 3 ∨ o = 4 ∨ o = 5 ∨ o = 6 ∨ o = 7 by omega) with rfl | rfl | rfl | rfl | rfl | rfl | rfl | rfl
  · exact hk
  · exact hk
  · exact hk
  · exact hk
  · exact hk
  · exact Nat.succ_le_succ (h5 rfl)
  · exact Nat.le_trans (Nat.sub_le k 1) hk
  · exact hk
set_option maxHeartbeats 4000000 in
set_option maxRecDepth 100000 in
/-- step() of the model -/
theorem wc_mStep (l : Launch) (dC : Nat → ClassId) (dI : Nat → Nat → Nat) (hh : Nat → Nat) (dd : Nat → ClassId) (sz : Nat) (n : Nat) (mo ma mb md mn ro : Nat → Int32) (k : Nat) (bk : Nat → Int32) (ca : Int32) (o a b d ip : Nat) (hn : n ≤ 24) (hip : ip < n) (eo : mo ip = nI o) (ea : ma ip = nI a) (eb : mb ip = nI b) (ed : md ip = nI d) (ho : o < 8) (ha : a < 8) (hb8 : b < 8) (hd : d < 8) (hk : k ≤ 29) (h5 : o = 5 → k ≤ 28) : Met l yX1_step (ws_ yX1_step cX1_step 9 none) ({ frames := 0, cells := 0, slots := 0, locals := 0 }) (va_Pc [.ref (hh 0)] (wc_pw dC dI (wc_wM hh dd n mo ma mb md mn ro k bk (nI ip) 0 ca) (wc_tM dd) sz)) (va_Qv (fun (u : wc_SM) => u = (n, mo, ma, mb, md, mn, (wc_nx o a b d ip (mn ip) ro k bk).1, (wc_nx o a b d ip (mn ip) ro k bk).2.1, (wc_nx o a b d ip (mn ip) ro k bk).2.2.1, (wc_nx o a b d ip (mn ip) ro k bk).2.2.2.1, (wc_nx o a b d ip (mn ip) ro k bk).2.2.2.2, ca + nI 1)) (wc_bM dC dI hh dd (va_A (wc_wM hh dd n mo ma mb md mn ro k bk (nI ip) 0 ca) sz)) (va_A (wc_wM hh dd n mo ma mb md mn ro k bk (nI ip) 0 ca) sz)) 0 0 (va_A (wc_wM hh dd n mo ma mb md mn ro k bk (nI ip) 0 ca) sz) := by
  refine Met.ofW (cc := cX1_step) (maxL := 9) (ret := none) (by decide) rfl ?_
  intro p e s m args below meth c s₁ B hml hv
  obtain ⟨rfl, hsz, hP, hK, hD0⟩ := hv
  have hx := B.exec
  have hb := B.bytes
  have hr := B.returns
  have hts := atoms_spec (ws := ws_ yX1_step cX1_step 9 none) B.pre
  have hts : ∀ w ∈ lw_all, w.before _ s = true := fun w h => hts w (List.mem_cons_of_mem _ h)
  have hown : s.vm.findClass RX1 = some m.cls := findClass_of_methodNamed B.named
  have hlocks := B.notSynchronized
  subst hsz
  have hD := hD0.self (sz := s.heap.size)
  generalize hAe : va_A (wc_wM hh dd n mo ma mb md mn ro k bk (nI ip) 0 ca) s.heap.size = A at hD ⊢
  have hA : ∀ q : Nat, s.heap.size ≤ q → A q := fun q h => by rw [← hAe]; exact Or.inr h
  have hS : va_S A s.heap s.heap [] := va_S.rf
  have hP : va_P (dC, dI) vwCl (wc_wM hh dd n mo ma mb md mn ro k bk (nI ip) 0 ca) s.heap := hP
  have hl := lv_entry ([.ref (hh 0)]) (n := 9) (Nat.le_of_ble_eq_true rfl)
  rw [lg_entry_eq]
  generalize (lg_sl ([.ref (hh 0)]) ++ List.replicate (9 - (lg_sl ([.ref (hh 0)])).length) Slot.unset).toArray = ls at hl ⊢
  have hl : lv_has ls 9 [(0, .ref (hh 0))] := hl
  refine lv_aload_n hx hb dX1_step_0 rfl (lv_at hl 0 rfl) ?_
  refine va_get (D := (dC, dI)) (ci := 1) (v := .ref (hh 1)) (C := RX1) (T := TX1) (N := 12) hx hb hts in_X1 hown hK hP 0 rfl rfl 1 (by decide) (hts _ q164) (fun _ h9 => h9) rfl dX1_step_1 ?_
  refine lv_aload_n hx hb dX1_step_4 rfl (lv_at hl 0 rfl) ?_
  refine va_get (D := (dC, dI)) (ci := 1) (v := .int (nI ip)) (C := RX1) (T := TX1) (N := 12) hx hb hts in_X1 hown hK hP 0 rfl rfl 9 (by decide) (hts _ q172) (fun _ h9 => h9) rfl dX1_step_5 ?_
  refine wc_iald hx hb hK hP 1 0 rfl rfl (j := ip) (by omega) (by decide) dX1_step_8 ?_
  refine wc_top (show mo ip = nI o from eo) ?_
  refine lv_istore_n (lv' := [(1, .int (nI o)), (0, .ref (hh 0))]) hx hb dX1_step_9 rfl hl (by decide) rfl (fun ls hl => ?_)
  refine lv_iconst (v := nI 4) hx hb dX1_step_10 (by decide +kernel) ?_
  refine lv_aload_n hx hb dX1_step_11 rfl (lv_at hl 1 rfl) ?_
  refine va_get (D := (dC, dI)) (ci := 1) (v := .int (nI k)) (C := RX1) (T := TX1) (N := 12) hx hb hts in_X1 hown hK hP 0 rfl rfl 7 (by decide) (hts _ q170) (fun _ h9 => h9) rfl dX1_step_12 ?_
  refine wc_imul hx hb (x := 4) (y := k) dX1_step_15 ?_
  refine lv_istore_n (lv' := [(2, .int (nI (4 * k))), (1, .int (nI o)), (0, .ref (hh 0))]) hx hb dX1_step_16 rfl hl (by decide) rfl (fun ls hl => ?_)
  refine lv_iload_n hx hb dX1_step_17 rfl (lv_at hl 0 rfl) ?_
  refine lv_aload_n hx hb dX1_step_18 rfl (lv_at hl 2 rfl) ?_
  refine va_get (D := (dC, dI)) (ci := 1) (v := .ref (hh 2)) (C := RX1) (T := TX1) (N := 12) hx hb hts in_X1 hown hK hP 0 rfl rfl 2 (by decide) (hts _ q165) (fun _ h9 => h9) rfl dX1_step_19 ?_
  refine lv_aload_n hx hb dX1_step_22 rfl (lv_at hl 2 rfl) ?_
  refine va_get (D := (dC, dI)) (ci := 1) (v := .int (nI ip)) (C := RX1) (T := TX1) (N := 12) hx hb hts in_X1 hown hK hP 0 rfl rfl 9 (by decide) (hts _ q172) (fun _ h9 => h9) rfl dX1_step_23 ?_
  refine wc_iald hx hb hK hP 2 1 rfl rfl (j := ip) (by omega) (by decide) dX1_step_26 ?_
  refine wc_top (show ma ip = nI a from ea) ?_
  refine wc_iadd hx hb (x := 4 * k) (y := a) dX1_step_27 ?_
  refine lv_istore_n (lv' := [(3, .int (nI (4 * k + a))), (2, .int (nI (4 * k))), (1, .int (nI o)), (0, .ref (hh 0))]) hx hb dX1_step_28 rfl hl (by decide) rfl (fun ls hl => ?_)
  refine lv_aload_n hx hb dX1_step_29 rfl (lv_at hl 3 rfl) ?_
  refine va_get (D := (dC, dI)) (ci := 1) (v := .ref (hh 6)) (C := RX1) (T := TX1) (N := 12) hx hb hts in_X1 hown hK hP 0 rfl rfl 6 (by decide) (hts _ q169) (fun _ h9 => h9) rfl dX1_step_30 ?_
  refine lv_iload_n hx hb dX1_step_33 rfl (lv_at hl 1 rfl) ?_
  refine lv_aload_n hx hb dX1_step_34 rfl (lv_at hl 3 rfl) ?_
  refine va_get (D := (dC, dI)) (ci := 1) (v := .ref (hh 3)) (C := RX1) (T := TX1) (N := 12) hx hb hts in_X1 hown hK hP 0 rfl rfl 3 (by decide) (hts _ q166) (fun _ h9 => h9) rfl dX1_step_35 ?_
  refine lv_aload_n hx hb dX1_step_38 rfl (lv_at hl 3 rfl) ?_
  refine va_get (D := (dC, dI)) (ci := 1) (v := .int (nI ip)) (C := RX1) (T := TX1) (N := 12) hx hb hts in_X1 hown hK hP 0 rfl rfl 9 (by decide) (hts _ q172) (fun _ h9 => h9) rfl dX1_step_39 ?_
  refine wc_iald hx hb hK hP 3 2 rfl rfl (j := ip) (by omega) (by decide) dX1_step_42 ?_
  refine wc_top (show mb ip = nI b from eb) ?_
  refine wc_iadd hx hb (x := 4 * k) (y := b) dX1_step_43 ?_
  refine wc_iald hx hb hK hP 6 5 rfl rfl (j := 4 * k + b) (by omega) (by decide) dX1_step_44 ?_
  refine lv_istore (lv' := [(4, .int (ro (4 * k + b))), (3, .int (nI (4 * k + a))), (2, .int (nI (4 * k))), (1, .int (nI o)), (0, .ref (hh 0))]) hx hb dX1_step_45 hl (by decide) rfl (fun ls hl => ?_)
  refine lv_aload_n hx hb dX1_step_47 rfl (lv_at hl 4 rfl) ?_
  refine va_get (D := (dC, dI)) (ci := 1) (v := .ref (hh 6)) (C := RX1) (T := TX1) (N := 12) hx hb hts in_X1 hown hK hP 0 rfl rfl 6 (by decide) (hts _ q169) (fun _ h9 => h9) rfl dX1_step_48 ?_
  refine lv_iload_n hx hb dX1_step_51 rfl (lv_at hl 2 rfl) ?_
  refine lv_aload_n hx hb dX1_step_52 rfl (lv_at hl 4 rfl) ?_
  refine va_get (D := (dC, dI)) (ci := 1) (v := .ref (hh 4)) (C := RX1) (T := TX1) (N := 12) hx hb hts in_X1 hown hK hP 0 rfl rfl 4 (by decide) (hts _ q167) (fun _ h9 => h9) rfl dX1_step_53 ?_
  refine lv_aload_n hx hb dX1_step_56 rfl (lv_at hl 4 rfl) ?_
  refine va_get (D := (dC, dI)) (ci := 1) (v := .int (nI ip)) (C := RX1) (T := TX1) (N := 12) hx hb hts in_X1 hown hK hP 0 rfl rfl 9 (by decide) (hts _ q172) (fun _ h9 => h9) rfl dX1_step_57 ?_
  refine wc_iald hx hb hK hP 4 3 rfl rfl (j := ip) (by omega) (by decide) dX1_step_60 ?_
  refine wc_top (show md ip = nI d from ed) ?_
  refine wc_iadd hx hb (x := 4 * k) (y := d) dX1_step_61 ?_
  refine wc_iald hx hb hK hP 6 5 rfl rfl (j := 4 * k + d) (by omega) (by decide) dX1_step_62 ?_
  refine lv_istore (lv' := [(5, .int (ro (4 * k + d))), (4, .int (ro (4 * k + b))), (3, .int (nI (4 * k + a))), (2, .int (nI (4 * k))), (1, .int (nI o)), (0, .ref (hh 0))]) hx hb dX1_step_63 hl (by decide) rfl (fun ls hl => ?_)
  refine lv_aload_n hx hb dX1_step_65 rfl (lv_at hl 5 rfl) ?_
  refine va_get (D := (dC, dI)) (ci := 1) (v := .ref (hh 5)) (C := RX1) (T := TX1) (N := 12) hx hb hts in_X1 hown hK hP 0 rfl rfl 5 (by decide) (hts _ q168) (fun _ h9 => h9) rfl dX1_step_66 ?_
  refine lv_aload_n hx hb dX1_step_69 rfl (lv_at hl 5 rfl) ?_
  refine va_get (D := (dC, dI)) (ci := 1) (v := .int (nI ip)) (C := RX1) (T := TX1) (N := 12) hx hb hts in_X1 hown hK hP 0 rfl rfl 9 (by decide) (hts _ q172) (fun _ h9 => h9) rfl dX1_step_70 ?_
  refine wc_iald hx hb hK hP 5 4 rfl rfl (j := ip) (by omega) (by decide) dX1_step_73 ?_
  refine lv_istore (lv' := [(6, .int (mn ip)), (5, .int (ro (4 * k + d))), (4, .int (ro (4 * k + b))), (3, .int (nI (4 * k + a))), (2, .int (nI (4 * k))), (1, .int (nI o)), (0, .ref (hh 0))]) hx hb dX1_step_74 hl (by decide) rfl (fun ls hl => ?_)
  refine lv_aload_n hx hb dX1_step_76 rfl (lv_at hl 6 rfl) ?_
  refine va_get (D := (dC, dI)) (ci := 1) (v := .int (nI ip)) (C := RX1) (T := TX1) (N := 12) hx hb hts in_X1 hown hK hP 0 rfl rfl 9 (by decide) (hts _ q172) (fun _ h9 => h9) rfl dX1_step_77 ?_
  refine lv_iconst (v := nI 1) hx hb dX1_step_80 (by decide +kernel) ?_
  refine wc_iadd hx hb (x := ip) (y := 1) dX1_step_81 ?_
  refine lv_istore (lv' := [(7, .int (nI (ip + 1))), (6, .int (mn ip)), (5, .int (ro (4 * k + d))), (4, .int (ro (4 * k + b))), (3, .int (nI (4 * k + a))), (2, .int (nI (4 * k))), (1, .int (nI o)), (0, .ref (hh 0))]) hx hb dX1_step_82 hl (by decide) rfl (fun ls hl => ?_)
  rcases (show o = 0 ∨ o = 1 ∨ o = 2 ∨ o = 3 ∨ o = 4 ∨ o = 5 ∨ o = 6 ∨ o = 7 by omega) with rfl | rfl | rfl | rfl | rfl | rfl | rfl | rfl
  · refine lv_iload_n hx hb dX1_step_84 rfl (lv_at hl 6 rfl) ?_
    refine wc_if_ne (tgt := 99) hx hb (x := 0) (by omega) dX1_step_85 (by decide) (fun c_85 => absurd c_85 (by omega)) (fun _ => ?_)
    refine lv_aload_n hx hb dX1_step_88 rfl (lv_at hl 7 rfl) ?_
    refine va_get (D := (dC, dI)) (ci := 1) (v := .ref (hh 6)) (C := RX1) (T := TX1) (N := 12) hx hb hts in_X1 hown hK hP 0 rfl rfl 6 (by decide) (hts _ q169) (fun _ h9 => h9) rfl dX1_step_89 ?_
    refine lv_iload_n hx hb dX1_step_92 rfl (lv_at hl 4 rfl) ?_
    refine lv_iload hx hb dX1_step_93 (lv_at hl 1 rfl) ?_
    refine wc_iast hx hb hK hP hD hS 6 5 rfl rfl (j := 4 * k + a) (by omega) (by decide) dX1_step_95 (fun H_1 locs hP hD hS => ?_)
    have hP : va_P (dC, dI) vwCl (wc_wM hh dd n mo ma mb md mn (upd ro (4 * k + a) (mn ip)) k bk (nI ip) 0 ca) H_1 := hP
    have hD : va_D A (wc_wM hh dd n mo ma mb md mn (upd ro (4 * k + a) (mn ip)) k bk (nI ip) 0 ca) := hD
    refine lv_goto (tgt := 311) hx hb dX1_step_96 (by decide) ?_
    refine lv_aload_n hx hb dX1_step_311 rfl (lv_at hl 7 rfl) ?_
    refine lv_iload hx hb dX1_step_312 (lv_at hl 0 rfl) ?_
    refine va_put (D := (dC, dI)) (ci := 1) (v := .int (nI (ip + 1))) (ty := .int) (C := RX1) (T := TX1) (N := 12) hx hb hts in_X1 tyX1 tyX1_ok nmX1 hown hK hP hD hS 0 rfl rfl 9 (by decide) (hts _ q172) (fun _ h9 => h9) rfl (by decide +kernel) rfl rfl (Nat.le_of_ble_eq_true rfl) dX1_step_314 (fun H_2 locs hP hD hS => ?_)
    have hP : va_P (dC, dI) vwCl (wc_wM hh dd n mo ma mb md mn (upd ro (4 * k + a) (mn ip)) k bk (nI (ip + 1)) 0 ca) H_2 := hP
    have hD : va_D A (wc_wM hh dd n mo ma mb md mn (upd ro (4 * k + a) (mn ip)) k bk (nI (ip + 1)) 0 ca) := hD
    refine lv_aload_n hx hb dX1_step_317 rfl (lv_at hl 7 rfl) ?_
    refine lv_dup hx hb dX1_step_318 rfl ?_
    refine va_get (D := (dC, dI)) (ci := 1) (v := .int ca) (C := RX1) (T := TX1) (N := 12) hx hb hts in_X1 hown hK hP 0 rfl rfl 11 (by decide) (hts _ q174) (fun _ h9 => h9) rfl dX1_step_319 ?_
    refine lv_iconst (v := nI 1) hx hb dX1_step_322 (by decide +kernel) ?_
    refine lv_iadd hx hb dX1_step_323 ?_
    refine va_put (D := (dC, dI)) (ci := 1) (v := .int (ca + nI 1)) (ty := .int) (C := RX1) (T := TX1) (N := 12) hx hb hts in_X1 tyX1 tyX1_ok nmX1 hown hK hP hD hS 0 rfl rfl 11 (by decide) (hts _ q174) (fun _ h9 => h9) rfl (by decide +kernel) rfl rfl (Nat.le_of_ble_eq_true rfl) dX1_step_324 (fun H_3 locs hP hD hS => ?_)
    have hP : va_P (dC, dI) vwCl (wc_wM hh dd n mo ma mb md mn (upd ro (4 * k + a) (mn ip)) k bk (nI (ip + 1)) 0 (ca + nI 1)) H_3 := hP
    have hD : va_D A (wc_wM hh dd n mo ma mb md mn (upd ro (4 * k + a) (mn ip)) k bk (nI (ip + 1)) 0 (ca + nI 1)) := hD
    exact W.vret hx hb hr (fun t ht hW => ⟨⟨(n, mo, ma, mb, md, mn, upd ro (4 * k + a) (mn ip), k, bk, nI (ip + 1), 0, ca + nI 1), rfl, rfl, by rw [ht]; exact hP, va_K.moved hW.alike hK, hD⟩, hS.F ht⟩) hS.2.2 dX1_step_327
  · refine lv_iload_n hx hb dX1_step_84 rfl (lv_at hl 6 rfl) ?_
    refine wc_if_ne (tgt := 99) hx hb (x := 1) (by omega) dX1_step_85 (by decide) (fun _ => ?_) (fun c_85 => absurd c_85 (by omega))
    refine lv_iload_n hx hb dX1_step_99 rfl (lv_at hl 6 rfl) ?_
    refine lv_iconst (v := nI 1) hx hb dX1_step_100 (by decide +kernel) ?_
    refine wc_icmp_ne (tgt := 118) hx hb (x := 1) (y := 1) (by omega) (by omega) dX1_step_101 (by decide) (fun c_101 => absurd c_101 (by omega)) (fun _ => ?_)
    refine lv_aload_n hx hb dX1_step_104 rfl (lv_at hl 7 rfl) ?_
    refine va_get (D := (dC, dI)) (ci := 1) (v := .ref (hh 6)) (C := RX1) (T := TX1) (N := 12) hx hb hts in_X1 hown hK hP 0 rfl rfl 6 (by decide) (hts _ q169) (fun _ h9 => h9) rfl dX1_step_105 ?_
    refine lv_iload_n hx hb dX1_step_108 rfl (lv_at hl 4 rfl) ?_
    refine lv_iload hx hb dX1_step_109 (lv_at hl 3 rfl) ?_
    refine lv_iload hx hb dX1_step_111 (lv_at hl 2 rfl) ?_
    refine lv_iadd hx hb dX1_step_113 ?_
    refine wc_iast hx hb hK hP hD hS 6 5 rfl rfl (j := 4 * k + a) (by omega) (by decide) dX1_step_114 (fun H_4 locs hP hD hS => ?_)
    have hP : va_P (dC, dI) vwCl (wc_wM hh dd n mo ma mb md mn (upd ro (4 * k + a) ((ro (4 * k + b)) + (ro (4 * k + d)))) k bk (nI ip) 0 ca) H_4 := hP
    have hD : va_D A (wc_wM hh dd n mo ma mb md mn (upd ro (4 * k + a) ((ro (4 * k + b)) + (ro (4 * k + d)))) k bk (nI ip) 0 ca) := hD
    refine lv_goto (tgt := 311) hx hb dX1_step_115 (by decide) ?_
    refine lv_aload_n hx hb dX1_step_311 rfl (lv_at hl 7 rfl) ?_
    refine lv_iload hx hb dX1_step_312 (lv_at hl 0 rfl) ?_
    refine va_put (D := (dC, dI)) (ci := 1) (v := .int (nI (ip + 1))) (ty := .int) (C := RX1) (T := TX1) (N := 12) hx hb hts in_X1 tyX1 tyX1_ok nmX1 hown hK hP hD hS 0 rfl rfl 9 (by decide) (hts _ q172) (fun _ h9 => h9) rfl (by decide +kernel) rfl rfl (Nat.le_of_ble_eq_true rfl) dX1_step_314 (fun H_5 locs hP hD hS => ?_)
    have hP : va_P (dC, dI) vwCl (wc_wM hh dd n mo ma mb md mn (upd ro (4 * k + a) ((ro (4 * k + b)) + (ro (4 * k + d)))) k bk (nI (ip + 1)) 0 ca) H_5 := hP
    have hD : va_D A (wc_wM hh dd n mo ma mb md mn (upd ro (4 * k + a) ((ro (4 * k + b)) + (ro (4 * k + d)))) k bk (nI (ip + 1)) 0 ca) := hD
    refine lv_aload_n hx hb dX1_step_317 rfl (lv_at hl 7 rfl) ?_
    refine lv_dup hx hb dX1_step_318 rfl ?_
    refine va_get (D := (dC, dI)) (ci := 1) (v := .int ca) (C := RX1) (T := TX1) (N := 12) hx hb hts in_X1 hown hK hP 0 rfl rfl 11 (by decide) (hts _ q174) (fun _ h9 => h9) rfl dX1_step_319 ?_
    refine lv_iconst (v := nI 1) hx hb dX1_step_322 (by decide +kernel) ?_
    refine lv_iadd hx hb dX1_step_323 ?_
    refine va_put (D := (dC, dI)) (ci := 1) (v := .int (ca + nI 1)) (ty := .int) (C := RX1) (T := TX1) (N := 12) hx hb hts in_X1 tyX1 tyX1_ok nmX1 hown hK hP hD hS 0 rfl rfl 11 (by decide) (hts _ q174) (fun _ h9 => h9) rfl (by decide +kernel) rfl rfl (Nat.le_of_ble_eq_true rfl) dX1_step_324 (fun H_6 locs hP hD hS => ?_)
    have hP : va_P (dC, dI) vwCl (wc_wM hh dd n mo ma mb md mn (upd ro (4 * k + a) ((ro (4 * k + b)) + (ro (4 * k + d)))) k bk (nI (ip + 1)) 0 (ca + nI 1)) H_6 := hP
    have hD : va_D A (wc_wM hh dd n mo ma mb md mn (upd ro (4 * k + a) ((ro (4 * k + b)) + (ro (4 * k + d)))) k bk (nI (ip + 1)) 0 (ca + nI 1)) := hD
    exact W.vret hx hb hr (fun t ht hW => ⟨⟨(n, mo, ma, mb, md, mn, upd ro (4 * k + a) ((ro (4 * k + b)) + (ro (4 * k + d))), k, bk, nI (ip + 1), 0, ca + nI 1), rfl, rfl, by rw [ht]; exact hP, va_K.moved hW.alike hK, hD⟩, hS.F ht⟩) hS.2.2 dX1_step_327
  · refine lv_iload_n hx hb dX1_step_84 rfl (lv_at hl 6 rfl) ?_
    refine wc_if_ne (tgt := 99) hx hb (x := 2) (by omega) dX1_step_85 (by decide) (fun _ => ?_) (fun c_85 => absurd c_85 (by omega))
    refine lv_iload_n hx hb dX1_step_99 rfl (lv_at hl 6 rfl) ?_
    refine lv_iconst (v := nI 1) hx hb dX1_step_100 (by decide +kernel) ?_
    refine wc_icmp_ne (tgt := 118) hx hb (x := 2) (y := 1) (by omega) (by omega) dX1_step_101 (by decide) (fun _ => ?_) (fun c_101 => absurd c_101 (by omega))
    refine lv_iload_n hx hb dX1_step_118 rfl (lv_at hl 6 rfl) ?_
    refine lv_iconst (v := nI 2) hx hb dX1_step_119 (by decide +kernel) ?_
    refine wc_icmp_ne (tgt := 137) hx hb (x := 2) (y := 2) (by omega) (by omega) dX1_step_120 (by decide) (fun c_120 => absurd c_120 (by omega)) (fun _ => ?_)
    refine lv_aload_n hx hb dX1_step_123 rfl (lv_at hl 7 rfl) ?_
    refine va_get (D := (dC, dI)) (ci := 1) (v := .ref (hh 6)) (C := RX1) (T := TX1) (N := 12) hx hb hts in_X1 hown hK hP 0 rfl rfl 6 (by decide) (hts _ q169) (fun _ h9 => h9) rfl dX1_step_124 ?_
    refine lv_iload_n hx hb dX1_step_127 rfl (lv_at hl 4 rfl) ?_
    refine lv_iload hx hb dX1_step_128 (lv_at hl 3 rfl) ?_
    refine lv_iload hx hb dX1_step_130 (lv_at hl 2 rfl) ?_
    refine lv_isub hx hb dX1_step_132 ?_
    refine wc_iast hx hb hK hP hD hS 6 5 rfl rfl (j := 4 * k + a) (by omega) (by decide) dX1_step_133 (fun H_7 locs hP hD hS => ?_)
    have hP : va_P (dC, dI) vwCl (wc_wM hh dd n mo ma mb md mn (upd ro (4 * k + a) ((ro (4 * k + b)) - (ro (4 * k + d)))) k bk (nI ip) 0 ca) H_7 := hP
    have hD : va_D A (wc_wM hh dd n mo ma mb md mn (upd ro (4 * k + a) ((ro (4 * k + b)) - (ro (4 * k + d)))) k bk (nI ip) 0 ca) := hD
    refine lv_goto (tgt := 311) hx hb dX1_step_134 (by decide) ?_
    refine lv_aload_n hx hb dX1_step_311 rfl (lv_at hl 7 rfl) ?_
    refine lv_iload hx hb dX1_step_312 (lv_at hl 0 rfl) ?_
    refine va_put (D := (dC, dI)) (ci := 1) (v := .int (nI (ip + 1))) (ty := .int) (C := RX1) (T := TX1) (N := 12) hx hb hts in_X1 tyX1 tyX1_ok nmX1 hown hK hP hD hS 0 rfl rfl 9 (by decide) (hts _ q172) (fun _ h9 => h9) rfl (by decide +kernel) rfl rfl (Nat.le_of_ble_eq_true rfl) dX1_step_314 (fun H_8 locs hP hD hS => ?_)
    have hP : va_P (dC, dI) vwCl (wc_wM hh dd n mo ma mb md mn (upd ro (4 * k + a) ((ro (4 * k + b)) - (ro (4 * k + d)))) k bk (nI (ip + 1)) 0 ca) H_8 := hP
    have hD : va_D A (wc_wM hh dd n mo ma mb md mn (upd ro (4 * k + a) ((ro (4 * k + b)) - (ro (4 * k + d)))) k bk (nI (ip + 1)) 0 ca) := hD
    refine lv_aload_n hx hb dX1_step_317 rfl (lv_at hl 7 rfl) ?_
    refine lv_dup hx hb dX1_step_318 rfl ?_
    refine va_get (D := (dC, dI)) (ci := 1) (v := .int ca) (C := RX1) (T := TX1) (N := 12) hx hb hts in_X1 hown hK hP 0 rfl rfl 11 (by decide) (hts _ q174) (fun _ h9 => h9) rfl dX1_step_319 ?_
    refine lv_iconst (v := nI 1) hx hb dX1_step_322 (by decide +kernel) ?_
    refine lv_iadd hx hb dX1_step_323 ?_
    refine va_put (D := (dC, dI)) (ci := 1) (v := .int (ca + nI 1)) (ty := .int) (C := RX1) (T := TX1) (N := 12) hx hb hts in_X1 tyX1 tyX1_ok nmX1 hown hK hP hD hS 0 rfl rfl 11 (by decide) (hts _ q174) (fun _ h9 => h9) rfl (by decide +kernel) rfl rfl (Nat.le_of_ble_eq_true rfl) dX1_step_324 (fun H_9 locs hP hD hS => ?_)
    have hP : va_P (dC, dI) vwCl (wc_wM hh dd n mo ma mb md mn (upd ro (4 * k + a) ((ro (4 * k + b)) - (ro (4 * k + d)))) k bk (nI (ip + 1)) 0 (ca + nI 1)) H_9 := hP
    have hD : va_D A (wc_wM hh dd n mo ma mb md mn (upd ro (4 * k + a) ((ro (4 * k + b)) - (ro (4 * k + d)))) k bk (nI (ip + 1)) 0 (ca + nI 1)) := hD
    exact W.vret hx hb hr (fun t ht hW => ⟨⟨(n, mo, ma, mb, md, mn, upd ro (4 * k + a) ((ro (4 * k + b)) - (ro (4 * k + d))), k, bk, nI (ip + 1), 0, ca + nI 1), rfl, rfl, by rw [ht]; exact hP, va_K.moved hW.alike hK, hD⟩, hS.F ht⟩) hS.2.2 dX1_step_327
  · refine lv_iload_n hx hb dX1_step_84 rfl (lv_at hl 6 rfl) ?_
    refine wc_if_ne (tgt := 99) hx hb (x := 3) (by omega) dX1_step_85 (by decide) (fun _ => ?_) (fun c_85 => absurd c_85 (by omega))
    refine lv_iload_n hx hb dX1_step_99 rfl (lv_at hl 6 rfl) ?_
    refine lv_iconst (v := nI 1) hx hb dX1_step_100 (by decide +kernel) ?_
    refine wc_icmp_ne (tgt := 118) hx hb (x := 3) (y := 1) (by omega) (by omega) dX1_step_101 (by decide) (fun _ => ?_) (fun c_101 => absurd c_101 (by omega))
    refine lv_iload_n hx hb dX1_step_118 rfl (lv_at hl 6 rfl) ?_
    refine lv_iconst (v := nI 2) hx hb dX1_step_119 (by decide +kernel) ?_
    refine wc_icmp_ne (tgt := 137) hx hb (x := 3) (y := 2) (by omega) (by omega) dX1_step_120 (by decide) (fun _ => ?_) (fun c_120 => absurd c_120 (by omega))
    refine lv_iload_n hx hb dX1_step_137 rfl (lv_at hl 6 rfl) ?_
    refine lv_iconst (v := nI 4) hx hb dX1_step_138 (by decide +kernel) ?_
    refine wc_icmp_ne (tgt := 153) hx hb (x := 3) (y := 4) (by omega) (by omega) dX1_step_139 (by decide) (fun _ => ?_) (fun c_139 => absurd c_139 (by omega))
    refine lv_iload_n hx hb dX1_step_153 rfl (lv_at hl 6 rfl) ?_
    refine lv_iconst (v := nI 5) hx hb dX1_step_154 (by decide +kernel) ?_
    refine wc_icmp_ne (tgt := 217) hx hb (x := 3) (y := 5) (by omega) (by omega) dX1_step_155 (by decide) (fun _ => ?_) (fun c_155 => absurd c_155 (by omega))
    refine lv_iload_n hx hb dX1_step_217 rfl (lv_at hl 6 rfl) ?_
    refine lv_bipush (v := nI 6) hx hb dX1_step_218 (by decide +kernel) ?_
    refine wc_icmp_ne (tgt := 288) hx hb (x := 3) (y := 6) (by omega) (by omega) dX1_step_220 (by decide) (fun _ => ?_) (fun c_220 => absurd c_220 (by omega))
    refine lv_iload_n hx hb dX1_step_288 rfl (lv_at hl 6 rfl) ?_
    refine lv_iconst (v := nI 3) hx hb dX1_step_289 (by decide +kernel) ?_
    refine wc_icmp_eq (tgt := 302) hx hb (x := 3) (y := 3) (by omega) (by omega) dX1_step_290 (by decide) (fun _ => ?_) (fun c_290 => absurd c_290 (by omega))
    refine lv_iload hx hb dX1_step_302 (lv_at hl 1 rfl) ?_
    refine lv_goto (tgt := 309) hx hb dX1_step_304 (by decide) ?_
    refine lv_istore (lv' := [(7, .int (mn ip)), (6, .int (mn ip)), (5, .int (ro (4 * k + d))), (4, .int (ro (4 * k + b))), (3, .int (nI (4 * k + a))), (2, .int (nI (4 * k))), (1, .int (nI 3)), (0, .ref (hh 0))]) hx hb dX1_step_309 hl (by decide) rfl (fun ls hl => ?_)
    refine lv_aload_n hx hb dX1_step_311 rfl (lv_at hl 7 rfl) ?_
    refine lv_iload hx hb dX1_step_312 (lv_at hl 0 rfl) ?_
    refine va_put (D := (dC, dI)) (ci := 1) (v := .int (mn ip)) (ty := .int) (C := RX1) (T := TX1) (N := 12) hx hb hts in_X1 tyX1 tyX1_ok nmX1 hown hK hP hD hS 0 rfl rfl 9 (by decide) (hts _ q172) (fun _ h9 => h9) rfl (by decide +kernel) rfl rfl (Nat.le_of_ble_eq_true rfl) dX1_step_314 (fun H_10 locs hP hD hS => ?_)
    have hP : va_P (dC, dI) vwCl (wc_wM hh dd n mo ma mb md mn ro k bk (mn ip) 0 ca) H_10 := hP
    have hD : va_D A (wc_wM hh dd n mo ma mb md mn ro k bk (mn ip) 0 ca) := hD
    refine lv_aload_n hx hb dX1_step_317 rfl (lv_at hl 7 rfl) ?_
    refine lv_dup hx hb dX1_step_318 rfl ?_
    refine va_get (D := (dC, dI)) (ci := 1) (v := .int ca) (C := RX1) (T := TX1) (N := 12) hx hb hts in_X1 hown hK hP 0 rfl rfl 11 (by decide) (hts _ q174) (fun _ h9 => h9) rfl dX1_step_319 ?_
    refine lv_iconst (v := nI 1) hx hb dX1_step_322 (by decide +kernel) ?_
    refine lv_iadd hx hb dX1_step_323 ?_
    refine va_put (D := (dC, dI)) (ci := 1) (v := .int (ca + nI 1)) (ty := .int) (C := RX1) (T := TX1) (N := 12) hx hb hts in_X1 tyX1 tyX1_ok nmX1 hown hK hP hD hS 0 rfl rfl 11 (by decide) (hts _ q174) (fun _ h9 => h9) rfl (by decide +kernel) rfl rfl (Nat.le_of_ble_eq_true rfl) dX1_step_324 (fun H_11 locs hP hD hS => ?_)
    have hP : va_P (dC, dI) vwCl (wc_wM hh dd n mo ma mb md mn ro k bk (mn ip) 0 (ca + nI 1)) H_11 := hP
    have hD : va_D A (wc_wM hh dd n mo ma mb md mn ro k bk (mn ip) 0 (ca + nI 1)) := hD
    exact W.vret hx hb hr (fun t ht hW => ⟨⟨(n, mo, ma, mb, md, mn, ro, k, bk, mn ip, 0, ca + nI 1), rfl, rfl, by rw [ht]; exact hP, va_K.moved hW.alike hK, hD⟩, hS.F ht⟩) hS.2.2 dX1_step_327
  · refine lv_iload_n hx hb dX1_step_84 rfl (lv_at hl 6 rfl) ?_
    refine wc_if_ne (tgt := 99) hx hb (x := 4) (by omega) dX1_step_85 (by decide) (fun _ => ?_) (fun c_85 => absurd c_85 (by omega))
    refine lv_iload_n hx hb dX1_step_99 rfl (lv_at hl 6 rfl) ?_
    refine lv_iconst (v := nI 1) hx hb dX1_step_100 (by decide +kernel) ?_
    refine wc_icmp_ne (tgt := 118) hx hb (x := 4) (y := 1) (by omega) (by omega) dX1_step_101 (by decide) (fun _ => ?_) (fun c_101 => absurd c_101 (by omega))
    refine lv_iload_n hx hb dX1_step_118 rfl (lv_at hl 6 rfl) ?_
    refine lv_iconst (v := nI 2) hx hb dX1_step_119 (by decide +kernel) ?_
    refine wc_icmp_ne (tgt := 137) hx hb (x := 4) (y := 2) (by omega) (by omega) dX1_step_120 (by decide) (fun _ => ?_) (fun c_120 => absurd c_120 (by omega))
    refine lv_iload_n hx hb dX1_step_137 rfl (lv_at hl 6 rfl) ?_
    refine lv_iconst (v := nI 4) hx hb dX1_step_138 (by decide +kernel) ?_
    refine wc_icmp_ne (tgt := 153) hx hb (x := 4) (y := 4) (by omega) (by omega) dX1_step_139 (by decide) (fun c_139 => absurd c_139 (by omega)) (fun _ => ?_)
    refine lv_aload_n hx hb dX1_step_142 rfl (lv_at hl 7 rfl) ?_
    refine va_get (D := (dC, dI)) (ci := 1) (v := .ref (hh 6)) (C := RX1) (T := TX1) (N := 12) hx hb hts in_X1 hown hK hP 0 rfl rfl 6 (by decide) (hts _ q169) (fun _ h9 => h9) rfl dX1_step_143 ?_
    refine lv_iload_n hx hb dX1_step_146 rfl (lv_at hl 4 rfl) ?_
    refine lv_iload hx hb dX1_step_147 (lv_at hl 3 rfl) ?_
    refine wc_iast hx hb hK hP hD hS 6 5 rfl rfl (j := 4 * k + a) (by omega) (by decide) dX1_step_149 (fun H_12 locs hP hD hS => ?_)
    have hP : va_P (dC, dI) vwCl (wc_wM hh dd n mo ma mb md mn (upd ro (4 * k + a) (ro (4 * k + b))) k bk (nI ip) 0 ca) H_12 := hP
    have hD : va_D A (wc_wM hh dd n mo ma mb md mn (upd ro (4 * k + a) (ro (4 * k + b))) k bk (nI ip) 0 ca) := hD
    refine lv_goto (tgt := 311) hx hb dX1_step_150 (by decide) ?_
    refine lv_aload_n hx hb dX1_step_311 rfl (lv_at hl 7 rfl) ?_
    refine lv_iload hx hb dX1_step_312 (lv_at hl 0 rfl) ?_
    refine va_put (D := (dC, dI)) (ci := 1) (v := .int (nI (ip + 1))) (ty := .int) (C := RX1) (T := TX1) (N := 12) hx hb hts in_X1 tyX1 tyX1_ok nmX1 hown hK hP hD hS 0 rfl rfl 9 (by decide) (hts _ q172) (fun _ h9 => h9) rfl (by decide +kernel) rfl rfl (Nat.le_of_ble_eq_true rfl) dX1_step_314 (fun H_13 locs hP hD hS => ?_)
    have hP : va_P (dC, dI) vwCl (wc_wM hh dd n mo ma mb md mn (upd ro (4 * k + a) (ro (4 * k + b))) k bk (nI (ip + 1)) 0 ca) H_13 := hP
    have hD : va_D A (wc_wM hh dd n mo ma mb md mn (upd ro (4 * k + a) (ro (4 * k + b))) k bk (nI (ip + 1)) 0 ca) := hD
    refine lv_aload_n hx hb dX1_step_317 rfl (lv_at hl 7 rfl) ?_
    refine lv_dup hx hb dX1_step_318 rfl ?_
    refine va_get (D := (dC, dI)) (ci := 1) (v := .int ca) (C := RX1) (T := TX1) (N := 12) hx hb hts in_X1 hown hK hP 0 rfl rfl 11 (by decide) (hts _ q174) (fun _ h9 => h9) rfl dX1_step_319 ?_
    refine lv_iconst (v := nI 1) hx hb dX1_step_322 (by decide +kernel) ?_
    refine lv_iadd hx hb dX1_step_323 ?_
    refine va_put (D := (dC, dI)) (ci := 1) (v := .int (ca + nI 1)) (ty := .int) (C := RX1) (T := TX1) (N := 12) hx hb hts in_X1 tyX1 tyX1_ok nmX1 hown hK hP hD hS 0 rfl rfl 11 (by decide) (hts _ q174) (fun _ h9 => h9) rfl (by decide +kernel) rfl rfl (Nat.le_of_ble_eq_true rfl) dX1_step_324 (fun H_14 locs hP hD hS => ?_)
    have hP : va_P (dC, dI) vwCl (wc_wM hh dd n mo ma mb md mn (upd ro (4 * k + a) (ro (4 * k + b))) k bk (nI (ip + 1)) 0 (ca + nI 1)) H_14 := hP
    have hD : va_D A (wc_wM hh dd n mo ma mb md mn (upd ro (4 * k + a) (ro (4 * k + b))) k bk (nI (ip + 1)) 0 (ca + nI 1)) := hD
    exact W.vret hx hb hr (fun t ht hW => ⟨⟨(n, mo, ma, mb, md, mn, upd ro (4 * k + a) (ro (4 * k + b)), k, bk, nI (ip + 1), 0, ca + nI 1), rfl, rfl, by rw [ht]; exact hP, va_K.moved hW.alike hK, hD⟩, hS.F ht⟩) hS.2.2 dX1_step_327
  · have hk28 : k ≤ 28 := h5 rfl
    refine lv_iload_n hx hb dX1_step_84 rfl (lv_at hl 6 rfl) ?_
    refine wc_if_ne (tgt := 99) hx hb (x := 5) (by omega) dX1_step_85 (by decide) (fun _ => ?_) (fun c_85 => absurd c_85 (by omega))
    refine lv_iload_n hx hb dX1_step_99 rfl (lv_at hl 6 rfl) ?_
    refine lv_iconst (v := nI 1) hx hb dX1_step_100 (by decide +kernel) ?_
    refine wc_icmp_ne (tgt := 118) hx hb (x := 5) (y := 1) (by omega) (by omega) dX1_step_101 (by decide) (fun _ => ?_) (fun c_101 => absurd c_101 (by omega))
    refine lv_iload_n hx hb dX1_step_118 rfl (lv_at hl 6 rfl) ?_
    refine lv_iconst (v := nI 2) hx hb dX1_step_119 (by decide +kernel) ?_
    refine wc_icmp_ne (tgt := 137) hx hb (x := 5) (y := 2) (by omega) (by omega) dX1_step_120 (by decide) (fun _ => ?_) (fun c_120 => absurd c_120 (by omega))
    refine lv_iload_n hx hb dX1_step_137 rfl (lv_at hl 6 rfl) ?_
    refine lv_iconst (v := nI 4) hx hb dX1_step_138 (by decide +kernel) ?_
    refine wc_icmp_ne (tgt := 153) hx hb (x := 5) (y := 4) (by omega) (by omega) dX1_step_139 (by decide) (fun _ => ?_) (fun c_139 => absurd c_139 (by omega))
    refine lv_iload_n hx hb dX1_step_153 rfl (lv_at hl 6 rfl) ?_
    refine lv_iconst (v := nI 5) hx hb dX1_step_154 (by decide +kernel) ?_
    refine wc_icmp_ne (tgt := 217) hx hb (x := 5) (y := 5) (by omega) (by omega) dX1_step_155 (by decide) (fun c_155 => absurd c_155 (by omega)) (fun _ => ?_)
    refine lv_aload_n hx hb dX1_step_158 rfl (lv_at hl 7 rfl) ?_
    refine lv_dup hx hb dX1_step_159 rfl ?_
    refine va_get (D := (dC, dI)) (ci := 1) (v := .int (nI k)) (C := RX1) (T := TX1) (N := 12) hx hb hts in_X1 hown hK hP 0 rfl rfl 7 (by decide) (hts _ q170) (fun _ h9 => h9) rfl dX1_step_160 ?_
    refine lv_iconst (v := nI 1) hx hb dX1_step_163 (by decide +kernel) ?_
    refine wc_iadd hx hb (x := k) (y := 1) dX1_step_164 ?_
    refine va_put (D := (dC, dI)) (ci := 1) (v := .int (nI (k + 1))) (ty := .int) (C := RX1) (T := TX1) (N := 12) hx hb hts in_X1 tyX1 tyX1_ok nmX1 hown hK hP hD hS 0 rfl rfl 7 (by decide) (hts _ q170) (fun _ h9 => h9) rfl (by decide +kernel) rfl rfl (Nat.le_of_ble_eq_true rfl) dX1_step_165 (fun H_15 locs hP hD hS => ?_)
    have hP : va_P (dC, dI) vwCl (wc_wM hh dd n mo ma mb md mn ro (k + 1) bk (nI ip) 0 ca) H_15 := hP
    have hD : va_D A (wc_wM hh dd n mo ma mb md mn ro (k + 1) bk (nI ip) 0 ca) := hD
    refine lv_aload_n hx hb dX1_step_168 rfl (lv_at hl 7 rfl) ?_
    refine va_get (D := (dC, dI)) (ci := 1) (v := .ref (hh 7)) (C := RX1) (T := TX1) (N := 12) hx hb hts in_X1 hown hK hP 0 rfl rfl 8 (by decide) (hts _ q171) (fun _ h9 => h9) rfl dX1_step_169 ?_
    refine lv_aload_n hx hb dX1_step_172 rfl (lv_at hl 7 rfl) ?_
    refine va_get (D := (dC, dI)) (ci := 1) (v := .int (nI (k + 1))) (C := RX1) (T := TX1) (N := 12) hx hb hts in_X1 hown hK hP 0 rfl rfl 7 (by decide) (hts _ q170) (fun _ h9 => h9) rfl dX1_step_173 ?_
    refine lv_iload hx hb dX1_step_176 (lv_at hl 0 rfl) ?_
    refine wc_iast hx hb hK hP hD hS 7 6 rfl rfl (j := k + 1) (by omega) (by decide) dX1_step_178 (fun H_16 locs hP hD hS => ?_)
    have hP : va_P (dC, dI) vwCl (wc_wM hh dd n mo ma mb md mn ro (k + 1) (upd bk (k + 1) (nI (ip + 1))) (nI ip) 0 ca) H_16 := hP
    have hD : va_D A (wc_wM hh dd n mo ma mb md mn ro (k + 1) (upd bk (k + 1) (nI (ip + 1))) (nI ip) 0 ca) := hD
    refine lv_iconst (v := nI 4) hx hb dX1_step_179 (by decide +kernel) ?_
    refine lv_istore (lv' := [(8, .int (nI 4)), (7, .int (nI (ip + 1))), (6, .int (mn ip)), (5, .int (ro (4 * k + d))), (4, .int (ro (4 * k + b))), (3, .int (nI (4 * k + a))), (2, .int (nI (4 * k))), (1, .int (nI 5)), (0, .ref (hh 0))]) hx hb dX1_step_180 hl (by decide) rfl (fun ls hl => ?_)
    refine lv_iload hx hb dX1_step_182 (lv_at hl 0 rfl) ?_
    refine lv_bipush (v := nI 8) hx hb dX1_step_184 (by decide +kernel) ?_
    refine wc_icmp_ge (tgt := 210) hx hb (x := 4) (y := 8) (by omega) (by omega) dX1_step_186 (by decide) (fun c_186 => absurd c_186 (by omega)) (fun _ => ?_)
    refine lv_aload_n hx hb dX1_step_189 rfl (lv_at hl 8 rfl) ?_
    refine va_get (D := (dC, dI)) (ci := 1) (v := .ref (hh 6)) (C := RX1) (T := TX1) (N := 12) hx hb hts in_X1 hown hK hP 0 rfl rfl 6 (by decide) (hts _ q169) (fun _ h9 => h9) rfl dX1_step_190 ?_
    refine lv_iconst (v := nI 4) hx hb dX1_step_193 (by decide +kernel) ?_
    refine lv_aload_n hx hb dX1_step_194 rfl (lv_at hl 8 rfl) ?_
    refine va_get (D := (dC, dI)) (ci := 1) (v := .int (nI (k + 1))) (C := RX1) (T := TX1) (N := 12) hx hb hts in_X1 hown hK hP 0 rfl rfl 7 (by decide) (hts _ q170) (fun _ h9 => h9) rfl dX1_step_195 ?_
    refine wc_imul hx hb (x := 4) (y := k + 1) dX1_step_198 ?_
    refine lv_iload hx hb dX1_step_199 (lv_at hl 0 rfl) ?_
    refine wc_iadd hx hb (x := 4 * (k + 1)) (y := 4) dX1_step_201 ?_
    refine lv_iconst (v := nI 0) hx hb dX1_step_202 (by decide +kernel) ?_
    refine wc_iast hx hb hK hP hD hS 6 5 rfl rfl (j := 4 * (k + 1) + 4) (by omega) (by decide) dX1_step_203 (fun H_17 locs hP hD hS => ?_)
    have hP : va_P (dC, dI) vwCl (wc_wM hh dd n mo ma mb md mn (upd ro (4 * (k + 1) + 4) (nI 0)) (k + 1) (upd bk (k + 1) (nI (ip + 1))) (nI ip) 0 ca) H_17 := hP
    have hD : va_D A (wc_wM hh dd n mo ma mb md mn (upd ro (4 * (k + 1) + 4) (nI 0)) (k + 1) (upd bk (k + 1) (nI (ip + 1))) (nI ip) 0 ca) := hD
    refine lv_iinc (v := nI 5) (lv' := [(8, .int (nI 5)), (7, .int (nI (ip + 1))), (6, .int (mn ip)), (5, .int (ro (4 * k + d))), (4, .int (ro (4 * k + b))), (3, .int (nI (4 * k + a))), (2, .int (nI (4 * k))), (1, .int (nI 5)), (0, .ref (hh 0))]) hx hb dX1_step_204 hl (k := 0) rfl (by first | exact nI_add _ _ | decide +kernel) (by decide) rfl (fun ls hl => ?_)
    refine lv_goto (tgt := 182) hx hb dX1_step_207 (by decide) ?_
    refine lv_iload hx hb dX1_step_182 (lv_at hl 0 rfl) ?_
    refine lv_bipush (v := nI 8) hx hb dX1_step_184 (by decide +kernel) ?_
    refine wc_icmp_ge (tgt := 210) hx hb (x := 5) (y := 8) (by omega) (by omega) dX1_step_186 (by decide) (fun c_186 => absurd c_186 (by omega)) (fun _ => ?_)
    refine lv_aload_n hx hb dX1_step_189 rfl (lv_at hl 8 rfl) ?_
    refine va_get (D := (dC, dI)) (ci := 1) (v := .ref (hh 6)) (C := RX1) (T := TX1) (N := 12) hx hb hts in_X1 hown hK hP 0 rfl rfl 6 (by decide) (hts _ q169) (fun _ h9 => h9) rfl dX1_step_190 ?_
    refine lv_iconst (v := nI 4) hx hb dX1_step_193 (by decide +kernel) ?_
    refine lv_aload_n hx hb dX1_step_194 rfl (lv_at hl 8 rfl) ?_
    refine va_get (D := (dC, dI)) (ci := 1) (v := .int (nI (k + 1))) (C := RX1) (T := TX1) (N := 12) hx hb hts in_X1 hown hK hP 0 rfl rfl 7 (by decide) (hts _ q170) (fun _ h9 => h9) rfl dX1_step_195 ?_
    refine wc_imul hx hb (x := 4) (y := k + 1) dX1_step_198 ?_
    refine lv_iload hx hb dX1_step_199 (lv_at hl 0 rfl) ?_
    refine wc_iadd hx hb (x := 4 * (k + 1)) (y := 5) dX1_step_201 ?_
    refine lv_iconst (v := nI 0) hx hb dX1_step_202 (by decide +kernel) ?_
    refine wc_iast hx hb hK hP hD hS 6 5 rfl rfl (j := 4 * (k + 1) + 5) (by omega) (by decide) dX1_step_203 (fun H_18 locs hP hD hS => ?_)
    have hP : va_P (dC, dI) vwCl (wc_wM hh dd n mo ma mb md mn (upd (upd ro (4 * (k + 1) + 4) (nI 0)) (4 * (k + 1) + 5) (nI 0)) (k + 1) (upd bk (k + 1) (nI (ip + 1))) (nI ip) 0 ca) H_18 := hP
    have hD : va_D A (wc_wM hh dd n mo ma mb md mn (upd (upd ro (4 * (k + 1) + 4) (nI 0)) (4 * (k + 1) + 5) (nI 0)) (k + 1) (upd bk (k + 1) (nI (ip + 1))) (nI ip) 0 ca) := hD
    refine lv_iinc (v := nI 6) (lv' := [(8, .int (nI 6)), (7, .int (nI (ip + 1))), (6, .int (mn ip)), (5, .int (ro (4 * k + d))), (4, .int (ro (4 * k + b))), (3, .int (nI (4 * k + a))), (2, .int (nI (4 * k))), (1, .int (nI 5)), (0, .ref (hh 0))]) hx hb dX1_step_204 hl (k := 0) rfl (by first | exact nI_add _ _ | decide +kernel) (by decide) rfl (fun ls hl => ?_)
    refine lv_goto (tgt := 182) hx hb dX1_step_207 (by decide) ?_
    refine lv_iload hx hb dX1_step_182 (lv_at hl 0 rfl) ?_
    refine lv_bipush (v := nI 8) hx hb dX1_step_184 (by decide +kernel) ?_
    refine wc_icmp_ge (tgt := 210) hx hb (x := 6) (y := 8) (by omega) (by omega) dX1_step_186 (by decide) (fun c_186 => absurd c_186 (by omega)) (fun _ => ?_)
    refine lv_aload_n hx hb dX1_step_189 rfl (lv_at hl 8 rfl) ?_
    refine va_get (D := (dC, dI)) (ci := 1) (v := .ref (hh 6)) (C := RX1) (T := TX1) (N := 12) hx hb hts in_X1 hown hK hP 0 rfl rfl 6 (by decide) (hts _ q169) (fun _ h9 => h9) rfl dX1_step_190 ?_
    refine lv_iconst (v := nI 4) hx hb dX1_step_193 (by decide +kernel) ?_
    refine lv_aload_n hx hb dX1_step_194 rfl (lv_at hl 8 rfl) ?_
    refine va_get (D := (dC, dI)) (ci := 1) (v := .int (nI (k + 1))) (C := RX1) (T := TX1) (N := 12) hx hb hts in_X1 hown hK hP 0 rfl rfl 7 (by decide) (hts _ q170) (fun _ h9 => h9) rfl dX1_step_195 ?_
    refine wc_imul hx hb (x := 4) (y := k + 1) dX1_step_198 ?_
    refine lv_iload hx hb dX1_step_199 (lv_at hl 0 rfl) ?_
    refine wc_iadd hx hb (x := 4 * (k + 1)) (y := 6) dX1_step_201 ?_
    refine lv_iconst (v := nI 0) hx hb dX1_step_202 (by decide +kernel) ?_
    refine wc_iast hx hb hK hP hD hS 6 5 rfl rfl (j := 4 * (k + 1) + 6) (by omega) (by decide) dX1_step_203 (fun H_19 locs hP hD hS => ?_)
    have hP : va_P (dC, dI) vwCl (wc_wM hh dd n mo ma mb md mn (upd (upd (upd ro (4 * (k + 1) + 4) (nI 0)) (4 * (k + 1) + 5) (nI 0)) (4 * (k + 1) + 6) (nI 0)) (k + 1) (upd bk (k + 1) (nI (ip + 1))) (nI ip) 0 ca) H_19 := hP
    have hD : va_D A (wc_wM hh dd n mo ma mb md mn (upd (upd (upd ro (4 * (k + 1) + 4) (nI 0)) (4 * (k + 1) + 5) (nI 0)) (4 * (k + 1) + 6) (nI 0)) (k + 1) (upd bk (k + 1) (nI (ip + 1))) (nI ip) 0 ca) := hD
    refine lv_iinc (v := nI 7) (lv' := [(8, .int (nI 7)), (7, .int (nI (ip + 1))), (6, .int (mn ip)), (5, .int (ro (4 * k + d))), (4, .int (ro (4 * k + b))), (3, .int (nI (4 * k + a))), (2, .int (nI (4 * k))), (1, .int (nI 5)), (0, .ref (hh 0))]) hx hb dX1_step_204 hl (k := 0) rfl (by first | exact nI_add _ _ | decide +kernel) (by decide) rfl (fun ls hl => ?_)
    refine lv_goto (tgt := 182) hx hb dX1_step_207 (by decide) ?_
    refine lv_iload hx hb dX1_step_182 (lv_at hl 0 rfl) ?_
    refine lv_bipush (v := nI 8) hx hb dX1_step_184 (by decide +kernel) ?_
    refine wc_icmp_ge (tgt := 210) hx hb (x := 7) (y := 8) (by omega) (by omega) dX1_step_186 (by decide) (fun c_186 => absurd c_186 (by omega)) (fun _ => ?_)
    refine lv_aload_n hx hb dX1_step_189 rfl (lv_at hl 8 rfl) ?_
    refine va_get (D := (dC, dI)) (ci := 1) (v := .ref (hh 6)) (C := RX1) (T := TX1) (N := 12) hx hb hts in_X1 hown hK hP 0 rfl rfl 6 (by decide) (hts _ q169) (fun _ h9 => h9) rfl dX1_step_190 ?_
    refine lv_iconst (v := nI 4) hx hb dX1_step_193 (by decide +kernel) ?_
    refine lv_aload_n hx hb dX1_step_194 rfl (lv_at hl 8 rfl) ?_
    refine va_get (D := (dC, dI)) (ci := 1) (v := .int (nI (k + 1))) (C := RX1) (T := TX1) (N := 12) hx hb hts in_X1 hown hK hP 0 rfl rfl 7 (by decide) (hts _ q170) (fun _ h9 => h9) rfl dX1_step_195 ?_
    refine wc_imul hx hb (x := 4) (y := k + 1) dX1_step_198 ?_
    refine lv_iload hx hb dX1_step_199 (lv_at hl 0 rfl) ?_
    refine wc_iadd hx hb (x := 4 * (k + 1)) (y := 7) dX1_step_201 ?_
    refine lv_iconst (v := nI 0) hx hb dX1_step_202 (by decide +kernel) ?_
    refine wc_iast hx hb hK hP hD hS 6 5 rfl rfl (j := 4 * (k + 1) + 7) (by omega) (by decide) dX1_step_203 (fun H_20 locs hP hD hS => ?_)
    have hP : va_P (dC, dI) vwCl (wc_wM hh dd n mo ma mb md mn (upd (upd (upd (upd ro (4 * (k + 1) + 4) (nI 0)) (4 * (k + 1) + 5) (nI 0)) (4 * (k + 1) + 6) (nI 0)) (4 * (k + 1) + 7) (nI 0)) (k + 1) (upd bk (k + 1) (nI (ip + 1))) (nI ip) 0 ca) H_20 := hP
    have hD : va_D A (wc_wM hh dd n mo ma mb md mn (upd (upd (upd (upd ro (4 * (k + 1) + 4) (nI 0)) (4 * (k + 1) + 5) (nI 0)) (4 * (k + 1) + 6) (nI 0)) (4 * (k + 1) + 7) (nI 0)) (k + 1) (upd bk (k + 1) (nI (ip + 1))) (nI ip) 0 ca) := hD
    refine lv_iinc (v := nI 8) (lv' := [(8, .int (nI 8)), (7, .int (nI (ip + 1))), (6, .int (mn ip)), (5, .int (ro (4 * k + d))), (4, .int (ro (4 * k + b))), (3, .int (nI (4 * k + a))), (2, .int (nI (4 * k))), (1, .int (nI 5)), (0, .ref (hh 0))]) hx hb dX1_step_204 hl (k := 0) rfl (by first | exact nI_add _ _ | decide +kernel) (by decide) rfl (fun ls hl => ?_)
    refine lv_goto (tgt := 182) hx hb dX1_step_207 (by decide) ?_
    refine lv_iload hx hb dX1_step_182 (lv_at hl 0 rfl) ?_
    refine lv_bipush (v := nI 8) hx hb dX1_step_184 (by decide +kernel) ?_
    refine wc_icmp_ge (tgt := 210) hx hb (x := 8) (y := 8) (by omega) (by omega) dX1_step_186 (by decide) (fun _ => ?_) (fun c_186 => absurd c_186 (by omega))
    refine lv_iload hx hb dX1_step_210 (lv_at hl 2 rfl) ?_
    refine lv_istore (lv' := [(7, .int (mn ip)), (8, .int (nI 8)), (6, .int (mn ip)), (5, .int (ro (4 * k + d))), (4, .int (ro (4 * k + b))), (3, .int (nI (4 * k + a))), (2, .int (nI (4 * k))), (1, .int (nI 5)), (0, .ref (hh 0))]) hx hb dX1_step_212 hl (by decide) rfl (fun ls hl => ?_)
    refine lv_goto (tgt := 311) hx hb dX1_step_214 (by decide) ?_
    refine lv_aload_n hx hb dX1_step_311 rfl (lv_at hl 8 rfl) ?_
    refine lv_iload hx hb dX1_step_312 (lv_at hl 0 rfl) ?_
    refine va_put (D := (dC, dI)) (ci := 1) (v := .int (mn ip)) (ty := .int) (C := RX1) (T := TX1) (N := 12) hx hb hts in_X1 tyX1 tyX1_ok nmX1 hown hK hP hD hS 0 rfl rfl 9 (by decide) (hts _ q172) (fun _ h9 => h9) rfl (by decide +kernel) rfl rfl (Nat.le_of_ble_eq_true rfl) dX1_step_314 (fun H_21 locs hP hD hS => ?_)
    have hP : va_P (dC, dI) vwCl (wc_wM hh dd n mo ma mb md mn (upd (upd (upd (upd ro (4 * (k + 1) + 4) (nI 0)) (4 * (k + 1) + 5) (nI 0)) (4 * (k + 1) + 6) (nI 0)) (4 * (k + 1) + 7) (nI 0)) (k + 1) (upd bk (k + 1) (nI (ip + 1))) (mn ip) 0 ca) H_21 := hP
    have hD : va_D A (wc_wM hh dd n mo ma mb md mn (upd (upd (upd (upd ro (4 * (k + 1) + 4) (nI 0)) (4 * (k + 1) + 5) (nI 0)) (4 * (k + 1) + 6) (nI 0)) (4 * (k + 1) + 7) (nI 0)) (k + 1) (upd bk (k + 1) (nI (ip + 1))) (mn ip) 0 ca) := hD
    refine lv_aload_n hx hb dX1_step_317 rfl (lv_at hl 8 rfl) ?_
    refine lv_dup hx hb dX1_step_318 rfl ?_
    refine va_get (D := (dC, dI)) (ci := 1) (v := .int ca) (C := RX1) (T := TX1) (N := 12) hx hb hts in_X1 hown hK hP 0 rfl rfl 11 (by decide) (hts _ q174) (fun _ h9 => h9) rfl dX1_step_319 ?_
    refine lv_iconst (v := nI 1) hx hb dX1_step_322 (by decide +kernel) ?_
    refine lv_iadd hx hb dX1_step_323 ?_
    refine va_put (D := (dC, dI)) (ci := 1) (v := .int (ca + nI 1)) (ty := .int) (C := RX1) (T := TX1) (N := 12) hx hb hts in_X1 tyX1 tyX1_ok nmX1 hown hK hP hD hS 0 rfl rfl 11 (by decide) (hts _ q174) (fun _ h9 => h9) rfl (by decide +kernel) rfl rfl (Nat.le_of_ble_eq_true rfl) dX1_step_324 (fun H_22 locs hP hD hS => ?_)
    have hP : va_P (dC, dI) vwCl (wc_wM hh dd n mo ma mb md mn (upd (upd (upd (upd ro (4 * (k + 1) + 4) (nI 0)) (4 * (k + 1) + 5) (nI 0)) (4 * (k + 1) + 6) (nI 0)) (4 * (k + 1) + 7) (nI 0)) (k + 1) (upd bk (k + 1) (nI (ip + 1))) (mn ip) 0 (ca + nI 1)) H_22 := hP
    have hD : va_D A (wc_wM hh dd n mo ma mb md mn (upd (upd (upd (upd ro (4 * (k + 1) + 4) (nI 0)) (4 * (k + 1) + 5) (nI 0)) (4 * (k + 1) + 6) (nI 0)) (4 * (k + 1) + 7) (nI 0)) (k + 1) (upd bk (k + 1) (nI (ip + 1))) (mn ip) 0 (ca + nI 1)) := hD
    exact W.vret hx hb hr (fun t ht hW => ⟨⟨(n, mo, ma, mb, md, mn, upd (upd (upd (upd ro (4 * (k + 1) + 4) (nI 0)) (4 * (k + 1) + 5) (nI 0)) (4 * (k + 1) + 6) (nI 0)) (4 * (k + 1) + 7) (nI 0), k + 1, upd bk (k + 1) (nI (ip + 1)), mn ip, 0, ca + nI 1), rfl, rfl, by rw [ht]; exact hP, va_K.moved hW.alike hK, hD⟩, hS.F ht⟩) hS.2.2 dX1_step_327
  · rcases Nat.eq_zero_or_pos k with rfl | hk0
    · refine lv_iload_n hx hb dX1_step_84 rfl (lv_at hl 6 rfl) ?_
      refine wc_if_ne (tgt := 99) hx hb (x := 6) (by omega) dX1_step_85 (by decide) (fun _ => ?_) (fun c_85 => absurd c_85 (by omega))
      refine lv_iload_n hx hb dX1_step_99 rfl (lv_at hl 6 rfl) ?_
      refine lv_iconst (v := nI 1) hx hb dX1_step_100 (by decide +kernel) ?_
      refine wc_icmp_ne (tgt := 118) hx hb (x := 6) (y := 1) (by omega) (by omega) dX1_step_101 (by decide) (fun _ => ?_) (fun c_101 => absurd c_101 (by omega))
      refine lv_iload_n hx hb dX1_step_118 rfl (lv_at hl 6 rfl) ?_
      refine lv_iconst (v := nI 2) hx hb dX1_step_119 (by decide +kernel) ?_
      refine wc_icmp_ne (tgt := 137) hx hb (x := 6) (y := 2) (by omega) (by omega) dX1_step_120 (by decide) (fun _ => ?_) (fun c_120 => absurd c_120 (by omega))
      refine lv_iload_n hx hb dX1_step_137 rfl (lv_at hl 6 rfl) ?_
      refine lv_iconst (v := nI 4) hx hb dX1_step_138 (by decide +kernel) ?_
      refine wc_icmp_ne (tgt := 153) hx hb (x := 6) (y := 4) (by omega) (by omega) dX1_step_139 (by decide) (fun _ => ?_) (fun c_139 => absurd c_139 (by omega))
      refine lv_iload_n hx hb dX1_step_153 rfl (lv_at hl 6 rfl) ?_
      refine lv_iconst (v := nI 5) hx hb dX1_step_154 (by decide +kernel) ?_
      refine wc_icmp_ne (tgt := 217) hx hb (x := 6) (y := 5) (by omega) (by omega) dX1_step_155 (by decide) (fun _ => ?_) (fun c_155 => absurd c_155 (by omega))
      refine lv_iload_n hx hb dX1_step_217 rfl (lv_at hl 6 rfl) ?_
      refine lv_bipush (v := nI 6) hx hb dX1_step_218 (by decide +kernel) ?_
      refine wc_icmp_ne (tgt := 288) hx hb (x := 6) (y := 6) (by omega) (by omega) dX1_step_220 (by decide) (fun c_220 => absurd c_220 (by omega)) (fun _ => ?_)
      refine lv_aload_n hx hb dX1_step_223 rfl (lv_at hl 7 rfl) ?_
      refine lv_aload_n hx hb dX1_step_224 rfl (lv_at hl 7 rfl) ?_
      refine va_get (D := (dC, dI)) (ci := 1) (v := .int (nI 0)) (C := RX1) (T := TX1) (N := 12) hx hb hts in_X1 hown hK hP 0 rfl rfl 7 (by decide) (hts _ q170) (fun _ h9 => h9) rfl dX1_step_225 ?_
      refine wc_if_ne (tgt := 235) hx hb (x := 0) (by omega) dX1_step_228 (by decide) (fun c_228 => absurd c_228 (by omega)) (fun _ => ?_)
      refine lv_iconst (v := 1) hx hb dX1_step_231 (by decide +kernel) ?_
      refine lv_goto (tgt := 236) hx hb dX1_step_232 (by decide) ?_
      refine va_put (D := (dC, dI)) (ci := 1) (v := .int 1) (ty := .boolean) (C := RX1) (T := TX1) (N := 12) hx hb hts in_X1 tyX1 tyX1_ok nmX1 hown hK hP hD hS 0 rfl rfl 10 (by decide) (hts _ q173) (fun _ h9 => h9) rfl (by decide +kernel) rfl rfl (Nat.le_of_ble_eq_true rfl) dX1_step_236 (fun H_23 locs hP hD hS => ?_)
      have hP : va_P (dC, dI) vwCl (wc_wM hh dd n mo ma mb md mn ro 0 bk (nI ip) 1 ca) H_23 := hP
      have hD : va_D A (wc_wM hh dd n mo ma mb md mn ro 0 bk (nI ip) 1 ca) := hD
      refine lv_aload_n hx hb dX1_step_239 rfl (lv_at hl 7 rfl) ?_
      refine va_get (D := (dC, dI)) (ci := 1) (v := .int 1) (C := RX1) (T := TX1) (N := 12) hx hb hts in_X1 hown hK hP 0 rfl rfl 10 (by decide) (hts _ q173) (fun _ h9 => h9) rfl dX1_step_240 ?_
      refine lv_if_eq (tgt := 253) hx hb dX1_step_243 (by decide) (fun c_243 => absurd c_243 (by decide)) (fun _ => ?_)
      refine lv_aload_n hx hb dX1_step_246 rfl (lv_at hl 7 rfl) ?_
      refine va_get (D := (dC, dI)) (ci := 1) (v := .int (nI ip)) (C := RX1) (T := TX1) (N := 12) hx hb hts in_X1 hown hK hP 0 rfl rfl 9 (by decide) (hts _ q172) (fun _ h9 => h9) rfl dX1_step_247 ?_
      refine lv_goto (tgt := 262) hx hb dX1_step_250 (by decide) ?_
      refine lv_istore (lv' := [(7, .int (nI ip)), (6, .int (mn ip)), (5, .int (ro (4 * 0 + d))), (4, .int (ro (4 * 0 + b))), (3, .int (nI (4 * 0 + a))), (2, .int (nI (4 * 0))), (1, .int (nI 6)), (0, .ref (hh 0))]) hx hb dX1_step_262 hl (by decide) rfl (fun ls hl => ?_)
      refine lv_aload_n hx hb dX1_step_264 rfl (lv_at hl 7 rfl) ?_
      refine lv_aload_n hx hb dX1_step_265 rfl (lv_at hl 7 rfl) ?_
      refine va_get (D := (dC, dI)) (ci := 1) (v := .int 1) (C := RX1) (T := TX1) (N := 12) hx hb hts in_X1 hown hK hP 0 rfl rfl 10 (by decide) (hts _ q173) (fun _ h9 => h9) rfl dX1_step_266 ?_
      refine lv_if_eq (tgt := 276) hx hb dX1_step_269 (by decide) (fun c_269 => absurd c_269 (by decide)) (fun _ => ?_)
      refine lv_iconst (v := nI 0) hx hb dX1_step_272 (by decide +kernel) ?_
      refine lv_goto (tgt := 282) hx hb dX1_step_273 (by decide) ?_
      refine va_put (D := (dC, dI)) (ci := 1) (v := .int (nI 0)) (ty := .int) (C := RX1) (T := TX1) (N := 12) hx hb hts in_X1 tyX1 tyX1_ok nmX1 hown hK hP hD hS 0 rfl rfl 7 (by decide) (hts _ q170) (fun _ h9 => h9) rfl (by decide +kernel) rfl rfl (Nat.le_of_ble_eq_true rfl) dX1_step_282 (fun H_24 locs hP hD hS => ?_)
      have hP : va_P (dC, dI) vwCl (wc_wM hh dd n mo ma mb md mn ro 0 bk (nI ip) 1 ca) H_24 := hP
      have hD : va_D A (wc_wM hh dd n mo ma mb md mn ro 0 bk (nI ip) 1 ca) := hD
      refine lv_goto (tgt := 311) hx hb dX1_step_285 (by decide) ?_
      refine lv_aload_n hx hb dX1_step_311 rfl (lv_at hl 7 rfl) ?_
      refine lv_iload hx hb dX1_step_312 (lv_at hl 0 rfl) ?_
      refine va_put (D := (dC, dI)) (ci := 1) (v := .int (nI ip)) (ty := .int) (C := RX1) (T := TX1) (N := 12) hx hb hts in_X1 tyX1 tyX1_ok nmX1 hown hK hP hD hS 0 rfl rfl 9 (by decide) (hts _ q172) (fun _ h9 => h9) rfl (by decide +kernel) rfl rfl (Nat.le_of_ble_eq_true rfl) dX1_step_314 (fun H_25 locs hP hD hS => ?_)
      have hP : va_P (dC, dI) vwCl (wc_wM hh dd n mo ma mb md mn ro 0 bk (nI ip) 1 ca) H_25 := hP
      have hD : va_D A (wc_wM hh dd n mo ma mb md mn ro 0 bk (nI ip) 1 ca) := hD
      refine lv_aload_n hx hb dX1_step_317 rfl (lv_at hl 7 rfl) ?_
      refine lv_dup hx hb dX1_step_318 rfl ?_
      refine va_get (D := (dC, dI)) (ci := 1) (v := .int ca) (C := RX1) (T := TX1) (N := 12) hx hb hts in_X1 hown hK hP 0 rfl rfl 11 (by decide) (hts _ q174) (fun _ h9 => h9) rfl dX1_step_319 ?_
      refine lv_iconst (v := nI 1) hx hb dX1_step_322 (by decide +kernel) ?_
      refine lv_iadd hx hb dX1_step_323 ?_
      refine va_put (D := (dC, dI)) (ci := 1) (v := .int (ca + nI 1)) (ty := .int) (C := RX1) (T := TX1) (N := 12) hx hb hts in_X1 tyX1 tyX1_ok nmX1 hown hK hP hD hS 0 rfl rfl 11 (by decide) (hts _ q174) (fun _ h9 => h9) rfl (by decide +kernel) rfl rfl (Nat.le_of_ble_eq_true rfl) dX1_step_324 (fun H_26 locs hP hD hS => ?_)
      have hP : va_P (dC, dI) vwCl (wc_wM hh dd n mo ma mb md mn ro 0 bk (nI ip) 1 (ca + nI 1)) H_26 := hP
      have hD : va_D A (wc_wM hh dd n mo ma mb md mn ro 0 bk (nI ip) 1 (ca + nI 1)) := hD
      exact W.vret hx hb hr (fun t ht hW => ⟨⟨(n, mo, ma, mb, md, mn, ro, 0, bk, nI ip, 1, ca + nI 1), rfl, rfl, by rw [ht]; exact hP, va_K.moved hW.alike hK, hD⟩, hS.F ht⟩) hS.2.2 dX1_step_327
    · refine lv_iload_n hx hb dX1_step_84 rfl (lv_at hl 6 rfl) ?_
      refine wc_if_ne (tgt := 99) hx hb (x := 6) (by omega) dX1_step_85 (by decide) (fun _ => ?_) (fun c_85 => absurd c_85 (by omega))
      refine lv_iload_n hx hb dX1_step_99 rfl (lv_at hl 6 rfl) ?_
      refine lv_iconst (v := nI 1) hx hb dX1_step_100 (by decide +kernel) ?_
      refine wc_icmp_ne (tgt := 118) hx hb (x := 6) (y := 1) (by omega) (by omega) dX1_step_101 (by decide) (fun _ => ?_) (fun c_101 => absurd c_101 (by omega))
      refine lv_iload_n hx hb dX1_step_118 rfl (lv_at hl 6 rfl) ?_
      refine lv_iconst (v := nI 2) hx hb dX1_step_119 (by decide +kernel) ?_
      refine wc_icmp_ne (tgt := 137) hx hb (x := 6) (y := 2) (by omega) (by omega) dX1_step_120 (by decide) (fun _ => ?_) (fun c_120 => absurd c_120 (by omega))
      refine lv_iload_n hx hb dX1_step_137 rfl (lv_at hl 6 rfl) ?_
      refine lv_iconst (v := nI 4) hx hb dX1_step_138 (by decide +kernel) ?_
      refine wc_icmp_ne (tgt := 153) hx hb (x := 6) (y := 4) (by omega) (by omega) dX1_step_139 (by decide) (fun _ => ?_) (fun c_139 => absurd c_139 (by omega))
      refine lv_iload_n hx hb dX1_step_153 rfl (lv_at hl 6 rfl) ?_
      refine lv_iconst (v := nI 5) hx hb dX1_step_154 (by decide +kernel) ?_
      refine wc_icmp_ne (tgt := 217) hx hb (x := 6) (y := 5) (by omega) (by omega) dX1_step_155 (by decide) (fun _ => ?_) (fun c_155 => absurd c_155 (by omega))
      refine lv_iload_n hx hb dX1_step_217 rfl (lv_at hl 6 rfl) ?_
      refine lv_bipush (v := nI 6) hx hb dX1_step_218 (by decide +kernel) ?_
      refine wc_icmp_ne (tgt := 288) hx hb (x := 6) (y := 6) (by omega) (by omega) dX1_step_220 (by decide) (fun c_220 => absurd c_220 (by omega)) (fun _ => ?_)
      refine lv_aload_n hx hb dX1_step_223 rfl (lv_at hl 7 rfl) ?_
      refine lv_aload_n hx hb dX1_step_224 rfl (lv_at hl 7 rfl) ?_
      refine va_get (D := (dC, dI)) (ci := 1) (v := .int (nI k)) (C := RX1) (T := TX1) (N := 12) hx hb hts in_X1 hown hK hP 0 rfl rfl 7 (by decide) (hts _ q170) (fun _ h9 => h9) rfl dX1_step_225 ?_
      refine wc_if_ne (tgt := 235) hx hb (x := k) (by omega) dX1_step_228 (by decide) (fun c_228 => ?_) (fun c_228 => ?_)
      · refine lv_iconst (v := 0) hx hb dX1_step_235 (by decide +kernel) ?_
        refine va_put (D := (dC, dI)) (ci := 1) (v := .int 0) (ty := .boolean) (C := RX1) (T := TX1) (N := 12) hx hb hts in_X1 tyX1 tyX1_ok nmX1 hown hK hP hD hS 0 rfl rfl 10 (by decide) (hts _ q173) (fun _ h9 => h9) rfl (by decide +kernel) rfl rfl (Nat.le_of_ble_eq_true rfl) dX1_step_236 (fun H_27 locs hP hD hS => ?_)
        have hP : va_P (dC, dI) vwCl (wc_wM hh dd n mo ma mb md mn ro k bk (nI ip) 0 ca) H_27 := hP
        have hD : va_D A (wc_wM hh dd n mo ma mb md mn ro k bk (nI ip) 0 ca) := hD
        refine lv_aload_n hx hb dX1_step_239 rfl (lv_at hl 7 rfl) ?_
        refine va_get (D := (dC, dI)) (ci := 1) (v := .int 0) (C := RX1) (T := TX1) (N := 12) hx hb hts in_X1 hown hK hP 0 rfl rfl 10 (by decide) (hts _ q173) (fun _ h9 => h9) rfl dX1_step_240 ?_
        refine lv_if_eq (tgt := 253) hx hb dX1_step_243 (by decide) (fun _ => ?_) (fun c_243 => absurd c_243 (by decide))
        refine lv_aload_n hx hb dX1_step_253 rfl (lv_at hl 7 rfl) ?_
        refine va_get (D := (dC, dI)) (ci := 1) (v := .ref (hh 7)) (C := RX1) (T := TX1) (N := 12) hx hb hts in_X1 hown hK hP 0 rfl rfl 8 (by decide) (hts _ q171) (fun _ h9 => h9) rfl dX1_step_254 ?_
        refine lv_aload_n hx hb dX1_step_257 rfl (lv_at hl 7 rfl) ?_
        refine va_get (D := (dC, dI)) (ci := 1) (v := .int (nI k)) (C := RX1) (T := TX1) (N := 12) hx hb hts in_X1 hown hK hP 0 rfl rfl 7 (by decide) (hts _ q170) (fun _ h9 => h9) rfl dX1_step_258 ?_
        refine wc_iald hx hb hK hP 7 6 rfl rfl (j := k) (by omega) (by decide) dX1_step_261 ?_
        refine lv_istore (lv' := [(7, .int (bk k)), (6, .int (mn ip)), (5, .int (ro (4 * k + d))), (4, .int (ro (4 * k + b))), (3, .int (nI (4 * k + a))), (2, .int (nI (4 * k))), (1, .int (nI 6)), (0, .ref (hh 0))]) hx hb dX1_step_262 hl (by decide) rfl (fun ls hl => ?_)
        refine lv_aload_n hx hb dX1_step_264 rfl (lv_at hl 7 rfl) ?_
        refine lv_aload_n hx hb dX1_step_265 rfl (lv_at hl 7 rfl) ?_
        refine va_get (D := (dC, dI)) (ci := 1) (v := .int 0) (C := RX1) (T := TX1) (N := 12) hx hb hts in_X1 hown hK hP 0 rfl rfl 10 (by decide) (hts _ q173) (fun _ h9 => h9) rfl dX1_step_266 ?_
        refine lv_if_eq (tgt := 276) hx hb dX1_step_269 (by decide) (fun _ => ?_) (fun c_269 => absurd c_269 (by decide))
        refine lv_aload_n hx hb dX1_step_276 rfl (lv_at hl 7 rfl) ?_
        refine va_get (D := (dC, dI)) (ci := 1) (v := .int (nI k)) (C := RX1) (T := TX1) (N := 12) hx hb hts in_X1 hown hK hP 0 rfl rfl 7 (by decide) (hts _ q170) (fun _ h9 => h9) rfl dX1_step_277 ?_
        refine lv_iconst (v := nI 1) hx hb dX1_step_280 (by decide +kernel) ?_
        refine wc_isub hx hb (x := k) (y := 1) (by omega) dX1_step_281 ?_
        refine va_put (D := (dC, dI)) (ci := 1) (v := .int (nI (k - 1))) (ty := .int) (C := RX1) (T := TX1) (N := 12) hx hb hts in_X1 tyX1 tyX1_ok nmX1 hown hK hP hD hS 0 rfl rfl 7 (by decide) (hts _ q170) (fun _ h9 => h9) rfl (by decide +kernel) rfl rfl (Nat.le_of_ble_eq_true rfl) dX1_step_282 (fun H_28 locs hP hD hS => ?_)
        have hP : va_P (dC, dI) vwCl (wc_wM hh dd n mo ma mb md mn ro (k - 1) bk (nI ip) 0 ca) H_28 := hP
        have hD : va_D A (wc_wM hh dd n mo ma mb md mn ro (k - 1) bk (nI ip) 0 ca) := hD
        refine lv_goto (tgt := 311) hx hb dX1_step_285 (by decide) ?_
        refine lv_aload_n hx hb dX1_step_311 rfl (lv_at hl 7 rfl) ?_
        refine lv_iload hx hb dX1_step_312 (lv_at hl 0 rfl) ?_
        refine va_put (D := (dC, dI)) (ci := 1) (v := .int (bk k)) (ty := .int) (C := RX1) (T := TX1) (N := 12) hx hb hts in_X1 tyX1 tyX1_ok nmX1 hown hK hP hD hS 0 rfl rfl 9 (by decide) (hts _ q172) (fun _ h9 => h9) rfl (by decide +kernel) rfl rfl (Nat.le_of_ble_eq_true rfl) dX1_step_314 (fun H_29 locs hP hD hS => ?_)
        have hP : va_P (dC, dI) vwCl (wc_wM hh dd n mo ma mb md mn ro (k - 1) bk (bk k) 0 ca) H_29 := hP
        have hD : va_D A (wc_wM hh dd n mo ma mb md mn ro (k - 1) bk (bk k) 0 ca) := hD
        refine lv_aload_n hx hb dX1_step_317 rfl (lv_at hl 7 rfl) ?_
        refine lv_dup hx hb dX1_step_318 rfl ?_
        refine va_get (D := (dC, dI)) (ci := 1) (v := .int ca) (C := RX1) (T := TX1) (N := 12) hx hb hts in_X1 hown hK hP 0 rfl rfl 11 (by decide) (hts _ q174) (fun _ h9 => h9) rfl dX1_step_319 ?_
        refine lv_iconst (v := nI 1) hx hb dX1_step_322 (by decide +kernel) ?_
        refine lv_iadd hx hb dX1_step_323 ?_
        refine va_put (D := (dC, dI)) (ci := 1) (v := .int (ca + nI 1)) (ty := .int) (C := RX1) (T := TX1) (N := 12) hx hb hts in_X1 tyX1 tyX1_ok nmX1 hown hK hP hD hS 0 rfl rfl 11 (by decide) (hts _ q174) (fun _ h9 => h9) rfl (by decide +kernel) rfl rfl (Nat.le_of_ble_eq_true rfl) dX1_step_324 (fun H_30 locs hP hD hS => ?_)
        have hP : va_P (dC, dI) vwCl (wc_wM hh dd n mo ma mb md mn ro (k - 1) bk (bk k) 0 (ca + nI 1)) H_30 := hP
        have hD : va_D A (wc_wM hh dd n mo ma mb md mn ro (k - 1) bk (bk k) 0 (ca + nI 1)) := hD
        exact W.vret hx hb hr (fun t ht hW => ⟨⟨(n, mo, ma, mb, md, mn, ro, k - 1, bk, bk k, 0, ca + nI 1), rfl, by rw [wc_nx6 hk0], by rw [ht]; exact hP, va_K.moved hW.alike hK, hD⟩, hS.F ht⟩) hS.2.2 dX1_step_327
      · exact absurd c_228 (by omega)
  · refine lv_iload_n hx hb dX1_step_84 rfl (lv_at hl 6 rfl) ?_
    refine wc_if_ne (tgt := 99) hx hb (x := 7) (by omega) dX1_step_85 (by decide) (fun _ => ?_) (fun c_85 => absurd c_85 (by omega))
    refine lv_iload_n hx hb dX1_step_99 rfl (lv_at hl 6 rfl) ?_
    refine lv_iconst (v := nI 1) hx hb dX1_step_100 (by decide +kernel) ?_
    refine wc_icmp_ne (tgt := 118) hx hb (x := 7) (y := 1) (by omega) (by omega) dX1_step_101 (by decide) (fun _ => ?_) (fun c_101 => absurd c_101 (by omega))
    refine lv_iload_n hx hb dX1_step_118 rfl (lv_at hl 6 rfl) ?_
    refine lv_iconst (v := nI 2) hx hb dX1_step_119 (by decide +kernel) ?_
    refine wc_icmp_ne (tgt := 137) hx hb (x := 7) (y := 2) (by omega) (by omega) dX1_step_120 (by decide) (fun _ => ?_) (fun c_120 => absurd c_120 (by omega))
    refine lv_iload_n hx hb dX1_step_137 rfl (lv_at hl 6 rfl) ?_
    refine lv_iconst (v := nI 4) hx hb dX1_step_138 (by decide +kernel) ?_
    refine wc_icmp_ne (tgt := 153) hx hb (x := 7) (y := 4) (by omega) (by omega) dX1_step_139 (by decide) (fun _ => ?_) (fun c_139 => absurd c_139 (by omega))
    refine lv_iload_n hx hb dX1_step_153 rfl (lv_at hl 6 rfl) ?_
    refine lv_iconst (v := nI 5) hx hb dX1_step_154 (by decide +kernel) ?_
    refine wc_icmp_ne (tgt := 217) hx hb (x := 7) (y := 5) (by omega) (by omega) dX1_step_155 (by decide) (fun _ => ?_) (fun c_155 => absurd c_155 (by omega))
    refine lv_iload_n hx hb dX1_step_217 rfl (lv_at hl 6 rfl) ?_
    refine lv_bipush (v := nI 6) hx hb dX1_step_218 (by decide +kernel) ?_
    refine wc_icmp_ne (tgt := 288) hx hb (x := 7) (y := 6) (by omega) (by omega) dX1_step_220 (by decide) (fun _ => ?_) (fun c_220 => absurd c_220 (by omega))
    refine lv_iload_n hx hb dX1_step_288 rfl (lv_at hl 6 rfl) ?_
    refine lv_iconst (v := nI 3) hx hb dX1_step_289 (by decide +kernel) ?_
    refine wc_icmp_eq (tgt := 302) hx hb (x := 7) (y := 3) (by omega) (by omega) dX1_step_290 (by decide) (fun c_290 => absurd c_290 (by omega)) (fun _ => ?_)
    refine lv_aload_n hx hb dX1_step_293 rfl (lv_at hl 7 rfl) ?_
    refine va_get (D := (dC, dI)) (ci := 1) (v := .ref (hh 6)) (C := RX1) (T := TX1) (N := 12) hx hb hts in_X1 hown hK hP 0 rfl rfl 6 (by decide) (hts _ q169) (fun _ h9 => h9) rfl dX1_step_294 ?_
    refine lv_iload_n hx hb dX1_step_297 rfl (lv_at hl 4 rfl) ?_
    refine wc_iald hx hb hK hP 6 5 rfl rfl (j := 4 * k + a) (by omega) (by decide) dX1_step_298 ?_
    refine lv_if_ne (tgt := 307) hx hb dX1_step_299 (by decide) (fun c_299 => ?_) (fun c_299 => ?_)
    · refine lv_iload hx hb dX1_step_307 (lv_at hl 0 rfl) ?_
      refine lv_istore (lv' := [(7, .int (nI (ip + 1))), (6, .int (mn ip)), (5, .int (ro (4 * k + d))), (4, .int (ro (4 * k + b))), (3, .int (nI (4 * k + a))), (2, .int (nI (4 * k))), (1, .int (nI 7)), (0, .ref (hh 0))]) hx hb dX1_step_309 hl (by decide) rfl (fun ls hl => ?_)
      refine lv_aload_n hx hb dX1_step_311 rfl (lv_at hl 7 rfl) ?_
      refine lv_iload hx hb dX1_step_312 (lv_at hl 0 rfl) ?_
      refine va_put (D := (dC, dI)) (ci := 1) (v := .int (nI (ip + 1))) (ty := .int) (C := RX1) (T := TX1) (N := 12) hx hb hts in_X1 tyX1 tyX1_ok nmX1 hown hK hP hD hS 0 rfl rfl 9 (by decide) (hts _ q172) (fun _ h9 => h9) rfl (by decide +kernel) rfl rfl (Nat.le_of_ble_eq_true rfl) dX1_step_314 (fun H_31 locs hP hD hS => ?_)
      have hP : va_P (dC, dI) vwCl (wc_wM hh dd n mo ma mb md mn ro k bk (nI (ip + 1)) 0 ca) H_31 := hP
      have hD : va_D A (wc_wM hh dd n mo ma mb md mn ro k bk (nI (ip + 1)) 0 ca) := hD
      refine lv_aload_n hx hb dX1_step_317 rfl (lv_at hl 7 rfl) ?_
      refine lv_dup hx hb dX1_step_318 rfl ?_
      refine va_get (D := (dC, dI)) (ci := 1) (v := .int ca) (C := RX1) (T := TX1) (N := 12) hx hb hts in_X1 hown hK hP 0 rfl rfl 11 (by decide) (hts _ q174) (fun _ h9 => h9) rfl dX1_step_319 ?_
      refine lv_iconst (v := nI 1) hx hb dX1_step_322 (by decide +kernel) ?_
      refine lv_iadd hx hb dX1_step_323 ?_
      refine va_put (D := (dC, dI)) (ci := 1) (v := .int (ca + nI 1)) (ty := .int) (C := RX1) (T := TX1) (N := 12) hx hb hts in_X1 tyX1 tyX1_ok nmX1 hown hK hP hD hS 0 rfl rfl 11 (by decide) (hts _ q174) (fun _ h9 => h9) rfl (by decide +kernel) rfl rfl (Nat.le_of_ble_eq_true rfl) dX1_step_324 (fun H_32 locs hP hD hS => ?_)
      have hP : va_P (dC, dI) vwCl (wc_wM hh dd n mo ma mb md mn ro k bk (nI (ip + 1)) 0 (ca + nI 1)) H_32 := hP
      have hD : va_D A (wc_wM hh dd n mo ma mb md mn ro k bk (nI (ip + 1)) 0 (ca + nI 1)) := hD
      exact W.vret hx hb hr (fun t ht hW => ⟨⟨(n, mo, ma, mb, md, mn, ro, k, bk, nI (ip + 1), 0, ca + nI 1), rfl, by rw [wc_nx7b c_299], by rw [ht]; exact hP, va_K.moved hW.alike hK, hD⟩, hS.F ht⟩) hS.2.2 dX1_step_327
    · refine lv_iload hx hb dX1_step_302 (lv_at hl 1 rfl) ?_
      refine lv_goto (tgt := 309) hx hb dX1_step_304 (by decide) ?_
      refine lv_istore (lv' := [(7, .int (mn ip)), (6, .int (mn ip)), (5, .int (ro (4 * k + d))), (4, .int (ro (4 * k + b))), (3, .int (nI (4 * k + a))), (2, .int (nI (4 * k))), (1, .int (nI 7)), (0, .ref (hh 0))]) hx hb dX1_step_309 hl (by decide) rfl (fun ls hl => ?_)
      refine lv_aload_n hx hb dX1_step_311 rfl (lv_at hl 7 rfl) ?_
      refine lv_iload hx hb dX1_step_312 (lv_at hl 0 rfl) ?_
      refine va_put (D := (dC, dI)) (ci := 1) (v := .int (mn ip)) (ty := .int) (C := RX1) (T := TX1) (N := 12) hx hb hts in_X1 tyX1 tyX1_ok nmX1 hown hK hP hD hS 0 rfl rfl 9 (by decide) (hts _ q172) (fun _ h9 => h9) rfl (by decide +kernel) rfl rfl (Nat.le_of_ble_eq_true rfl) dX1_step_314 (fun H_33 locs hP hD hS => ?_)
      have hP : va_P (dC, dI) vwCl (wc_wM hh dd n mo ma mb md mn ro k bk (mn ip) 0 ca) H_33 := hP
      have hD : va_D A (wc_wM hh dd n mo ma mb md mn ro k bk (mn ip) 0 ca) := hD
      refine lv_aload_n hx hb dX1_step_317 rfl (lv_at hl 7 rfl) ?_
      refine lv_dup hx hb dX1_step_318 rfl ?_
      refine va_get (D := (dC, dI)) (ci := 1) (v := .int ca) (C := RX1) (T := TX1) (N := 12) hx hb hts in_X1 hown hK hP 0 rfl rfl 11 (by decide) (hts _ q174) (fun _ h9 => h9) rfl dX1_step_319 ?_
      refine lv_iconst (v := nI 1) hx hb dX1_step_322 (by decide +kernel) ?_
      refine lv_iadd hx hb dX1_step_323 ?_
      refine va_put (D := (dC, dI)) (ci := 1) (v := .int (ca + nI 1)) (ty := .int) (C := RX1) (T := TX1) (N := 12) hx hb hts in_X1 tyX1 tyX1_ok nmX1 hown hK hP hD hS 0 rfl rfl 11 (by decide) (hts _ q174) (fun _ h9 => h9) rfl (by decide +kernel) rfl rfl (Nat.le_of_ble_eq_true rfl) dX1_step_324 (fun H_34 locs hP hD hS => ?_)
      have hP : va_P (dC, dI) vwCl (wc_wM hh dd n mo ma mb md mn ro k bk (mn ip) 0 (ca + nI 1)) H_34 := hP
      have hD : va_D A (wc_wM hh dd n mo ma mb md mn ro k bk (mn ip) 0 (ca + nI 1)) := hD
      exact W.vret hx hb hr (fun t ht hW => ⟨⟨(n, mo, ma, mb, md, mn, ro, k, bk, mn ip, 0, ca + nI 1), rfl, by rw [wc_nx7a c_299], by rw [ht]; exact hP, va_K.moved hW.alike hK, hD⟩, hS.F ht⟩) hS.2.2 dX1_step_327
theorem wc_mu_mk {n : Nat} {mo ma mb md mn : Nat → Int32} {ca cv : Int32} {Z : Nat × wc_G} {j : Nat} {ro : Nat → Int32} {k : Nat} {bk : Nat → Int32} {pa ov : Int32} (hZ : Z = (j, (ro, k, bk, pa, ov))) (hc : cv = ca + nI j) : nI j = nI Z.1 ∧ (n, mo, ma, mb, md, mn, ro, k, bk, pa, ov, cv) = ((n, mo, ma, mb, md, mn, Z.2.1, Z.2.2.1, Z.2.2.2.1, Z.2.2.2.2.1, Z.2.2.2.2.2, ca + nI Z.1) : wc_SM) := by
  subst hZ
  subst hc
  exact ⟨rfl, rfl⟩
set_option maxHeartbeats 4000000 in
set_option maxRecDepth 100000 in
/-- run(n) of the model -/
theorem wc_mRun (l : Launch) (dC : Nat → ClassId) (dI : Nat → Nat → Nat) (hh : Nat → Nat) (dd : Nat → ClassId) (sz : Nat) (n : Nat) (mo ma mb md mn ro : Nat → Int32) (k : Nat) (bk : Nat → Int32) (pa ov ca : Int32) (xo xr xn : Nat → Int32) (hPg : wc_Prog n xo xr xn mo ma mb md mn) (hk : k ≤ 29) (x : Int32) : Met l yX1_run (ws_ yX1_run cX1_run 6 (some .int)) ({ frames := 1, cells := 0, slots := 0, locals := 28 }) (va_Pc [.ref (hh 0), .int x] (wc_pw dC dI (wc_wM hh dd n mo ma mb md mn ro k bk pa ov ca) (wc_tM dd) sz)) (va_Qi (fun (r : Int32) (u : wc_SM) => r = nI (wc_rn n mo ma mb md mn (wc_cnt x) (ro, k, bk, pa, ov)).1 ∧ u = (n, mo, ma, mb, md, mn, (wc_rn n mo ma mb md mn (wc_cnt x) (ro, k, bk, pa, ov)).2.1, (wc_rn n mo ma mb md mn (wc_cnt x) (ro, k, bk, pa, ov)).2.2.1, (wc_rn n mo ma mb md mn (wc_cnt x) (ro, k, bk, pa, ov)).2.2.2.1, (wc_rn n mo ma mb md mn (wc_cnt x) (ro, k, bk, pa, ov)).2.2.2.2.1, (wc_rn n mo ma mb md mn (wc_cnt x) (ro, k, bk, pa, ov)).2.2.2.2.2, ca + nI (wc_rn n mo ma mb md mn (wc_cnt x) (ro, k, bk, pa, ov)).1)) (wc_bM dC dI hh dd (va_A (wc_wM hh dd n mo ma mb md mn ro k bk pa ov ca) sz)) (va_A (wc_wM hh dd n mo ma mb md mn ro k bk pa ov ca) sz)) 0 0 (va_A (wc_wM hh dd n mo ma mb md mn ro k bk pa ov ca) sz) := by
  refine Met.ofW (cc := cX1_run) (maxL := 6) (ret := (some .int)) (by decide) rfl ?_
  intro p e s m args below meth c s₁ B hml hv
  obtain ⟨rfl, hsz, hP, hK, hD0⟩ := hv
  have hx := B.exec
  have hb := B.bytes
  have hr := B.returns
  have hts := atoms_spec (ws := ws_ yX1_run cX1_run 6 (some .int)) B.pre
  have hts : ∀ w ∈ lw_all, w.before _ s = true := fun w h => hts w (List.mem_cons_of_mem _ h)
  have hown : s.vm.findClass RX1 = some m.cls := findClass_of_methodNamed B.named
  have hlocks := B.notSynchronized
  subst hsz
  have hD := hD0.self (sz := s.heap.size)
  generalize hAe : va_A (wc_wM hh dd n mo ma mb md mn ro k bk pa ov ca) s.heap.size = A at hD ⊢
  have hA : ∀ q : Nat, s.heap.size ≤ q → A q := fun q h => by rw [← hAe]; exact Or.inr h
  have hS : va_S A s.heap s.heap [] := va_S.rf
  have hP : va_P (dC, dI) vwCl (wc_wM hh dd n mo ma mb md mn ro k bk pa ov ca) s.heap := hP
  have hl := lv_entry ([.ref (hh 0), .int x]) (n := 6) (Nat.le_of_ble_eq_true rfl)
  rw [lg_entry_eq]
  generalize (lg_sl ([.ref (hh 0), .int x]) ++ List.replicate (6 - (lg_sl ([.ref (hh 0), .int x])).length) Slot.unset).toArray = ls at hl ⊢
  have hl : lv_has ls 6 [(0, .ref (hh 0)), (1, .int x)] := hl
  have hn24 := hPg.1
  generalize hZ : wc_rn n mo ma mb md mn (wc_cnt x) (ro, k, bk, pa, ov) = Z
  have loop : ∀ (tm : Nat), tm ≤ 200 → ∀ (f j : Nat) (ro : Nat → Int32) (k : Nat) (bk : Nat → Int32) (pa ov cv : Int32), j + f = tm → Z = (j + (wc_rn n mo ma mb md mn f (ro, k, bk, pa, ov)).1, (wc_rn n mo ma mb md mn f (ro, k, bk, pa, ov)).2) → cv = ca + nI j → k ≤ 29 → ∀ (H : Heap) (locs : List Loc), va_P (dC, dI) vwCl (wc_wM hh dd n mo ma mb md mn ro k bk pa ov cv) H → va_D A (wc_wM hh dd n mo ma mb md mn ro k bk pa ov cv) → va_S A s.heap H locs → ∀ (ls : Array Slot), lv_has ls 6 [(0, .ref (hh 0)), (2, .int (nI tm)), (3, .int (nI j))] → W p l e (headSpec (ws_ yX1_run cX1_run 6 (some .int)) ({ frames := 1, cells := 0, slots := 0, locals := 28 })).room s m ([.ref (hh 0), .int x] : List Value).toArray below meth c H locs 0 0 (MQ below (va_Qi (fun (r : Int32) (u : wc_SM) => r = nI Z.1 ∧ u = (n, mo, ma, mb, md, mn, Z.2.1, Z.2.2.1, Z.2.2.2.1, Z.2.2.2.2.1, Z.2.2.2.2.2, ca + nI Z.1)) (wc_bM dC dI hh dd A) A) ([.ref (hh 0), .int x] : List Value).toArray s 0 0 A) (F0 m 17 ls []) := by
    intro tm htm f
    induction f with
    | zero =>
      intro j ro k bk pa ov cv hj hZ ecv hk H locs hP hD hS ls hl
      refine lv_iload_n hx hb dX1_run_17 rfl (lv_at hl 2 rfl) ?_
      refine lv_iload_n hx hb dX1_run_18 rfl (lv_at hl 1 rfl) ?_
      refine wc_icmp_ge (tgt := 116) hx hb (x := j) (y := tm) (by omega) (by omega) dX1_run_19 (by decide) (fun c_19 => ?_) (fun c_19 => ?_)
      · refine lv_iload_n hx hb dX1_run_116 rfl (lv_at hl 2 rfl) ?_
        exact W.iret (v := nI j) hx hb hr (fun t ht hW => ⟨⟨nI j, (n, mo, ma, mb, md, mn, ro, k, bk, pa, ov, cv), rfl, wc_mu_mk (wc_rn_j hZ wc_rn_0) ecv, by rw [ht]; exact hP, va_K.moved hW.alike hK, hD⟩, hS.F ht⟩) hS.2.2 dX1_run_117
      · exact absurd c_19 (by omega)
    | succ f ih =>
      intro j ro k bk pa ov cv hj hZ ecv hk H locs hP hD hS ls hl
      refine lv_iload_n hx hb dX1_run_17 rfl (lv_at hl 2 rfl) ?_
      refine lv_iload_n hx hb dX1_run_18 rfl (lv_at hl 1 rfl) ?_
      refine wc_icmp_ge (tgt := 116) hx hb (x := j) (y := tm) (by omega) (by omega) dX1_run_19 (by decide) (fun c_19 => ?_) (fun c_19 => ?_)
      · exact absurd c_19 (by omega)
      · refine lv_aload_n hx hb dX1_run_22 rfl (lv_at hl 0 rfl) ?_
        refine va_get (D := (dC, dI)) (ci := 1) (v := .int ov) (C := RX1) (T := TX1) (N := 12) hx hb hts in_X1 hown hK hP 0 rfl rfl 10 (by decide) (hts _ q173) (fun _ h9 => h9) rfl dX1_run_23 ?_
        refine lv_if_ne (tgt := 116) hx hb dX1_run_26 (by decide) (fun c_26 => ?_) (fun c_26 => ?_)
        · refine lv_iload_n hx hb dX1_run_116 rfl (lv_at hl 2 rfl) ?_
          exact W.iret (v := nI j) hx hb hr (fun t ht hW => ⟨⟨nI j, (n, mo, ma, mb, md, mn, ro, k, bk, pa, ov, cv), rfl, wc_mu_mk (wc_rn_j hZ (wc_rn_stop c_26)) ecv, by rw [ht]; exact hP, va_K.moved hW.alike hK, hD⟩, hS.F ht⟩) hS.2.2 dX1_run_117
        · subst c_26
          refine lv_aload_n hx hb dX1_run_29 rfl (lv_at hl 0 rfl) ?_
          refine va_get (D := (dC, dI)) (ci := 1) (v := .int pa) (C := RX1) (T := TX1) (N := 12) hx hb hts in_X1 hown hK hP 0 rfl rfl 9 (by decide) (hts _ q172) (fun _ h9 => h9) rfl dX1_run_30 ?_
          refine lv_if_lt (tgt := 47) hx hb dX1_run_33 (by decide) (fun c_33 => ?_) (fun c_33 => ?_)
          · refine lv_iconst (v := nI 1) hx hb dX1_run_47 (by decide +kernel) ?_
            refine lv_goto (tgt := 52) hx hb dX1_run_48 (by decide) ?_
            refine lv_istore (lv' := [(4, .int (nI 1)), (0, .ref (hh 0)), (2, .int (nI tm)), (3, .int (nI j))]) hx hb dX1_run_52 hl (by decide) rfl (fun ls hl => ?_)
            refine lv_iload hx hb dX1_run_54 (lv_at hl 0 rfl) ?_
            refine wc_if_ne (tgt := 85) hx hb (x := 1) (by omega) dX1_run_56 (by decide) (fun _ => ?_) (fun c_56 => absurd c_56 (by omega))
            refine lv_iconst (v := nI 0) hx hb dX1_run_85 (by decide +kernel) ?_
            refine lv_istore (lv' := [(5, .int (nI 0)), (4, .int (nI 1)), (0, .ref (hh 0)), (2, .int (nI tm)), (3, .int (nI j))]) hx hb dX1_run_86 hl (by decide) rfl (fun ls hl => ?_)
            refine lv_iload hx hb dX1_run_88 (lv_at hl 1 rfl) ?_
            refine wc_if_ne (tgt := 98) hx hb (x := 1) (by omega) dX1_run_90 (by decide) (fun _ => ?_) (fun c_90 => absurd c_90 (by omega))
            refine lv_aload_n hx hb dX1_run_98 rfl (lv_at hl 2 rfl) ?_
            refine lv_iconst (v := 1) hx hb dX1_run_99 (by decide +kernel) ?_
            refine va_put (D := (dC, dI)) (ci := 1) (v := .int 1) (ty := .boolean) (C := RX1) (T := TX1) (N := 12) hx hb hts in_X1 tyX1 tyX1_ok nmX1 hown hK hP hD hS 0 rfl rfl 10 (by decide) (hts _ q173) (fun _ h9 => h9) rfl (by decide +kernel) rfl rfl (Nat.le_of_ble_eq_true rfl) dX1_run_100 (fun H_1 locs hP hD hS => ?_)
            have hP : va_P (dC, dI) vwCl (wc_wM hh dd n mo ma mb md mn ro k bk pa 1 cv) H_1 := hP
            have hD : va_D A (wc_wM hh dd n mo ma mb md mn ro k bk pa 1 cv) := hD
            refine lv_goto (tgt := 113) hx hb dX1_run_103 (by decide) ?_
            refine lv_goto (tgt := 17) hx hb dX1_run_113 (by decide) ?_
            refine lv_iload_n hx hb dX1_run_17 rfl (lv_at hl 4 rfl) ?_
            refine lv_iload_n hx hb dX1_run_18 rfl (lv_at hl 3 rfl) ?_
            refine wc_icmp_ge (tgt := 116) hx hb (x := j) (y := tm) (by omega) (by omega) dX1_run_19 (by decide) (fun c_19 => ?_) (fun c_19 => ?_)
            · exact absurd c_19 (by omega)
            · refine lv_aload_n hx hb dX1_run_22 rfl (lv_at hl 2 rfl) ?_
              refine va_get (D := (dC, dI)) (ci := 1) (v := .int 1) (C := RX1) (T := TX1) (N := 12) hx hb hts in_X1 hown hK hP 0 rfl rfl 10 (by decide) (hts _ q173) (fun _ h9 => h9) rfl dX1_run_23 ?_
              refine lv_if_ne (tgt := 116) hx hb dX1_run_26 (by decide) (fun c_26 => ?_) (fun c_26 => ?_)
              · refine lv_iload_n hx hb dX1_run_116 rfl (lv_at hl 4 rfl) ?_
                exact W.iret (v := nI j) hx hb hr (fun t ht hW => ⟨⟨nI j, (n, mo, ma, mb, md, mn, ro, k, bk, pa, 1, cv), rfl, wc_mu_mk (wc_rn_j hZ (wc_rn_out rfl (fun h => h.1 c_33))) ecv, by rw [ht]; exact hP, va_K.moved hW.alike hK, hD⟩, hS.F ht⟩) hS.2.2 dX1_run_117
              · exact absurd c_26 (by decide)
          · refine lv_aload_n hx hb dX1_run_36 rfl (lv_at hl 0 rfl) ?_
            refine va_get (D := (dC, dI)) (ci := 1) (v := .int pa) (C := RX1) (T := TX1) (N := 12) hx hb hts in_X1 hown hK hP 0 rfl rfl 9 (by decide) (hts _ q172) (fun _ h9 => h9) rfl dX1_run_37 ?_
            refine lv_aload_n hx hb dX1_run_40 rfl (lv_at hl 0 rfl) ?_
            refine va_get (D := (dC, dI)) (ci := 1) (v := .int (nI n)) (C := RX1) (T := TX1) (N := 12) hx hb hts in_X1 hown hK hP 0 rfl rfl 0 (by decide) (hts _ q163) (fun _ h9 => h9) rfl dX1_run_41 ?_
            refine lv_icmp_lt (tgt := 51) hx hb dX1_run_44 (by decide) (fun c_44 => ?_) (fun c_44 => ?_)
            · obtain ⟨ip, hip0, rfl⟩ := nI_of c_33
              have hip : ip < n := (nI_ltI hip0 (by omega)).mp c_44
              have c_15 : ¬ nI n ≤ nI ip := Int32.not_le.mpr c_44
              obtain ⟨o, g, ho, hg, eo, eo2, eg, ea, eb, ed, en⟩ := hPg.2 ip hip
              refine lv_iconst (v := nI 0) hx hb dX1_run_51 (by decide +kernel) ?_
              refine lv_istore (lv' := [(4, .int (nI 0)), (0, .ref (hh 0)), (2, .int (nI tm)), (3, .int (nI j))]) hx hb dX1_run_52 hl (by decide) rfl (fun ls hl => ?_)
              refine lv_iload hx hb dX1_run_54 (lv_at hl 0 rfl) ?_
              refine wc_if_ne (tgt := 85) hx hb (x := 0) (by omega) dX1_run_56 (by decide) (fun c_56 => absurd c_56 (by omega)) (fun _ => ?_)
              refine lv_aload_n hx hb dX1_run_59 rfl (lv_at hl 1 rfl) ?_
              refine va_get (D := (dC, dI)) (ci := 1) (v := .ref (hh 1)) (C := RX1) (T := TX1) (N := 12) hx hb hts in_X1 hown hK hP 0 rfl rfl 1 (by decide) (hts _ q164) (fun _ h9 => h9) rfl dX1_run_60 ?_
              refine lv_aload_n hx hb dX1_run_63 rfl (lv_at hl 1 rfl) ?_
              refine va_get (D := (dC, dI)) (ci := 1) (v := .int (nI ip)) (C := RX1) (T := TX1) (N := 12) hx hb hts in_X1 hown hK hP 0 rfl rfl 9 (by decide) (hts _ q172) (fun _ h9 => h9) rfl dX1_run_64 ?_
              refine wc_iald hx hb hK hP 1 0 rfl rfl (j := ip) (by omega) (by decide) dX1_run_67 ?_
              refine wc_top (show mo ip = nI o from eo2) ?_
              refine lv_iconst (v := nI 5) hx hb dX1_run_68 (by decide +kernel) ?_
              refine wc_icmp_ne (tgt := 85) hx hb (x := o) (y := 5) (by omega) (by omega) dX1_run_69 (by decide) (fun c_69 => ?_) (fun c_69 => ?_)
              · refine lv_iconst (v := nI 0) hx hb dX1_run_85 (by decide +kernel) ?_
                refine lv_istore (lv' := [(5, .int (nI 0)), (4, .int (nI 0)), (0, .ref (hh 0)), (2, .int (nI tm)), (3, .int (nI j))]) hx hb dX1_run_86 hl (by decide) rfl (fun ls hl => ?_)
                refine lv_iload hx hb dX1_run_88 (lv_at hl 1 rfl) ?_
                refine wc_if_ne (tgt := 98) hx hb (x := 0) (by omega) dX1_run_90 (by decide) (fun c_90 => absurd c_90 (by omega)) (fun _ => ?_)
                refine lv_iload hx hb dX1_run_93 (lv_at hl 0 rfl) ?_
                refine wc_if_eq (tgt := 106) hx hb (x := 0) (by omega) dX1_run_95 (by decide) (fun _ => ?_) (fun c_95 => absurd c_95 (by omega))
                have hgo : wc_go n mo k (nI ip) := wc_go_of hip0 c_33 c_15 eo2 ho (fun h => absurd h c_69)
                refine lv_aload_n hx hb dX1_run_106 rfl (lv_at hl 2 rfl) ?_
                have hFc := va_free (wc := wc_wM hh dd n mo ma mb md mn ro k bk (nI ip) 0 cv) hD hS hA [0, 1, 2, 3, 4, 5, 6, 7] rfl
                refine va_callv (va_runV (As := []) (rest := []) ⟨hx, hb, hml, hown, hts⟩ (wc_mStep l dC dI hh dd H.size n mo ma mb md mn ro k bk cv o (g % 8) (g / 8 % 8) (g / 64) ip hn24 hip eo2 ea eb ed ho (by omega) (by omega) (by omega) hk (fun h => absurd h c_69)) (cwV 0 hts (lw_V q216 q218 qs8 q12 q219) rfl rfl rfl (by decide +kernel) ⟨Nat.le_of_ble_eq_true rfl, Nat.le_of_ble_eq_true rfl⟩) (wc_preV hK hP hD (ci := 1) (q0 := 0) rfl rfl) rfl rfl hl.1 rfl (lv_room (Nat.le_of_ble_eq_true rfl)) dX1_run_107 ⟨Nat.le_of_ble_eq_true rfl, Nat.le_of_ble_eq_true rfl⟩) hS (fun q _ h => hFc q h) hFc (fun u t H_2 locs ht hvm hw hBw hz1 hk1 hS => ?_)
                subst hw
                obtain ⟨hP1, hK1, hD1⟩ := hBw
                rw [ht] at hP1
                have hP : va_P (dC, dI) vwCl (wc_wM hh dd n mo ma mb md mn ((wc_nx o (g % 8) (g / 8 % 8) (g / 64) ip (mn ip) ro k bk).1) ((wc_nx o (g % 8) (g / 8 % 8) (g / 64) ip (mn ip) ro k bk).2.1) ((wc_nx o (g % 8) (g / 8 % 8) (g / 64) ip (mn ip) ro k bk).2.2.1) ((wc_nx o (g % 8) (g / 8 % 8) (g / 64) ip (mn ip) ro k bk).2.2.2.1) ((wc_nx o (g % 8) (g / 8 % 8) (g / 64) ip (mn ip) ro k bk).2.2.2.2) (cv + nI 1)) H_2 := hP1
                have hD : va_D A (wc_wM hh dd n mo ma mb md mn ((wc_nx o (g % 8) (g / 8 % 8) (g / 64) ip (mn ip) ro k bk).1) ((wc_nx o (g % 8) (g / 8 % 8) (g / 64) ip (mn ip) ro k bk).2.1) ((wc_nx o (g % 8) (g / 8 % 8) (g / 64) ip (mn ip) ro k bk).2.2.1) ((wc_nx o (g % 8) (g / 8 % 8) (g / 64) ip (mn ip) ro k bk).2.2.2.1) ((wc_nx o (g % 8) (g / 8 % 8) (g / 64) ip (mn ip) ro k bk).2.2.2.2) (cv + nI 1)) := hD1.weaken (fun _ q _ h => hFc q.1 h)
                refine lv_iinc (v := nI (j + 1)) (lv' := [(3, .int (nI (j + 1))), (5, .int (nI 0)), (4, .int (nI 0)), (0, .ref (hh 0)), (2, .int (nI tm))]) hx hb dX1_run_110 hl (k := 4) rfl (by first | exact nI_add _ _ | decide +kernel) (by decide) rfl (fun ls hl => ?_)
                refine lv_goto (tgt := 17) hx hb dX1_run_113 (by decide) ?_
                exact ih (j + 1) (wc_nx o (g % 8) (g / 8 % 8) (g / 64) ip (mn ip) ro k bk).1 (wc_nx o (g % 8) (g / 8 % 8) (g / 64) ip (mn ip) ro k bk).2.1 (wc_nx o (g % 8) (g / 8 % 8) (g / 64) ip (mn ip) ro k bk).2.2.1 (wc_nx o (g % 8) (g / 8 % 8) (g / 64) ip (mn ip) ro k bk).2.2.2.1 (wc_nx o (g % 8) (g / 8 % 8) (g / 64) ip (mn ip) ro k bk).2.2.2.2 (cv + nI 1) (by omega) (wc_rn_s hZ ((wc_rn_go rfl hgo).trans (by rw [wc_nxt_eq hip0 eo2 ea eb ed ho (by omega) (by omega) (by omega)]))) (by rw [ecv, Int32.add_assoc, nI_add]) (wc_nx_k ho hk (fun h => absurd h c_69)) _ _ hP hD hS ls (lv_sub hl [3, 4, 0] rfl)
              · refine lv_aload_n hx hb dX1_run_72 rfl (lv_at hl 1 rfl) ?_
                refine va_get (D := (dC, dI)) (ci := 1) (v := .int (nI k)) (C := RX1) (T := TX1) (N := 12) hx hb hts in_X1 hown hK hP 0 rfl rfl 7 (by decide) (hts _ q170) (fun _ h9 => h9) rfl dX1_run_73 ?_
                refine lv_bipush (v := nI 29) hx hb dX1_run_76 (by decide +kernel) ?_
                refine wc_icmp_ne (tgt := 85) hx hb (x := k) (y := 29) (by omega) (by omega) dX1_run_78 (by decide) (fun c_78 => ?_) (fun c_78 => ?_)
                · refine lv_iconst (v := nI 0) hx hb dX1_run_85 (by decide +kernel) ?_
                  refine lv_istore (lv' := [(5, .int (nI 0)), (4, .int (nI 0)), (0, .ref (hh 0)), (2, .int (nI tm)), (3, .int (nI j))]) hx hb dX1_run_86 hl (by decide) rfl (fun ls hl => ?_)
                  refine lv_iload hx hb dX1_run_88 (lv_at hl 1 rfl) ?_
                  refine wc_if_ne (tgt := 98) hx hb (x := 0) (by omega) dX1_run_90 (by decide) (fun c_90 => absurd c_90 (by omega)) (fun _ => ?_)
                  refine lv_iload hx hb dX1_run_93 (lv_at hl 0 rfl) ?_
                  refine wc_if_eq (tgt := 106) hx hb (x := 0) (by omega) dX1_run_95 (by decide) (fun _ => ?_) (fun c_95 => absurd c_95 (by omega))
                  have hgo : wc_go n mo k (nI ip) := wc_go_of hip0 c_33 c_15 eo2 ho (fun _ => c_78)
                  refine lv_aload_n hx hb dX1_run_106 rfl (lv_at hl 2 rfl) ?_
                  have hFc := va_free (wc := wc_wM hh dd n mo ma mb md mn ro k bk (nI ip) 0 cv) hD hS hA [0, 1, 2, 3, 4, 5, 6, 7] rfl
                  refine va_callv (va_runV (As := []) (rest := []) ⟨hx, hb, hml, hown, hts⟩ (wc_mStep l dC dI hh dd H.size n mo ma mb md mn ro k bk cv o (g % 8) (g / 8 % 8) (g / 64) ip hn24 hip eo2 ea eb ed ho (by omega) (by omega) (by omega) hk (fun _ => by omega)) (cwV 0 hts (lw_V q216 q218 qs8 q12 q219) rfl rfl rfl (by decide +kernel) ⟨Nat.le_of_ble_eq_true rfl, Nat.le_of_ble_eq_true rfl⟩) (wc_preV hK hP hD (ci := 1) (q0 := 0) rfl rfl) rfl rfl hl.1 rfl (lv_room (Nat.le_of_ble_eq_true rfl)) dX1_run_107 ⟨Nat.le_of_ble_eq_true rfl, Nat.le_of_ble_eq_true rfl⟩) hS (fun q _ h => hFc q h) hFc (fun u t H_3 locs ht hvm hw hBw hz1 hk1 hS => ?_)
                  subst hw
                  obtain ⟨hP1, hK1, hD1⟩ := hBw
                  rw [ht] at hP1
                  have hP : va_P (dC, dI) vwCl (wc_wM hh dd n mo ma mb md mn ((wc_nx o (g % 8) (g / 8 % 8) (g / 64) ip (mn ip) ro k bk).1) ((wc_nx o (g % 8) (g / 8 % 8) (g / 64) ip (mn ip) ro k bk).2.1) ((wc_nx o (g % 8) (g / 8 % 8) (g / 64) ip (mn ip) ro k bk).2.2.1) ((wc_nx o (g % 8) (g / 8 % 8) (g / 64) ip (mn ip) ro k bk).2.2.2.1) ((wc_nx o (g % 8) (g / 8 % 8) (g / 64) ip (mn ip) ro k bk).2.2.2.2) (cv + nI 1)) H_3 := hP1
                  have hD : va_D A (wc_wM hh dd n mo ma mb md mn ((wc_nx o (g % 8) (g / 8 % 8) (g / 64) ip (mn ip) ro k bk).1) ((wc_nx o (g % 8) (g / 8 % 8) (g / 64) ip (mn ip) ro k bk).2.1) ((wc_nx o (g % 8) (g / 8 % 8) (g / 64) ip (mn ip) ro k bk).2.2.1) ((wc_nx o (g % 8) (g / 8 % 8) (g / 64) ip (mn ip) ro k bk).2.2.2.1) ((wc_nx o (g % 8) (g / 8 % 8) (g / 64) ip (mn ip) ro k bk).2.2.2.2) (cv + nI 1)) := hD1.weaken (fun _ q _ h => hFc q.1 h)
                  refine lv_iinc (v := nI (j + 1)) (lv' := [(3, .int (nI (j + 1))), (5, .int (nI 0)), (4, .int (nI 0)), (0, .ref (hh 0)), (2, .int (nI tm))]) hx hb dX1_run_110 hl (k := 4) rfl (by first | exact nI_add _ _ | decide +kernel) (by decide) rfl (fun ls hl => ?_)
                  refine lv_goto (tgt := 17) hx hb dX1_run_113 (by decide) ?_
                  exact ih (j + 1) (wc_nx o (g % 8) (g / 8 % 8) (g / 64) ip (mn ip) ro k bk).1 (wc_nx o (g % 8) (g / 8 % 8) (g / 64) ip (mn ip) ro k bk).2.1 (wc_nx o (g % 8) (g / 8 % 8) (g / 64) ip (mn ip) ro k bk).2.2.1 (wc_nx o (g % 8) (g / 8 % 8) (g / 64) ip (mn ip) ro k bk).2.2.2.1 (wc_nx o (g % 8) (g / 8 % 8) (g / 64) ip (mn ip) ro k bk).2.2.2.2 (cv + nI 1) (by omega) (wc_rn_s hZ ((wc_rn_go rfl hgo).trans (by rw [wc_nxt_eq hip0 eo2 ea eb ed ho (by omega) (by omega) (by omega)]))) (by rw [ecv, Int32.add_assoc, nI_add]) (wc_nx_k ho hk (fun _ => by omega)) _ _ hP hD hS ls (lv_sub hl [3, 4, 0] rfl)
                · refine lv_iconst (v := nI 1) hx hb dX1_run_81 (by decide +kernel) ?_
                  refine lv_goto (tgt := 86) hx hb dX1_run_82 (by decide) ?_
                  refine lv_istore (lv' := [(5, .int (nI 1)), (4, .int (nI 0)), (0, .ref (hh 0)), (2, .int (nI tm)), (3, .int (nI j))]) hx hb dX1_run_86 hl (by decide) rfl (fun ls hl => ?_)
                  refine lv_iload hx hb dX1_run_88 (lv_at hl 1 rfl) ?_
                  refine wc_if_ne (tgt := 98) hx hb (x := 0) (by omega) dX1_run_90 (by decide) (fun c_90 => absurd c_90 (by omega)) (fun _ => ?_)
                  refine lv_iload hx hb dX1_run_93 (lv_at hl 0 rfl) ?_
                  refine wc_if_eq (tgt := 106) hx hb (x := 1) (by omega) dX1_run_95 (by decide) (fun c_95 => absurd c_95 (by omega)) (fun _ => ?_)
                  refine lv_aload_n hx hb dX1_run_98 rfl (lv_at hl 2 rfl) ?_
                  refine lv_iconst (v := 1) hx hb dX1_run_99 (by decide +kernel) ?_
                  refine va_put (D := (dC, dI)) (ci := 1) (v := .int 1) (ty := .boolean) (C := RX1) (T := TX1) (N := 12) hx hb hts in_X1 tyX1 tyX1_ok nmX1 hown hK hP hD hS 0 rfl rfl 10 (by decide) (hts _ q173) (fun _ h9 => h9) rfl (by decide +kernel) rfl rfl (Nat.le_of_ble_eq_true rfl) dX1_run_100 (fun H_4 locs hP hD hS => ?_)
                  have hP : va_P (dC, dI) vwCl (wc_wM hh dd n mo ma mb md mn ro k bk (nI ip) 1 cv) H_4 := hP
                  have hD : va_D A (wc_wM hh dd n mo ma mb md mn ro k bk (nI ip) 1 cv) := hD
                  refine lv_goto (tgt := 113) hx hb dX1_run_103 (by decide) ?_
                  refine lv_goto (tgt := 17) hx hb dX1_run_113 (by decide) ?_
                  refine lv_iload_n hx hb dX1_run_17 rfl (lv_at hl 4 rfl) ?_
                  refine lv_iload_n hx hb dX1_run_18 rfl (lv_at hl 3 rfl) ?_
                  refine wc_icmp_ge (tgt := 116) hx hb (x := j) (y := tm) (by omega) (by omega) dX1_run_19 (by decide) (fun c_19 => ?_) (fun c_19 => ?_)
                  · exact absurd c_19 (by omega)
                  · refine lv_aload_n hx hb dX1_run_22 rfl (lv_at hl 2 rfl) ?_
                    refine va_get (D := (dC, dI)) (ci := 1) (v := .int 1) (C := RX1) (T := TX1) (N := 12) hx hb hts in_X1 hown hK hP 0 rfl rfl 10 (by decide) (hts _ q173) (fun _ h9 => h9) rfl dX1_run_23 ?_
                    refine lv_if_ne (tgt := 116) hx hb dX1_run_26 (by decide) (fun c_26 => ?_) (fun c_26 => ?_)
                    · refine lv_iload_n hx hb dX1_run_116 rfl (lv_at hl 4 rfl) ?_
                      exact W.iret (v := nI j) hx hb hr (fun t ht hW => ⟨⟨nI j, (n, mo, ma, mb, md, mn, ro, k, bk, nI ip, 1, cv), rfl, wc_mu_mk (wc_rn_j hZ (wc_rn_out rfl (wc_go_not hip0 (by rw [eo2, c_69]) c_78))) ecv, by rw [ht]; exact hP, va_K.moved hW.alike hK, hD⟩, hS.F ht⟩) hS.2.2 dX1_run_117
                    · exact absurd c_26 (by decide)
            · refine lv_iconst (v := nI 1) hx hb dX1_run_47 (by decide +kernel) ?_
              refine lv_goto (tgt := 52) hx hb dX1_run_48 (by decide) ?_
              refine lv_istore (lv' := [(4, .int (nI 1)), (0, .ref (hh 0)), (2, .int (nI tm)), (3, .int (nI j))]) hx hb dX1_run_52 hl (by decide) rfl (fun ls hl => ?_)
              refine lv_iload hx hb dX1_run_54 (lv_at hl 0 rfl) ?_
              refine wc_if_ne (tgt := 85) hx hb (x := 1) (by omega) dX1_run_56 (by decide) (fun _ => ?_) (fun c_56 => absurd c_56 (by omega))
              refine lv_iconst (v := nI 0) hx hb dX1_run_85 (by decide +kernel) ?_
              refine lv_istore (lv' := [(5, .int (nI 0)), (4, .int (nI 1)), (0, .ref (hh 0)), (2, .int (nI tm)), (3, .int (nI j))]) hx hb dX1_run_86 hl (by decide) rfl (fun ls hl => ?_)
              refine lv_iload hx hb dX1_run_88 (lv_at hl 1 rfl) ?_
              refine wc_if_ne (tgt := 98) hx hb (x := 1) (by omega) dX1_run_90 (by decide) (fun _ => ?_) (fun c_90 => absurd c_90 (by omega))
              refine lv_aload_n hx hb dX1_run_98 rfl (lv_at hl 2 rfl) ?_
              refine lv_iconst (v := 1) hx hb dX1_run_99 (by decide +kernel) ?_
              refine va_put (D := (dC, dI)) (ci := 1) (v := .int 1) (ty := .boolean) (C := RX1) (T := TX1) (N := 12) hx hb hts in_X1 tyX1 tyX1_ok nmX1 hown hK hP hD hS 0 rfl rfl 10 (by decide) (hts _ q173) (fun _ h9 => h9) rfl (by decide +kernel) rfl rfl (Nat.le_of_ble_eq_true rfl) dX1_run_100 (fun H_5 locs hP hD hS => ?_)
              have hP : va_P (dC, dI) vwCl (wc_wM hh dd n mo ma mb md mn ro k bk pa 1 cv) H_5 := hP
              have hD : va_D A (wc_wM hh dd n mo ma mb md mn ro k bk pa 1 cv) := hD
              refine lv_goto (tgt := 113) hx hb dX1_run_103 (by decide) ?_
              refine lv_goto (tgt := 17) hx hb dX1_run_113 (by decide) ?_
              refine lv_iload_n hx hb dX1_run_17 rfl (lv_at hl 4 rfl) ?_
              refine lv_iload_n hx hb dX1_run_18 rfl (lv_at hl 3 rfl) ?_
              refine wc_icmp_ge (tgt := 116) hx hb (x := j) (y := tm) (by omega) (by omega) dX1_run_19 (by decide) (fun c_19 => ?_) (fun c_19 => ?_)
              · exact absurd c_19 (by omega)
              · refine lv_aload_n hx hb dX1_run_22 rfl (lv_at hl 2 rfl) ?_
                refine va_get (D := (dC, dI)) (ci := 1) (v := .int 1) (C := RX1) (T := TX1) (N := 12) hx hb hts in_X1 hown hK hP 0 rfl rfl 10 (by decide) (hts _ q173) (fun _ h9 => h9) rfl dX1_run_23 ?_
                refine lv_if_ne (tgt := 116) hx hb dX1_run_26 (by decide) (fun c_26 => ?_) (fun c_26 => ?_)
                · refine lv_iload_n hx hb dX1_run_116 rfl (lv_at hl 4 rfl) ?_
                  exact W.iret (v := nI j) hx hb hr (fun t ht hW => ⟨⟨nI j, (n, mo, ma, mb, md, mn, ro, k, bk, pa, 1, cv), rfl, wc_mu_mk (wc_rn_j hZ (wc_rn_out rfl (fun h => h.2.1 (Int32.not_lt.mp c_44)))) ecv, by rw [ht]; exact hP, va_K.moved hW.alike hK, hD⟩, hS.F ht⟩) hS.2.2 dX1_run_117
                · exact absurd c_26 (by decide)
  refine lv_iload_n hx hb dX1_run_0 rfl (lv_at hl 1 rfl) ?_
  refine lv_sipush (v := nI 200) hx hb dX1_run_1 (by decide +kernel) ?_
  refine lv_icmp_le (tgt := 13) hx hb dX1_run_4 (by decide) (fun c_4 => ?_) (fun c_4 => ?_)
  · by_cases hneg : x < 0
    · refine lv_iload_n hx hb dX1_run_13 rfl (lv_at hl 1 rfl) ?_
      refine lv_istore_n (lv' := [(2, .int x), (0, .ref (hh 0)), (1, .int x)]) hx hb dX1_run_14 rfl hl (by decide) rfl (fun ls hl => ?_)
      refine lv_iconst (v := nI 0) hx hb dX1_run_15 (by decide +kernel) ?_
      refine lv_istore_n (lv' := [(3, .int (nI 0)), (2, .int x), (0, .ref (hh 0)), (1, .int x)]) hx hb dX1_run_16 rfl hl (by decide) rfl (fun ls hl => ?_)
      refine lv_iload_n hx hb dX1_run_17 rfl (lv_at hl 0 rfl) ?_
      refine lv_iload_n hx hb dX1_run_18 rfl (lv_at hl 1 rfl) ?_
      refine lv_icmp_ge (tgt := 116) hx hb dX1_run_19 (by decide) (fun c_19 => ?_) (fun c_19 => ?_)
      · refine lv_iload_n hx hb dX1_run_116 rfl (lv_at hl 0 rfl) ?_
        exact W.iret (v := nI 0) hx hb hr (fun t ht hW => ⟨⟨nI 0, (n, mo, ma, mb, md, mn, ro, k, bk, pa, ov, ca), rfl, wc_mu_mk (by rw [← hZ, wc_cnt1 hneg]; rfl) (by rw [nI_0, Int32.add_zero]), by rw [ht]; exact hP, va_K.moved hW.alike hK, hD⟩, hS.F ht⟩) hS.2.2 dX1_run_117
      · exact absurd (by rw [nI_0]; exact Int32.le_of_lt hneg) c_19
    · obtain ⟨j0, hj0, rfl⟩ := nI_of hneg
      have hj2 : j0 ≤ 200 := (nI_leI hj0 (by omega)).mp c_4
      refine lv_iload_n hx hb dX1_run_13 rfl (lv_at hl 1 rfl) ?_
      refine lv_istore_n (lv' := [(2, .int (nI j0)), (0, .ref (hh 0)), (1, .int (nI j0))]) hx hb dX1_run_14 rfl hl (by decide) rfl (fun ls hl => ?_)
      refine lv_iconst (v := nI 0) hx hb dX1_run_15 (by decide +kernel) ?_
      refine lv_istore_n (lv' := [(3, .int (nI 0)), (2, .int (nI j0)), (0, .ref (hh 0)), (1, .int (nI j0))]) hx hb dX1_run_16 rfl hl (by decide) rfl (fun ls hl => ?_)
      exact loop j0 hj2 j0 0 ro k bk pa ov ca (by omega) (by rw [← hZ, wc_cnt2 hj0 hj2, Nat.zero_add]) (by rw [nI_0, Int32.add_zero]) hk _ _ hP hD hS ls (lv_sub hl [2, 1, 0] rfl)
  · have hneg : ¬ x < 0 := fun h => c_4 (Int32.le_of_lt (Int32.lt_of_lt_of_le h (nI_pos' (by omega))))
    refine lv_sipush (v := nI 200) hx hb dX1_run_7 (by decide +kernel) ?_
    refine lv_goto (tgt := 14) hx hb dX1_run_10 (by decide) ?_
    refine lv_istore_n (lv' := [(2, .int (nI 200)), (0, .ref (hh 0)), (1, .int x)]) hx hb dX1_run_14 rfl hl (by decide) rfl (fun ls hl => ?_)
    refine lv_iconst (v := nI 0) hx hb dX1_run_15 (by decide +kernel) ?_
    refine lv_istore_n (lv' := [(3, .int (nI 0)), (2, .int (nI 200)), (0, .ref (hh 0)), (1, .int x)]) hx hb dX1_run_16 rfl hl (by decide) rfl (fun ls hl => ?_)
    exact loop 200 (by omega) 200 0 ro k bk pa ov ca (by omega) (by rw [← hZ, wc_cnt3 hneg c_4, Nat.zero_add]) (by rw [nI_0, Int32.add_zero]) hk _ _ hP hD hS ls (lv_sub hl [2, 1, 0] rfl)
end
section
/-! the constructors -/
set_option maxHeartbeats 4000000 in
set_option maxRecDepth 100000 in
/-- WindowedCalls(): six new arrays, all zero -/
theorem wc_xInit (l : Launch) (dC : Nat → ClassId) (dI : Nat → Nat → Nat) (h0 sz : Nat) : Met l yX0_init (ws_ yX0_init cX0_init 1 none) ({ frames := 1, cells := 6, slots := 246, locals := 12 }) (va_Pc [.ref h0] (wc_pw dC dI [(h0, .inr (0, [.null, .null, .null, .int (nI 0), .int 0, .int 0, .int 0, .int (nI 0), .int (nI 0), .null, .null, .null]))] [] sz)) (va_Qv (fun (u : wc_SX) => u = ((fun _ => 0), (fun _ => 0), (fun _ => 0), 0, 0, 0, 0, 0, 0, (fun _ => 0), (fun _ => 0), (fun _ => 0))) (fun (u : wc_SX) (t : State) => ∃ (hh : Nat → Nat) (dd : Nat → ClassId), hh 0 = h0 ∧ wc_bX dC dI hh dd (va_A [(h0, .inr (0, [.null, .null, .null, .int (nI 0), .int 0, .int 0, .int 0, .int (nI 0), .int (nI 0), .null, .null, .null]))] sz) u t) (va_A [(h0, .inr (0, [.null, .null, .null, .int (nI 0), .int 0, .int 0, .int 0, .int (nI 0), .int (nI 0), .null, .null, .null]))] sz)) 6 246 (va_A [(h0, .inr (0, [.null, .null, .null, .int (nI 0), .int 0, .int 0, .int 0, .int (nI 0), .int (nI 0), .null, .null, .null]))] sz) := by
  refine Met.ofW (cc := cX0_init) (maxL := 1) (ret := none) (by decide) rfl ?_
  intro p e s m args below meth c s₁ B hml hv
  obtain ⟨rfl, hsz, hP, hK, hD0⟩ := hv
  have hx := B.exec
  have hb := B.bytes
  have hr := B.returns
  have hts := atoms_spec (ws := ws_ yX0_init cX0_init 1 none) B.pre
  have hts : ∀ w ∈ lw_all, w.before _ s = true := fun w h => hts w (List.mem_cons_of_mem _ h)
  have hown : s.vm.findClass RX0 = some m.cls := findClass_of_methodNamed B.named
  have hlocks := B.notSynchronized
  have hin : meth.name = "<init>" := (name_of_methodNamed B.named B.method).1
  subst hsz
  have hD := hD0.self (sz := s.heap.size)
  generalize hAe : va_A [(h0, .inr (0, [.null, .null, .null, .int (nI 0), .int 0, .int 0, .int 0, .int (nI 0), .int (nI 0), .null, .null, .null]))] s.heap.size = A at hD ⊢
  have hA : ∀ q : Nat, s.heap.size ≤ q → A q := fun q h => by rw [← hAe]; exact Or.inr h
  have hS : va_S A s.heap s.heap [] := va_S.rf
  have hP : va_P (dC, dI) vwCl [(h0, .inr (0, [.null, .null, .null, .int (nI 0), .int 0, .int 0, .int 0, .int (nI 0), .int (nI 0), .null, .null, .null]))] s.heap := hP
  have hl := lv_entry ([.ref h0]) (n := 1) (Nat.le_of_ble_eq_true rfl)
  rw [lg_entry_eq]
  generalize (lg_sl ([.ref h0]) ++ List.replicate (1 - (lg_sl ([.ref h0])).length) Slot.unset).toArray = ls at hl ⊢
  have hl : lv_has ls 1 [(0, .ref h0)] := hl
  refine lv_aload_n hx hb dX0_init_0 rfl (lv_at hl 0 rfl) ?_
  refine W.objInit hx hb hown (hts _ q18) (hts _ q19) (hts _ q20) rfl (by rw [hml]; exact hl.1) rfl dX0_init_1 (Nat.le_of_ble_eq_true rfl) (Nat.le_of_ble_eq_true rfl) ?_
  refine W.eq (g2 := F0 m 4 ls []) rfl ?_
  refine lv_aload_n hx hb dX0_init_4 rfl (lv_at hl 0 rfl) ?_
  refine lv_bipush (v := nI 24) hx hb dX0_init_5 (by decide +kernel) ?_
  refine va_newa (atype := .byte) (a0 := (24, .inl (fun _ => 0))) (N' := 24) (ty := .byte) hx hb (hts _ q58) rfl hK hP hD hS hA (fun _ => rfl) (by decide +kernel) (by decide +kernel) (by decide) (Nat.le_of_ble_eq_true rfl) (Nat.le_of_ble_eq_true rfl) dX0_init_7 (fun q7_ c7_ H hK hP hD hS => ?_)
  have hK : va_K (dC, dI) vwCl [(c7_, .byte)] s := hK
  have hP : va_P (dC, dI) vwCl [(h0, .inr (0, [.null, .null, .null, .int (nI 0), .int 0, .int 0, .int 0, .int (nI 0), .int (nI 0), .null, .null, .null])), (q7_, .inl (c7_, 24, .inl (fun _ => 0)))] H := hP
  have hD : va_D A [(h0, .inr (0, [.null, .null, .null, .int (nI 0), .int 0, .int 0, .int 0, .int (nI 0), .int (nI 0), .null, .null, .null])), (q7_, .inl (c7_, 24, .inl (fun _ => 0)))] := hD
  refine W.widen (k := 1) (n := 24) (by omega) (by omega) ?_
  refine va_putF (D := (dC, dI)) (ci := 0) (v := .ref q7_) (ty := .array .byte) (C := RX0) (T := TX0) (N := 12) hx hb hts in_X0 tyX0 tyX0_ok nmX0 hown hK hP hD hS 0 rfl rfl 0 (by decide) (hts _ q21) (fun _ h9 => h9) rfl hin rfl (by decide +kernel) rfl rfl (Nat.le_of_ble_eq_true rfl) dX0_init_9 (fun H locs hP hD hS => ?_)
  have hP : va_P (dC, dI) vwCl [(h0, .inr (0, [.ref q7_, .null, .null, .int (nI 0), .int 0, .int 0, .int 0, .int (nI 0), .int (nI 0), .null, .null, .null])), (q7_, .inl (c7_, 24, .inl (fun _ => 0)))] H := hP
  have hD : va_D A [(h0, .inr (0, [.ref q7_, .null, .null, .int (nI 0), .int 0, .int 0, .int 0, .int (nI 0), .int (nI 0), .null, .null, .null])), (q7_, .inl (c7_, 24, .inl (fun _ => 0)))] := hD
  refine lv_aload_n hx hb dX0_init_12 rfl (lv_at hl 0 rfl) ?_
  refine lv_bipush (v := nI 24) hx hb dX0_init_13 (by decide +kernel) ?_
  refine va_newa (atype := .short) (a0 := (24, .inl (fun _ => 0))) (N' := 24) (ty := .short) hx hb (hts _ q59) rfl hK hP hD hS hA (fun _ => rfl) (by decide +kernel) (by decide +kernel) (by decide) (Nat.le_of_ble_eq_true rfl) (Nat.le_of_ble_eq_true rfl) dX0_init_15 (fun q15_ c15_ H hK hP hD hS => ?_)
  have hK : va_K (dC, dI) vwCl [(c7_, .byte), (c15_, .short)] s := hK
  have hP : va_P (dC, dI) vwCl [(h0, .inr (0, [.ref q7_, .null, .null, .int (nI 0), .int 0, .int 0, .int 0, .int (nI 0), .int (nI 0), .null, .null, .null])), (q7_, .inl (c7_, 24, .inl (fun _ => 0))), (q15_, .inl (c15_, 24, .inl (fun _ => 0)))] H := hP
  have hD : va_D A [(h0, .inr (0, [.ref q7_, .null, .null, .int (nI 0), .int 0, .int 0, .int 0, .int (nI 0), .int (nI 0), .null, .null, .null])), (q7_, .inl (c7_, 24, .inl (fun _ => 0))), (q15_, .inl (c15_, 24, .inl (fun _ => 0)))] := hD
  refine W.widen (k := 2) (n := 48) (by omega) (by omega) ?_
  refine va_putF (D := (dC, dI)) (ci := 0) (v := .ref q15_) (ty := .array .short) (C := RX0) (T := TX0) (N := 12) hx hb hts in_X0 tyX0 tyX0_ok nmX0 hown hK hP hD hS 0 rfl rfl 1 (by decide) (hts _ q22) (fun _ h9 => h9) rfl hin rfl (by decide +kernel) rfl rfl (Nat.le_of_ble_eq_true rfl) dX0_init_17 (fun H locs hP hD hS => ?_)
  have hP : va_P (dC, dI) vwCl [(h0, .inr (0, [.ref q7_, .ref q15_, .null, .int (nI 0), .int 0, .int 0, .int 0, .int (nI 0), .int (nI 0), .null, .null, .null])), (q7_, .inl (c7_, 24, .inl (fun _ => 0))), (q15_, .inl (c15_, 24, .inl (fun _ => 0)))] H := hP
  have hD : va_D A [(h0, .inr (0, [.ref q7_, .ref q15_, .null, .int (nI 0), .int 0, .int 0, .int 0, .int (nI 0), .int (nI 0), .null, .null, .null])), (q7_, .inl (c7_, 24, .inl (fun _ => 0))), (q15_, .inl (c15_, 24, .inl (fun _ => 0)))] := hD
  refine lv_aload_n hx hb dX0_init_20 rfl (lv_at hl 0 rfl) ?_
  refine lv_bipush (v := nI 24) hx hb dX0_init_21 (by decide +kernel) ?_
  refine va_newa (atype := .int) (a0 := (24, .inl (fun _ => 0))) (N' := 24) (ty := .int) hx hb (hts _ q60) rfl hK hP hD hS hA (fun _ => rfl) (by decide +kernel) (by decide +kernel) (by decide) (Nat.le_of_ble_eq_true rfl) (Nat.le_of_ble_eq_true rfl) dX0_init_23 (fun q23_ c23_ H hK hP hD hS => ?_)
  have hK : va_K (dC, dI) vwCl [(c7_, .byte), (c15_, .short), (c23_, .int)] s := hK
  have hP : va_P (dC, dI) vwCl [(h0, .inr (0, [.ref q7_, .ref q15_, .null, .int (nI 0), .int 0, .int 0, .int 0, .int (nI 0), .int (nI 0), .null, .null, .null])), (q7_, .inl (c7_, 24, .inl (fun _ => 0))), (q15_, .inl (c15_, 24, .inl (fun _ => 0))), (q23_, .inl (c23_, 24, .inl (fun _ => 0)))] H := hP
  have hD : va_D A [(h0, .inr (0, [.ref q7_, .ref q15_, .null, .int (nI 0), .int 0, .int 0, .int 0, .int (nI 0), .int (nI 0), .null, .null, .null])), (q7_, .inl (c7_, 24, .inl (fun _ => 0))), (q15_, .inl (c15_, 24, .inl (fun _ => 0))), (q23_, .inl (c23_, 24, .inl (fun _ => 0)))] := hD
  refine W.widen (k := 3) (n := 72) (by omega) (by omega) ?_
  refine va_putF (D := (dC, dI)) (ci := 0) (v := .ref q23_) (ty := .array .int) (C := RX0) (T := TX0) (N := 12) hx hb hts in_X0 tyX0 tyX0_ok nmX0 hown hK hP hD hS 0 rfl rfl 2 (by decide) (hts _ q23) (fun _ h9 => h9) rfl hin rfl (by decide +kernel) rfl rfl (Nat.le_of_ble_eq_true rfl) dX0_init_25 (fun H locs hP hD hS => ?_)
  have hP : va_P (dC, dI) vwCl [(h0, .inr (0, [.ref q7_, .ref q15_, .ref q23_, .int (nI 0), .int 0, .int 0, .int 0, .int (nI 0), .int (nI 0), .null, .null, .null])), (q7_, .inl (c7_, 24, .inl (fun _ => 0))), (q15_, .inl (c15_, 24, .inl (fun _ => 0))), (q23_, .inl (c23_, 24, .inl (fun _ => 0)))] H := hP
  have hD : va_D A [(h0, .inr (0, [.ref q7_, .ref q15_, .ref q23_, .int (nI 0), .int 0, .int 0, .int 0, .int (nI 0), .int (nI 0), .null, .null, .null])), (q7_, .inl (c7_, 24, .inl (fun _ => 0))), (q15_, .inl (c15_, 24, .inl (fun _ => 0))), (q23_, .inl (c23_, 24, .inl (fun _ => 0)))] := hD
  refine lv_aload_n hx hb dX0_init_28 rfl (lv_at hl 0 rfl) ?_
  refine lv_bipush (v := nI 16) hx hb dX0_init_29 (by decide +kernel) ?_
  refine va_newa (atype := .int) (a0 := (16, .inl (fun _ => 0))) (N' := 16) (ty := .int) hx hb (hts _ q60) rfl hK hP hD hS hA (fun _ => rfl) (by decide +kernel) (by decide +kernel) (by decide) (Nat.le_of_ble_eq_true rfl) (Nat.le_of_ble_eq_true rfl) dX0_init_31 (fun q31_ c31_ H hK hP hD hS => ?_)
  have hK : va_K (dC, dI) vwCl [(c7_, .byte), (c15_, .short), (c23_, .int), (c31_, .int)] s := hK
  have hP : va_P (dC, dI) vwCl [(h0, .inr (0, [.ref q7_, .ref q15_, .ref q23_, .int (nI 0), .int 0, .int 0, .int 0, .int (nI 0), .int (nI 0), .null, .null, .null])), (q7_, .inl (c7_, 24, .inl (fun _ => 0))), (q15_, .inl (c15_, 24, .inl (fun _ => 0))), (q23_, .inl (c23_, 24, .inl (fun _ => 0))), (q31_, .inl (c31_, 16, .inl (fun _ => 0)))] H := hP
  have hD : va_D A [(h0, .inr (0, [.ref q7_, .ref q15_, .ref q23_, .int (nI 0), .int 0, .int 0, .int 0, .int (nI 0), .int (nI 0), .null, .null, .null])), (q7_, .inl (c7_, 24, .inl (fun _ => 0))), (q15_, .inl (c15_, 24, .inl (fun _ => 0))), (q23_, .inl (c23_, 24, .inl (fun _ => 0))), (q31_, .inl (c31_, 16, .inl (fun _ => 0)))] := hD
  refine W.widen (k := 4) (n := 88) (by omega) (by omega) ?_
  refine va_putF (D := (dC, dI)) (ci := 0) (v := .ref q31_) (ty := .array .int) (C := RX0) (T := TX0) (N := 12) hx hb hts in_X0 tyX0 tyX0_ok nmX0 hown hK hP hD hS 0 rfl rfl 9 (by decide) (hts _ q30) (fun _ h9 => h9) rfl hin rfl (by decide +kernel) rfl rfl (Nat.le_of_ble_eq_true rfl) dX0_init_33 (fun H locs hP hD hS => ?_)
  have hP : va_P (dC, dI) vwCl [(h0, .inr (0, [.ref q7_, .ref q15_, .ref q23_, .int (nI 0), .int 0, .int 0, .int 0, .int (nI 0), .int (nI 0), .ref q31_, .null, .null])), (q7_, .inl (c7_, 24, .inl (fun _ => 0))), (q15_, .inl (c15_, 24, .inl (fun _ => 0))), (q23_, .inl (c23_, 24, .inl (fun _ => 0))), (q31_, .inl (c31_, 16, .inl (fun _ => 0)))] H := hP
  have hD : va_D A [(h0, .inr (0, [.ref q7_, .ref q15_, .ref q23_, .int (nI 0), .int 0, .int 0, .int 0, .int (nI 0), .int (nI 0), .ref q31_, .null, .null])), (q7_, .inl (c7_, 24, .inl (fun _ => 0))), (q15_, .inl (c15_, 24, .inl (fun _ => 0))), (q23_, .inl (c23_, 24, .inl (fun _ => 0))), (q31_, .inl (c31_, 16, .inl (fun _ => 0)))] := hD
  refine lv_aload_n hx hb dX0_init_36 rfl (lv_at hl 0 rfl) ?_
  refine lv_sipush (v := nI 128) hx hb dX0_init_37 (by decide +kernel) ?_
  refine va_newa (atype := .int) (a0 := (128, .inl (fun _ => 0))) (N' := 128) (ty := .int) hx hb (hts _ q60) rfl hK hP hD hS hA (fun _ => rfl) (by decide +kernel) (by decide +kernel) (by decide) (Nat.le_of_ble_eq_true rfl) (Nat.le_of_ble_eq_true rfl) dX0_init_40 (fun q40_ c40_ H hK hP hD hS => ?_)
  have hK : va_K (dC, dI) vwCl [(c7_, .byte), (c15_, .short), (c23_, .int), (c31_, .int), (c40_, .int)] s := hK
  have hP : va_P (dC, dI) vwCl [(h0, .inr (0, [.ref q7_, .ref q15_, .ref q23_, .int (nI 0), .int 0, .int 0, .int 0, .int (nI 0), .int (nI 0), .ref q31_, .null, .null])), (q7_, .inl (c7_, 24, .inl (fun _ => 0))), (q15_, .inl (c15_, 24, .inl (fun _ => 0))), (q23_, .inl (c23_, 24, .inl (fun _ => 0))), (q31_, .inl (c31_, 16, .inl (fun _ => 0))), (q40_, .inl (c40_, 128, .inl (fun _ => 0)))] H := hP
  have hD : va_D A [(h0, .inr (0, [.ref q7_, .ref q15_, .ref q23_, .int (nI 0), .int 0, .int 0, .int 0, .int (nI 0), .int (nI 0), .ref q31_, .null, .null])), (q7_, .inl (c7_, 24, .inl (fun _ => 0))), (q15_, .inl (c15_, 24, .inl (fun _ => 0))), (q23_, .inl (c23_, 24, .inl (fun _ => 0))), (q31_, .inl (c31_, 16, .inl (fun _ => 0))), (q40_, .inl (c40_, 128, .inl (fun _ => 0)))] := hD
  refine W.widen (k := 5) (n := 216) (by omega) (by omega) ?_
  refine va_putF (D := (dC, dI)) (ci := 0) (v := .ref q40_) (ty := .array .int) (C := RX0) (T := TX0) (N := 12) hx hb hts in_X0 tyX0 tyX0_ok nmX0 hown hK hP hD hS 0 rfl rfl 10 (by decide) (hts _ q31) (fun _ h9 => h9) rfl hin rfl (by decide +kernel) rfl rfl (Nat.le_of_ble_eq_true rfl) dX0_init_42 (fun H locs hP hD hS => ?_)
  have hP : va_P (dC, dI) vwCl [(h0, .inr (0, [.ref q7_, .ref q15_, .ref q23_, .int (nI 0), .int 0, .int 0, .int 0, .int (nI 0), .int (nI 0), .ref q31_, .ref q40_, .null])), (q7_, .inl (c7_, 24, .inl (fun _ => 0))), (q15_, .inl (c15_, 24, .inl (fun _ => 0))), (q23_, .inl (c23_, 24, .inl (fun _ => 0))), (q31_, .inl (c31_, 16, .inl (fun _ => 0))), (q40_, .inl (c40_, 128, .inl (fun _ => 0)))] H := hP
  have hD : va_D A [(h0, .inr (0, [.ref q7_, .ref q15_, .ref q23_, .int (nI 0), .int 0, .int 0, .int 0, .int (nI 0), .int (nI 0), .ref q31_, .ref q40_, .null])), (q7_, .inl (c7_, 24, .inl (fun _ => 0))), (q15_, .inl (c15_, 24, .inl (fun _ => 0))), (q23_, .inl (c23_, 24, .inl (fun _ => 0))), (q31_, .inl (c31_, 16, .inl (fun _ => 0))), (q40_, .inl (c40_, 128, .inl (fun _ => 0)))] := hD
  refine lv_aload_n hx hb dX0_init_45 rfl (lv_at hl 0 rfl) ?_
  refine lv_bipush (v := nI 30) hx hb dX0_init_46 (by decide +kernel) ?_
  refine va_newa (atype := .byte) (a0 := (30, .inl (fun _ => 0))) (N' := 30) (ty := .byte) hx hb (hts _ q58) rfl hK hP hD hS hA (fun _ => rfl) (by decide +kernel) (by decide +kernel) (by decide) (Nat.le_of_ble_eq_true rfl) (Nat.le_of_ble_eq_true rfl) dX0_init_48 (fun q48_ c48_ H hK hP hD hS => ?_)
  have hK : va_K (dC, dI) vwCl [(c7_, .byte), (c15_, .short), (c23_, .int), (c31_, .int), (c40_, .int), (c48_, .byte)] s := hK
  have hP : va_P (dC, dI) vwCl [(h0, .inr (0, [.ref q7_, .ref q15_, .ref q23_, .int (nI 0), .int 0, .int 0, .int 0, .int (nI 0), .int (nI 0), .ref q31_, .ref q40_, .null])), (q7_, .inl (c7_, 24, .inl (fun _ => 0))), (q15_, .inl (c15_, 24, .inl (fun _ => 0))), (q23_, .inl (c23_, 24, .inl (fun _ => 0))), (q31_, .inl (c31_, 16, .inl (fun _ => 0))), (q40_, .inl (c40_, 128, .inl (fun _ => 0))), (q48_, .inl (c48_, 30, .inl (fun _ => 0)))] H := hP
  have hD : va_D A [(h0, .inr (0, [.ref q7_, .ref q15_, .ref q23_, .int (nI 0), .int 0, .int 0, .int 0, .int (nI 0), .int (nI 0), .ref q31_, .ref q40_, .null])), (q7_, .inl (c7_, 24, .inl (fun _ => 0))), (q15_, .inl (c15_, 24, .inl (fun _ => 0))), (q23_, .inl (c23_, 24, .inl (fun _ => 0))), (q31_, .inl (c31_, 16, .inl (fun _ => 0))), (q40_, .inl (c40_, 128, .inl (fun _ => 0))), (q48_, .inl (c48_, 30, .inl (fun _ => 0)))] := hD
  refine W.widen (k := 6) (n := 246) (by omega) (by omega) ?_
  refine va_putF (D := (dC, dI)) (ci := 0) (v := .ref q48_) (ty := .array .byte) (C := RX0) (T := TX0) (N := 12) hx hb hts in_X0 tyX0 tyX0_ok nmX0 hown hK hP hD hS 0 rfl rfl 11 (by decide) (hts _ q32) (fun _ h9 => h9) rfl hin rfl (by decide +kernel) rfl rfl (Nat.le_of_ble_eq_true rfl) dX0_init_50 (fun H locs hP hD hS => ?_)
  have hP : va_P (dC, dI) vwCl [(h0, .inr (0, [.ref q7_, .ref q15_, .ref q23_, .int (nI 0), .int 0, .int 0, .int 0, .int (nI 0), .int (nI 0), .ref q31_, .ref q40_, .ref q48_])), (q7_, .inl (c7_, 24, .inl (fun _ => 0))), (q15_, .inl (c15_, 24, .inl (fun _ => 0))), (q23_, .inl (c23_, 24, .inl (fun _ => 0))), (q31_, .inl (c31_, 16, .inl (fun _ => 0))), (q40_, .inl (c40_, 128, .inl (fun _ => 0))), (q48_, .inl (c48_, 30, .inl (fun _ => 0)))] H := hP
  have hD : va_D A [(h0, .inr (0, [.ref q7_, .ref q15_, .ref q23_, .int (nI 0), .int 0, .int 0, .int 0, .int (nI 0), .int (nI 0), .ref q31_, .ref q40_, .ref q48_])), (q7_, .inl (c7_, 24, .inl (fun _ => 0))), (q15_, .inl (c15_, 24, .inl (fun _ => 0))), (q23_, .inl (c23_, 24, .inl (fun _ => 0))), (q31_, .inl (c31_, 16, .inl (fun _ => 0))), (q40_, .inl (c40_, 128, .inl (fun _ => 0))), (q48_, .inl (c48_, 30, .inl (fun _ => 0)))] := hD
  exact W.vret hx hb hr (fun t ht hW => ⟨⟨((fun _ => 0), (fun _ => 0), (fun _ => 0), 0, 0, 0, 0, 0, 0, (fun _ => 0), (fun _ => 0), (fun _ => 0)), rfl, rfl, (fun i => match i with | 0 => h0 | 1 => q7_ | 2 => q15_ | 3 => q23_ | 4 => q31_ | 5 => q40_ | _ => q48_), (fun i => match i with | 1 => c7_ | 2 => c15_ | 3 => c23_ | 4 => c31_ | 5 => c40_ | _ => c48_), rfl, by rw [ht]; exact hP, va_K.moved hW.alike hK, hD⟩, hS.F ht⟩) hS.2.2 dX0_init_53
set_option maxHeartbeats 4000000 in
set_option maxRecDepth 100000 in
/-- WindowedCallsModel(): seven new arrays, all zero -/
theorem wc_mInit (l : Launch) (dC : Nat → ClassId) (dI : Nat → Nat → Nat) (h0 sz : Nat) : Met l yX1_init (ws_ yX1_init cX1_init 1 none) ({ frames := 1, cells := 7, slots := 274, locals := 12 }) (va_Pc [.ref h0] (wc_pw dC dI [(h0, .inr (1, [.int (nI 0), .null, .null, .null, .null, .null, .null, .int (nI 0), .null, .int 0, .int 0, .int 0]))] [] sz)) (va_Qv (fun (u : wc_SM) => u = (0, (fun _ => 0), (fun _ => 0), (fun _ => 0), (fun _ => 0), (fun _ => 0), (fun _ => 0), 0, (fun _ => 0), 0, 0, 0)) (fun (u : wc_SM) (t : State) => ∃ (hh : Nat → Nat) (dd : Nat → ClassId), hh 0 = h0 ∧ wc_bM dC dI hh dd (va_A [(h0, .inr (1, [.int (nI 0), .null, .null, .null, .null, .null, .null, .int (nI 0), .null, .int 0, .int 0, .int 0]))] sz) u t) (va_A [(h0, .inr (1, [.int (nI 0), .null, .null, .null, .null, .null, .null, .int (nI 0), .null, .int 0, .int 0, .int 0]))] sz)) 7 274 (va_A [(h0, .inr (1, [.int (nI 0), .null, .null, .null, .null, .null, .null, .int (nI 0), .null, .int 0, .int 0, .int 0]))] sz) := by
  refine Met.ofW (cc := cX1_init) (maxL := 1) (ret := none) (by decide) rfl ?_
  intro p e s m args below meth c s₁ B hml hv
  obtain ⟨rfl, hsz, hP, hK, hD0⟩ := hv
  have hx := B.exec
  have hb := B.bytes
  have hr := B.returns
  have hts := atoms_spec (ws := ws_ yX1_init cX1_init 1 none) B.pre
  have hts : ∀ w ∈ lw_all, w.before _ s = true := fun w h => hts w (List.mem_cons_of_mem _ h)
  have hown : s.vm.findClass RX1 = some m.cls := findClass_of_methodNamed B.named
  have hlocks := B.notSynchronized
  have hin : meth.name = "<init>" := (name_of_methodNamed B.named B.method).1
  subst hsz
  have hD := hD0.self (sz := s.heap.size)
  generalize hAe : va_A [(h0, .inr (1, [.int (nI 0), .null, .null, .null, .null, .null, .null, .int (nI 0), .null, .int 0, .int 0, .int 0]))] s.heap.size = A at hD ⊢
  have hA : ∀ q : Nat, s.heap.size ≤ q → A q := fun q h => by rw [← hAe]; exact Or.inr h
  have hS : va_S A s.heap s.heap [] := va_S.rf
  have hP : va_P (dC, dI) vwCl [(h0, .inr (1, [.int (nI 0), .null, .null, .null, .null, .null, .null, .int (nI 0), .null, .int 0, .int 0, .int 0]))] s.heap := hP
  have hl := lv_entry ([.ref h0]) (n := 1) (Nat.le_of_ble_eq_true rfl)
  rw [lg_entry_eq]
  generalize (lg_sl ([.ref h0]) ++ List.replicate (1 - (lg_sl ([.ref h0])).length) Slot.unset).toArray = ls at hl ⊢
  have hl : lv_has ls 1 [(0, .ref h0)] := hl
  refine lv_aload_n hx hb dX1_init_0 rfl (lv_at hl 0 rfl) ?_
  refine W.objInit hx hb hown (hts _ q162) (hts _ q19) (hts _ q20) rfl (by rw [hml]; exact hl.1) rfl dX1_init_1 (Nat.le_of_ble_eq_true rfl) (Nat.le_of_ble_eq_true rfl) ?_
  refine W.eq (g2 := F0 m 4 ls []) rfl ?_
  refine lv_aload_n hx hb dX1_init_4 rfl (lv_at hl 0 rfl) ?_
  refine lv_bipush (v := nI 24) hx hb dX1_init_5 (by decide +kernel) ?_
  refine va_newa (atype := .int) (a0 := (24, .inl (fun _ => 0))) (N' := 24) (ty := .int) hx hb (hts _ q60) rfl hK hP hD hS hA (fun _ => rfl) (by decide +kernel) (by decide +kernel) (by decide) (Nat.le_of_ble_eq_true rfl) (Nat.le_of_ble_eq_true rfl) dX1_init_7 (fun q7_ c7_ H hK hP hD hS => ?_)
  have hK : va_K (dC, dI) vwCl [(c7_, .int)] s := hK
  have hP : va_P (dC, dI) vwCl [(h0, .inr (1, [.int (nI 0), .null, .null, .null, .null, .null, .null, .int (nI 0), .null, .int 0, .int 0, .int 0])), (q7_, .inl (c7_, 24, .inl (fun _ => 0)))] H := hP
  have hD : va_D A [(h0, .inr (1, [.int (nI 0), .null, .null, .null, .null, .null, .null, .int (nI 0), .null, .int 0, .int 0, .int 0])), (q7_, .inl (c7_, 24, .inl (fun _ => 0)))] := hD
  refine W.widen (k := 1) (n := 24) (by omega) (by omega) ?_
  refine va_put (D := (dC, dI)) (ci := 1) (v := .ref q7_) (ty := .array .int) (C := RX1) (T := TX1) (N := 12) hx hb hts in_X1 tyX1 tyX1_ok nmX1 hown hK hP hD hS 0 rfl rfl 1 (by decide) (hts _ q164) (fun _ h9 => h9) rfl (by decide +kernel) rfl rfl (Nat.le_of_ble_eq_true rfl) dX1_init_9 (fun H locs hP hD hS => ?_)
  have hP : va_P (dC, dI) vwCl [(h0, .inr (1, [.int (nI 0), .ref q7_, .null, .null, .null, .null, .null, .int (nI 0), .null, .int 0, .int 0, .int 0])), (q7_, .inl (c7_, 24, .inl (fun _ => 0)))] H := hP
  have hD : va_D A [(h0, .inr (1, [.int (nI 0), .ref q7_, .null, .null, .null, .null, .null, .int (nI 0), .null, .int 0, .int 0, .int 0])), (q7_, .inl (c7_, 24, .inl (fun _ => 0)))] := hD
  refine lv_aload_n hx hb dX1_init_12 rfl (lv_at hl 0 rfl) ?_
  refine lv_bipush (v := nI 24) hx hb dX1_init_13 (by decide +kernel) ?_
  refine va_newa (atype := .int) (a0 := (24, .inl (fun _ => 0))) (N' := 24) (ty := .int) hx hb (hts _ q60) rfl hK hP hD hS hA (fun _ => rfl) (by decide +kernel) (by decide +kernel) (by decide) (Nat.le_of_ble_eq_true rfl) (Nat.le_of_ble_eq_true rfl) dX1_init_15 (fun q15_ c15_ H hK hP hD hS => ?_)
  have hK : va_K (dC, dI) vwCl [(c7_, .int), (c15_, .int)] s := hK
  have hP : va_P (dC, dI) vwCl [(h0, .inr (1, [.int (nI 0), .ref q7_, .null, .null, .null, .null, .null, .int (nI 0), .null, .int 0, .int 0, .int 0])), (q7_, .inl (c7_, 24, .inl (fun _ => 0))), (q15_, .inl (c15_, 24, .inl (fun _ => 0)))] H := hP
  have hD : va_D A [(h0, .inr (1, [.int (nI 0), .ref q7_, .null, .null, .null, .null, .null, .int (nI 0), .null, .int 0, .int 0, .int 0])), (q7_, .inl (c7_, 24, .inl (fun _ => 0))), (q15_, .inl (c15_, 24, .inl (fun _ => 0)))] := hD
  refine W.widen (k := 2) (n := 48) (by omega) (by omega) ?_
  refine va_put (D := (dC, dI)) (ci := 1) (v := .ref q15_) (ty := .array .int) (C := RX1) (T := TX1) (N := 12) hx hb hts in_X1 tyX1 tyX1_ok nmX1 hown hK hP hD hS 0 rfl rfl 2 (by decide) (hts _ q165) (fun _ h9 => h9) rfl (by decide +kernel) rfl rfl (Nat.le_of_ble_eq_true rfl) dX1_init_17 (fun H locs hP hD hS => ?_)
  have hP : va_P (dC, dI) vwCl [(h0, .inr (1, [.int (nI 0), .ref q7_, .ref q15_, .null, .null, .null, .null, .int (nI 0), .null, .int 0, .int 0, .int 0])), (q7_, .inl (c7_, 24, .inl (fun _ => 0))), (q15_, .inl (c15_, 24, .inl (fun _ => 0)))] H := hP
  have hD : va_D A [(h0, .inr (1, [.int (nI 0), .ref q7_, .ref q15_, .null, .null, .null, .null, .int (nI 0), .null, .int 0, .int 0, .int 0])), (q7_, .inl (c7_, 24, .inl (fun _ => 0))), (q15_, .inl (c15_, 24, .inl (fun _ => 0)))] := hD
  refine lv_aload_n hx hb dX1_init_20 rfl (lv_at hl 0 rfl) ?_
  refine lv_bipush (v := nI 24) hx hb dX1_init_21 (by decide +kernel) ?_
  refine va_newa (atype := .int) (a0 := (24, .inl (fun _ => 0))) (N' := 24) (ty := .int) hx hb (hts _ q60) rfl hK hP hD hS hA (fun _ => rfl) (by decide +kernel) (by decide +kernel) (by decide) (Nat.le_of_ble_eq_true rfl) (Nat.le_of_ble_eq_true rfl) dX1_init_23 (fun q23_ c23_ H hK hP hD hS => ?_)
  have hK : va_K (dC, dI) vwCl [(c7_, .int), (c15_, .int), (c23_, .int)] s := hK
  have hP : va_P (dC, dI) vwCl [(h0, .inr (1, [.int (nI 0), .ref q7_, .ref q15_, .null, .null, .null, .null, .int (nI 0), .null, .int 0, .int 0, .int 0])), (q7_, .inl (c7_, 24, .inl (fun _ => 0))), (q15_, .inl (c15_, 24, .inl (fun _ => 0))), (q23_, .inl (c23_, 24, .inl (fun _ => 0)))] H := hP
  have hD : va_D A [(h0, .inr (1, [.int (nI 0), .ref q7_, .ref q15_, .null, .null, .null, .null, .int (nI 0), .null, .int 0, .int 0, .int 0])), (q7_, .inl (c7_, 24, .inl (fun _ => 0))), (q15_, .inl (c15_, 24, .inl (fun _ => 0))), (q23_, .inl (c23_, 24, .inl (fun _ => 0)))] := hD
  refine W.widen (k := 3) (n := 72) (by omega) (by omega) ?_
  refine va_put (D := (dC, dI)) (ci := 1) (v := .ref q23_) (ty := .array .int) (C := RX1) (T := TX1) (N := 12) hx hb hts in_X1 tyX1 tyX1_ok nmX1 hown hK hP hD hS 0 rfl rfl 3 (by decide) (hts _ q166) (fun _ h9 => h9) rfl (by decide +kernel) rfl rfl (Nat.le_of_ble_eq_true rfl) dX1_init_25 (fun H locs hP hD hS => ?_)
  have hP : va_P (dC, dI) vwCl [(h0, .inr (1, [.int (nI 0), .ref q7_, .ref q15_, .ref q23_, .null, .null, .null, .int (nI 0), .null, .int 0, .int 0, .int 0])), (q7_, .inl (c7_, 24, .inl (fun _ => 0))), (q15_, .inl (c15_, 24, .inl (fun _ => 0))), (q23_, .inl (c23_, 24, .inl (fun _ => 0)))] H := hP
  have hD : va_D A [(h0, .inr (1, [.int (nI 0), .ref q7_, .ref q15_, .ref q23_, .null, .null, .null, .int (nI 0), .null, .int 0, .int 0, .int 0])), (q7_, .inl (c7_, 24, .inl (fun _ => 0))), (q15_, .inl (c15_, 24, .inl (fun _ => 0))), (q23_, .inl (c23_, 24, .inl (fun _ => 0)))] := hD
  refine lv_aload_n hx hb dX1_init_28 rfl (lv_at hl 0 rfl) ?_
  refine lv_bipush (v := nI 24) hx hb dX1_init_29 (by decide +kernel) ?_
  refine va_newa (atype := .int) (a0 := (24, .inl (fun _ => 0))) (N' := 24) (ty := .int) hx hb (hts _ q60) rfl hK hP hD hS hA (fun _ => rfl) (by decide +kernel) (by decide +kernel) (by decide) (Nat.le_of_ble_eq_true rfl) (Nat.le_of_ble_eq_true rfl) dX1_init_31 (fun q31_ c31_ H hK hP hD hS => ?_)
  have hK : va_K (dC, dI) vwCl [(c7_, .int), (c15_, .int), (c23_, .int), (c31_, .int)] s := hK
  have hP : va_P (dC, dI) vwCl [(h0, .inr (1, [.int (nI 0), .ref q7_, .ref q15_, .ref q23_, .null, .null, .null, .int (nI 0), .null, .int 0, .int 0, .int 0])), (q7_, .inl (c7_, 24, .inl (fun _ => 0))), (q15_, .inl (c15_, 24, .inl (fun _ => 0))), (q23_, .inl (c23_, 24, .inl (fun _ => 0))), (q31_, .inl (c31_, 24, .inl (fun _ => 0)))] H := hP
  have hD : va_D A [(h0, .inr (1, [.int (nI 0), .ref q7_, .ref q15_, .ref q23_, .null, .null, .null, .int (nI 0), .null, .int 0, .int 0, .int 0])), (q7_, .inl (c7_, 24, .inl (fun _ => 0))), (q15_, .inl (c15_, 24, .inl (fun _ => 0))), (q23_, .inl (c23_, 24, .inl (fun _ => 0))), (q31_, .inl (c31_, 24, .inl (fun _ => 0)))] := hD
  refine W.widen (k := 4) (n := 96) (by omega) (by omega) ?_
  refine va_put (D := (dC, dI)) (ci := 1) (v := .ref q31_) (ty := .array .int) (C := RX1) (T := TX1) (N := 12) hx hb hts in_X1 tyX1 tyX1_ok nmX1 hown hK hP hD hS 0 rfl rfl 4 (by decide) (hts _ q167) (fun _ h9 => h9) rfl (by decide +kernel) rfl rfl (Nat.le_of_ble_eq_true rfl) dX1_init_33 (fun H locs hP hD hS => ?_)
  have hP : va_P (dC, dI) vwCl [(h0, .inr (1, [.int (nI 0), .ref q7_, .ref q15_, .ref q23_, .ref q31_, .null, .null, .int (nI 0), .null, .int 0, .int 0, .int 0])), (q7_, .inl (c7_, 24, .inl (fun _ => 0))), (q15_, .inl (c15_, 24, .inl (fun _ => 0))), (q23_, .inl (c23_, 24, .inl (fun _ => 0))), (q31_, .inl (c31_, 24, .inl (fun _ => 0)))] H := hP
  have hD : va_D A [(h0, .inr (1, [.int (nI 0), .ref q7_, .ref q15_, .ref q23_, .ref q31_, .null, .null, .int (nI 0), .null, .int 0, .int 0, .int 0])), (q7_, .inl (c7_, 24, .inl (fun _ => 0))), (q15_, .inl (c15_, 24, .inl (fun _ => 0))), (q23_, .inl (c23_, 24, .inl (fun _ => 0))), (q31_, .inl (c31_, 24, .inl (fun _ => 0)))] := hD
  refine lv_aload_n hx hb dX1_init_36 rfl (lv_at hl 0 rfl) ?_
  refine lv_bipush (v := nI 24) hx hb dX1_init_37 (by decide +kernel) ?_
  refine va_newa (atype := .int) (a0 := (24, .inl (fun _ => 0))) (N' := 24) (ty := .int) hx hb (hts _ q60) rfl hK hP hD hS hA (fun _ => rfl) (by decide +kernel) (by decide +kernel) (by decide) (Nat.le_of_ble_eq_true rfl) (Nat.le_of_ble_eq_true rfl) dX1_init_39 (fun q39_ c39_ H hK hP hD hS => ?_)
  have hK : va_K (dC, dI) vwCl [(c7_, .int), (c15_, .int), (c23_, .int), (c31_, .int), (c39_, .int)] s := hK
  have hP : va_P (dC, dI) vwCl [(h0, .inr (1, [.int (nI 0), .ref q7_, .ref q15_, .ref q23_, .ref q31_, .null, .null, .int (nI 0), .null, .int 0, .int 0, .int 0])), (q7_, .inl (c7_, 24, .inl (fun _ => 0))), (q15_, .inl (c15_, 24, .inl (fun _ => 0))), (q23_, .inl (c23_, 24, .inl (fun _ => 0))), (q31_, .inl (c31_, 24, .inl (fun _ => 0))), (q39_, .inl (c39_, 24, .inl (fun _ => 0)))] H := hP
  have hD : va_D A [(h0, .inr (1, [.int (nI 0), .ref q7_, .ref q15_, .ref q23_, .ref q31_, .null, .null, .int (nI 0), .null, .int 0, .int 0, .int 0])), (q7_, .inl (c7_, 24, .inl (fun _ => 0))), (q15_, .inl (c15_, 24, .inl (fun _ => 0))), (q23_, .inl (c23_, 24, .inl (fun _ => 0))), (q31_, .inl (c31_, 24, .inl (fun _ => 0))), (q39_, .inl (c39_, 24, .inl (fun _ => 0)))] := hD
  refine W.widen (k := 5) (n := 120) (by omega) (by omega) ?_
  refine va_put (D := (dC, dI)) (ci := 1) (v := .ref q39_) (ty := .array .int) (C := RX1) (T := TX1) (N := 12) hx hb hts in_X1 tyX1 tyX1_ok nmX1 hown hK hP hD hS 0 rfl rfl 5 (by decide) (hts _ q168) (fun _ h9 => h9) rfl (by decide +kernel) rfl rfl (Nat.le_of_ble_eq_true rfl) dX1_init_41 (fun H locs hP hD hS => ?_)
  have hP : va_P (dC, dI) vwCl [(h0, .inr (1, [.int (nI 0), .ref q7_, .ref q15_, .ref q23_, .ref q31_, .ref q39_, .null, .int (nI 0), .null, .int 0, .int 0, .int 0])), (q7_, .inl (c7_, 24, .inl (fun _ => 0))), (q15_, .inl (c15_, 24, .inl (fun _ => 0))), (q23_, .inl (c23_, 24, .inl (fun _ => 0))), (q31_, .inl (c31_, 24, .inl (fun _ => 0))), (q39_, .inl (c39_, 24, .inl (fun _ => 0)))] H := hP
  have hD : va_D A [(h0, .inr (1, [.int (nI 0), .ref q7_, .ref q15_, .ref q23_, .ref q31_, .ref q39_, .null, .int (nI 0), .null, .int 0, .int 0, .int 0])), (q7_, .inl (c7_, 24, .inl (fun _ => 0))), (q15_, .inl (c15_, 24, .inl (fun _ => 0))), (q23_, .inl (c23_, 24, .inl (fun _ => 0))), (q31_, .inl (c31_, 24, .inl (fun _ => 0))), (q39_, .inl (c39_, 24, .inl (fun _ => 0)))] := hD
  refine lv_aload_n hx hb dX1_init_44 rfl (lv_at hl 0 rfl) ?_
  refine lv_bipush (v := nI 124) hx hb dX1_init_45 (by decide +kernel) ?_
  refine va_newa (atype := .int) (a0 := (124, .inl (fun _ => 0))) (N' := 124) (ty := .int) hx hb (hts _ q60) rfl hK hP hD hS hA (fun _ => rfl) (by decide +kernel) (by decide +kernel) (by decide) (Nat.le_of_ble_eq_true rfl) (Nat.le_of_ble_eq_true rfl) dX1_init_47 (fun q47_ c47_ H hK hP hD hS => ?_)
  have hK : va_K (dC, dI) vwCl [(c7_, .int), (c15_, .int), (c23_, .int), (c31_, .int), (c39_, .int), (c47_, .int)] s := hK
  have hP : va_P (dC, dI) vwCl [(h0, .inr (1, [.int (nI 0), .ref q7_, .ref q15_, .ref q23_, .ref q31_, .ref q39_, .null, .int (nI 0), .null, .int 0, .int 0, .int 0])), (q7_, .inl (c7_, 24, .inl (fun _ => 0))), (q15_, .inl (c15_, 24, .inl (fun _ => 0))), (q23_, .inl (c23_, 24, .inl (fun _ => 0))), (q31_, .inl (c31_, 24, .inl (fun _ => 0))), (q39_, .inl (c39_, 24, .inl (fun _ => 0))), (q47_, .inl (c47_, 124, .inl (fun _ => 0)))] H := hP
  have hD : va_D A [(h0, .inr (1, [.int (nI 0), .ref q7_, .ref q15_, .ref q23_, .ref q31_, .ref q39_, .null, .int (nI 0), .null, .int 0, .int 0, .int 0])), (q7_, .inl (c7_, 24, .inl (fun _ => 0))), (q15_, .inl (c15_, 24, .inl (fun _ => 0))), (q23_, .inl (c23_, 24, .inl (fun _ => 0))), (q31_, .inl (c31_, 24, .inl (fun _ => 0))), (q39_, .inl (c39_, 24, .inl (fun _ => 0))), (q47_, .inl (c47_, 124, .inl (fun _ => 0)))] := hD
  refine W.widen (k := 6) (n := 244) (by omega) (by omega) ?_
  refine va_put (D := (dC, dI)) (ci := 1) (v := .ref q47_) (ty := .array .int) (C := RX1) (T := TX1) (N := 12) hx hb hts in_X1 tyX1 tyX1_ok nmX1 hown hK hP hD hS 0 rfl rfl 6 (by decide) (hts _ q169) (fun _ h9 => h9) rfl (by decide +kernel) rfl rfl (Nat.le_of_ble_eq_true rfl) dX1_init_49 (fun H locs hP hD hS => ?_)
  have hP : va_P (dC, dI) vwCl [(h0, .inr (1, [.int (nI 0), .ref q7_, .ref q15_, .ref q23_, .ref q31_, .ref q39_, .ref q47_, .int (nI 0), .null, .int 0, .int 0, .int 0])), (q7_, .inl (c7_, 24, .inl (fun _ => 0))), (q15_, .inl (c15_, 24, .inl (fun _ => 0))), (q23_, .inl (c23_, 24, .inl (fun _ => 0))), (q31_, .inl (c31_, 24, .inl (fun _ => 0))), (q39_, .inl (c39_, 24, .inl (fun _ => 0))), (q47_, .inl (c47_, 124, .inl (fun _ => 0)))] H := hP
  have hD : va_D A [(h0, .inr (1, [.int (nI 0), .ref q7_, .ref q15_, .ref q23_, .ref q31_, .ref q39_, .ref q47_, .int (nI 0), .null, .int 0, .int 0, .int 0])), (q7_, .inl (c7_, 24, .inl (fun _ => 0))), (q15_, .inl (c15_, 24, .inl (fun _ => 0))), (q23_, .inl (c23_, 24, .inl (fun _ => 0))), (q31_, .inl (c31_, 24, .inl (fun _ => 0))), (q39_, .inl (c39_, 24, .inl (fun _ => 0))), (q47_, .inl (c47_, 124, .inl (fun _ => 0)))] := hD
  refine lv_aload_n hx hb dX1_init_52 rfl (lv_at hl 0 rfl) ?_
  refine lv_bipush (v := nI 30) hx hb dX1_init_53 (by decide +kernel) ?_
  refine va_newa (atype := .int) (a0 := (30, .inl (fun _ => 0))) (N' := 30) (ty := .int) hx hb (hts _ q60) rfl hK hP hD hS hA (fun _ => rfl) (by decide +kernel) (by decide +kernel) (by decide) (Nat.le_of_ble_eq_true rfl) (Nat.le_of_ble_eq_true rfl) dX1_init_55 (fun q55_ c55_ H hK hP hD hS => ?_)
  have hK : va_K (dC, dI) vwCl [(c7_, .int), (c15_, .int), (c23_, .int), (c31_, .int), (c39_, .int), (c47_, .int), (c55_, .int)] s := hK
  have hP : va_P (dC, dI) vwCl [(h0, .inr (1, [.int (nI 0), .ref q7_, .ref q15_, .ref q23_, .ref q31_, .ref q39_, .ref q47_, .int (nI 0), .null, .int 0, .int 0, .int 0])), (q7_, .inl (c7_, 24, .inl (fun _ => 0))), (q15_, .inl (c15_, 24, .inl (fun _ => 0))), (q23_, .inl (c23_, 24, .inl (fun _ => 0))), (q31_, .inl (c31_, 24, .inl (fun _ => 0))), (q39_, .inl (c39_, 24, .inl (fun _ => 0))), (q47_, .inl (c47_, 124, .inl (fun _ => 0))), (q55_, .inl (c55_, 30, .inl (fun _ => 0)))] H := hP
  have hD : va_D A [(h0, .inr (1, [.int (nI 0), .ref q7_, .ref q15_, .ref q23_, .ref q31_, .ref q39_, .ref q47_, .int (nI 0), .null, .int 0, .int 0, .int 0])), (q7_, .inl (c7_, 24, .inl (fun _ => 0))), (q15_, .inl (c15_, 24, .inl (fun _ => 0))), (q23_, .inl (c23_, 24, .inl (fun _ => 0))), (q31_, .inl (c31_, 24, .inl (fun _ => 0))), (q39_, .inl (c39_, 24, .inl (fun _ => 0))), (q47_, .inl (c47_, 124, .inl (fun _ => 0))), (q55_, .inl (c55_, 30, .inl (fun _ => 0)))] := hD
  refine W.widen (k := 7) (n := 274) (by omega) (by omega) ?_
  refine va_put (D := (dC, dI)) (ci := 1) (v := .ref q55_) (ty := .array .int) (C := RX1) (T := TX1) (N := 12) hx hb hts in_X1 tyX1 tyX1_ok nmX1 hown hK hP hD hS 0 rfl rfl 8 (by decide) (hts _ q171) (fun _ h9 => h9) rfl (by decide +kernel) rfl rfl (Nat.le_of_ble_eq_true rfl) dX1_init_57 (fun H locs hP hD hS => ?_)
  have hP : va_P (dC, dI) vwCl [(h0, .inr (1, [.int (nI 0), .ref q7_, .ref q15_, .ref q23_, .ref q31_, .ref q39_, .ref q47_, .int (nI 0), .ref q55_, .int 0, .int 0, .int 0])), (q7_, .inl (c7_, 24, .inl (fun _ => 0))), (q15_, .inl (c15_, 24, .inl (fun _ => 0))), (q23_, .inl (c23_, 24, .inl (fun _ => 0))), (q31_, .inl (c31_, 24, .inl (fun _ => 0))), (q39_, .inl (c39_, 24, .inl (fun _ => 0))), (q47_, .inl (c47_, 124, .inl (fun _ => 0))), (q55_, .inl (c55_, 30, .inl (fun _ => 0)))] H := hP
  have hD : va_D A [(h0, .inr (1, [.int (nI 0), .ref q7_, .ref q15_, .ref q23_, .ref q31_, .ref q39_, .ref q47_, .int (nI 0), .ref q55_, .int 0, .int 0, .int 0])), (q7_, .inl (c7_, 24, .inl (fun _ => 0))), (q15_, .inl (c15_, 24, .inl (fun _ => 0))), (q23_, .inl (c23_, 24, .inl (fun _ => 0))), (q31_, .inl (c31_, 24, .inl (fun _ => 0))), (q39_, .inl (c39_, 24, .inl (fun _ => 0))), (q47_, .inl (c47_, 124, .inl (fun _ => 0))), (q55_, .inl (c55_, 30, .inl (fun _ => 0)))] := hD
  exact W.vret hx hb hr (fun t ht hW => ⟨⟨(0, (fun _ => 0), (fun _ => 0), (fun _ => 0), (fun _ => 0), (fun _ => 0), (fun _ => 0), 0, (fun _ => 0), 0, 0, 0), rfl, rfl, (fun i => match i with | 0 => h0 | 1 => q7_ | 2 => q15_ | 3 => q23_ | 4 => q31_ | 5 => q39_ | 6 => q47_ | _ => q55_), (fun i => match i with | 1 => c7_ | 2 => c15_ | 3 => c23_ | 4 => c31_ | 5 => c39_ | 6 => c47_ | _ => c55_), rfl, by rw [ht]; exact hP, va_K.moved hW.alike hK, hD⟩, hS.F ht⟩) hS.2.2 dX1_init_60
/-- over stays 0 or 1 -/
theorem wc_nx_ov {o a b d ip : Nat} {w : Int32} {ro : Nat → Int32} {k : Nat} {bk : Nat → Int32} : (wc_nx o a b d ip w ro k bk).2.2.2.2 = 0 ∨ (wc_nx o a b d ip w ro k bk).2.2.2.2 = 1 := by
  unfold wc_nx
  split
  · exact Or.inl rfl
  · exact Or.inl rfl
  · exact Or.inl rfl
  · exact Or.inl rfl
  · exact Or.inl rfl
  · exact Or.inl rfl
  · show (if k = 0 then (1 : Int32) else 0) = 0 ∨ (if k = 0 then (1 : Int32) else 0) = 1
    by_cases h : k = 0
    · rw [if_pos h]; exact Or.inr rfl
    · rw [if_neg h]; exact Or.inl rfl
  · exact Or.inl rfl
theorem wc_rn_ov {n : Nat} {mo ma mb md mn : Nat → Int32} : ∀ (q : Nat) (g : wc_G), g.2.2.2.2 = 0 ∨ g.2.2.2.2 = 1 → (wc_rn n mo ma mb md mn q g).2.2.2.2.2 = 0 ∨ (wc_rn n mo ma mb md mn q g).2.2.2.2.2 = 1 := by
  intro q
  induction q with
  | zero => intro g h; exact h
  | succ q ih =>
    intro g h
    obtain ⟨ro, k, bk, pa, ov⟩ := g
    by_cases h0 : ov = 0
    · by_cases hg : wc_go n mo k pa
      · rw [wc_rn_go h0 hg]
        exact ih _ wc_nx_ov
      · rw [wc_rn_out h0 hg]
        exact Or.inr rfl
    · rw [wc_rn_stop h0]
      exact h
end
section
set_option maxRecDepth 100000
/-! THE CLAIM OUT OF ONE WALK OF THE LAW'S BODY. Your part is whole_start (and what it stands on); all else here is the same for every law, but numbers. -/
def R_law : String := "WindowedCallsLaw"
def lw_P (b : Addr) (xs : List Int32) (args : Array Value) (s : State) : Prop := args = #[.ref b] ∧ s.IntsAt b xs ∧ xs.length ≤ 256 ∧ (Jvm.Cond.and given_1 narrow_1).before args s = true
def lw_Q (_ : Array Value) (s : State) (o : Outcome) (t : State) : Prop := o = .returned (some (.int 1)) ∧ Framed s o t [] 600000 7290000
def lw_Z (below : List Frame) (a : Array Value) (s : State) : State → Prop := fun t => ∃ o, t.status = .running ∧ Ended t below o ∧ lw_Q a s o t
/-- the law's own end, with 1 on the stack, nothing written that was there before, its room as the claim has it -/
theorem lw_ret {p : Program} {l : Launch} {e : Env} {s : State} {m : MethodId} {below : List Frame} {meth : Method} {c : Code} {b : Nat} (hx : p.tables.exec = Jvm.exec) (hb : c.code = code) (hr : meth.sig.returnType = ret) (hlocks : meth.locks = false) {pc : Nat} {H : Heap} {ls : Array Slot} (hdg : decode code pc = .ok (.ireturn, 1)) : W p l e room_1 s m #[Value.ref b] below meth c H [] 600000 7290000 (lw_Z below #[Value.ref b] s) (F0 m pc ls [.int 1]) := by
  intro T hT X
  obtain ⟨fs, hret, hrun, hended, hW, hframe⟩ := X.leave (v := some (.int 1)) (hlocks := hlocks) (fun h => by rw [hr] at h; cases h)
  have hmeth' : T.vm.method? m = some meth := X.method'
  refine ⟨T.setFrames fs, ?_, .returned (some (.int 1)), hrun, hended, rfl, ⟨_, rfl⟩, hW, hframe⟩
  jvm_step X.here [X.here.top, hx, hb, hdg, hmeth', hr, ret, narrow_b1]
  (try refine ⟨rfl, ?_⟩); (try refine ⟨rfl, ?_⟩)
  first | (intro acts; rw [hret _ acts rfl rfl rfl]) | rw [hret _ _ rfl rfl rfl]
  exact Steps.refl _
/-- what holds at the law's entry: the machine, the code, the tables' words (any of lw_tbl by 'hts w (by decide +kernel)'), the script of L ints xs at the cell b, what the Statement gives of the start (any of its parts by flat_of_before) -/
def lw_At (p : Program) (s : State) (m : MethodId) (meth : Method) (c : Code) (b L : Nat) (xs : Nat → Int32) : Prop :=
  p.tables.exec = Jvm.exec ∧ c.code = code ∧ meth.sig.returnType = ret ∧ c.maxLocals = 4 ∧ s.vm.findClass R_law = some m.cls ∧ (∀ w ∈ lw_tbl, w.before #[Value.ref b] s = true) ∧ va_X b L xs s s.heap ∧ b < s.heap.size ∧ meth.locks = false ∧ (Jvm.Cond.and given_1 narrow_1).before #[Value.ref b] s = true
/-- the two machines agree -/
abbrev wc_Rel (xo xr xn : Nat → Int32) (n : Nat) (st : Int32) (k lo : Nat) (rg me rt mo ma mb md mn ro bk : Nat → Int32) : Prop := wc_Prog n xo xr xn mo ma mb md mn ∧ wc_Blk k lo rg me ro ∧ wc_Ret k rt bk ∧ (st = 0 ∨ st = 1)
/-- the law at pc, i ints of the script read, the two machines agree: it comes to its end -/
abbrev wc_At (p : Program) (l : Launch) (e : Env) (s : State) (m : MethodId) (below : List Frame) (meth : Method) (c : Code) (dC : Nat → ClassId) (dI : Nat → Nat → Nat) (hh gg : Nat → Nat) (dd ee : Nat → ClassId) (b i pc : Nat) : Prop := ∀ (xo xr xn : Nat → Int32) (n : Nat) (pa st ct : Int32) (k lo : Nat) (rg me rt mo ma mb md mn ro bk : Nat → Int32), wc_Rel xo xr xn n st k lo rg me rt mo ma mb md mn ro bk → ∀ (H : Heap) (locs : List Loc), va_P (dC, dI) vwCl (wc_wX hh dd xo xr xn n pa st ct k lo rg me rt ++ wc_wM gg ee n mo ma mb md mn ro k bk pa st ct) H → va_D (fun q : Nat => s.heap.size ≤ q) (wc_wX hh dd xo xr xn n pa st ct k lo rg me rt ++ wc_wM gg ee n mo ma mb md mn ro k bk pa st ct) → va_S (fun q : Nat => s.heap.size ≤ q) s.heap H locs → ∀ (ls : Array Slot), lv_has ls 4 [(0, .ref b), (1, .ref (hh 0)), (2, .ref (gg 0)), (3, .int (nI i))] → W p l e room_1 s m #[Value.ref b] below meth c H locs 15 544 (lw_Z below #[Value.ref b] s) (F0 m pc ls [])
theorem wc_lim {L i : Nat} (hL : L ≤ 256) (hi : i ≤ 300) : nI L - nI 4 < nI i ↔ L < i + 4 := by
  rw [Int32.lt_iff_toInt_lt, pk_sub_toInt (by omega) (by omega), nI_toInt (by omega)]
  omega
end
section
/-! the law, case by case -/
set_option maxHeartbeats 4000000 in
set_option maxRecDepth 100000 in
/-- case 0: wc_emit -/
theorem wc_case0 {p : Program} {e : Env} {s : State} {m : MethodId} {below : List Frame} {meth : Method} {c : Code} (l : Launch) {b L : Nat} {xs : Nat → Int32} (hL : L ≤ 256) (C0 : lw_At p s m meth c b L xs) {dC : Nat → ClassId} {dI : Nat → Nat → Nat} {hh gg : Nat → Nat} {dd ee : Nat → ClassId} (hK : va_K (dC, dI) vwCl (wc_tX dd ++ wc_tM ee) s) {i : Nat} (hi : i + 4 ≤ L) (KK : wc_At p l e s m below meth c dC dI hh gg dd ee b i 367) : wc_At p l e s m below meth c dC dI hh gg dd ee b i 100 := by
  obtain ⟨hx, hb, hr, hml, hown, hts0, hX, hbl, hlocks, hgv⟩ := C0
  have hts : ∀ w ∈ lw_all, w.before #[Value.ref b] s = true := fun w h => hts0 w (lw_all_tbl h)
  have hA : ∀ q : Nat, s.heap.size ≤ q → (fun q : Nat => s.heap.size ≤ q) q := fun _ h => h
  have hbA : ¬ (fun q : Nat => s.heap.size ≤ q) b := Nat.not_le.mpr hbl
  intro xo xr xn n pa st ct k lo rg me rt mo ma mb md mn ro bk hRel H locs hP hD hS ls hl
  refine lv_aload_n hx hb dL_law_100 rfl (lv_at hl 1 rfl) ?_
  refine lv_aload_n hx hb dL_law_101 rfl (lv_at hl 0 rfl) ?_
  refine lv_iload_n hx hb dL_law_102 rfl (lv_at hl 3 rfl) ?_
  refine lv_iconst (v := nI 1) hx hb dL_law_103 (by decide +kernel) ?_
  refine wc_iadd hx hb (x := i) (y := 1) dL_law_104 ?_
  refine va_sld hx hb hX hbl hbA hS (vp_in_nI (n := i + 1) (by omega) (by omega)) dL_law_105 ?_
  refine wc_top (congrArg xs (nI_clamp (n := i + 1) (by omega))) ?_
  refine lv_aload_n hx hb dL_law_106 rfl (lv_at hl 0 rfl) ?_
  refine lv_iload_n hx hb dL_law_107 rfl (lv_at hl 3 rfl) ?_
  refine lv_iconst (v := nI 2) hx hb dL_law_108 (by decide +kernel) ?_
  refine wc_iadd hx hb (x := i) (y := 2) dL_law_109 ?_
  refine va_sld hx hb hX hbl hbA hS (vp_in_nI (n := i + 2) (by omega) (by omega)) dL_law_110 ?_
  refine wc_top (congrArg xs (nI_clamp (n := i + 2) (by omega))) ?_
  refine lv_aload_n hx hb dL_law_111 rfl (lv_at hl 0 rfl) ?_
  refine lv_iload_n hx hb dL_law_112 rfl (lv_at hl 3 rfl) ?_
  refine lv_iconst (v := nI 3) hx hb dL_law_113 (by decide +kernel) ?_
  refine wc_iadd hx hb (x := i) (y := 3) dL_law_114 ?_
  refine va_sld hx hb hX hbl hbA hS (vp_in_nI (n := i + 3) (by omega) (by omega)) dL_law_115 ?_
  refine wc_top (congrArg xs (nI_clamp (n := i + 3) (by omega))) ?_
  have hPc := hP.sub (ws' := wc_wX hh dd xo xr xn n pa st ct k lo rg me rt) [0, 1, 2, 3, 4, 5, 6] rfl
  have hDc := hD.sub (ws' := wc_wX hh dd xo xr xn n pa st ct k lo rg me rt) [0, 1, 2, 3, 4, 5, 6] (by decide) rfl
  have hKc := hK.sub (tys' := wc_tX dd) [0, 1, 2, 3, 4, 5] rfl
  have hFc := va_free (wc := wc_wX hh dd xo xr xn n pa st ct k lo rg me rt) hD hS hA [0, 1, 2, 3, 4, 5, 6] rfl
  refine va_calli (va_runV (As := [.int (xs (i + 1)), .int (xs (i + 2)), .int (xs (i + 3))]) (rest := []) ⟨hx, hb, hml, hown, hts⟩ (wc_emit l dC dI hh dd H.size xo xr xn n pa st ct k lo rg me rt mo ma mb md mn hRel.1 (xs (i + 1)) (xs (i + 2)) (xs (i + 3))) (cwV 3 hts (lw_V q61 q62 q63 q11 q64) rfl rfl rfl (by decide +kernel) ⟨Nat.le_of_ble_eq_true rfl, Nat.le_of_ble_eq_true rfl⟩) (wc_preV hKc hPc hDc (ci := 0) (q0 := 0) rfl rfl) rfl rfl hl.1 rfl (lv_room (Nat.le_of_ble_eq_true rfl)) dL_law_116 ⟨Nat.le_of_ble_eq_true rfl, Nat.le_of_ble_eq_true rfl⟩) hS (fun q _ h => hFc q h) hFc (fun r_116 u t H_1 locs ht hvm hw hBw hz1 hk1 hS => ?_)
  obtain ⟨hqx, xo', xr', xn', rfl, hPg'⟩ := hw
  obtain ⟨hP1, hK1, hD1⟩ := hBw
  rw [ht] at hP1
  obtain ⟨hP, hD⟩ := va_join (wr := wc_wM gg ee n mo ma mb md mn ro k bk pa st ct) (w1 := wc_wX hh dd xo' xr' xn' (wc_en (xs (i + 1)) (xs (i + 2)) n) pa st ct k lo rg me rt) hP hD [0, 1, 2, 3, 4, 5, 6] [7, 8, 9, 10, 11, 12, 13, 14] rfl rfl (by decide) (by decide) hk1 hFc hP1 hD1
  have hP : va_P (dC, dI) vwCl (wc_wX hh dd xo' xr' xn' (wc_en (xs (i + 1)) (xs (i + 2)) n) pa st ct k lo rg me rt ++ wc_wM gg ee n mo ma mb md mn ro k bk pa st ct) H_1 := hP.sub [8, 9, 10, 11, 12, 13, 14, 0, 1, 2, 3, 4, 5, 6, 7] rfl
  have hD : va_D (fun q : Nat => s.heap.size ≤ q) (wc_wX hh dd xo' xr' xn' (wc_en (xs (i + 1)) (xs (i + 2)) n) pa st ct k lo rg me rt ++ wc_wM gg ee n mo ma mb md mn ro k bk pa st ct) := hD.sub [8, 9, 10, 11, 12, 13, 14, 0, 1, 2, 3, 4, 5, 6, 7] (by decide) rfl
  refine wc_top (show r_116 = wc_er (xs (i + 1)) (xs (i + 2)) n from hqx) ?_
  refine lv_aload_n hx hb dL_law_119 rfl (lv_at hl 2 rfl) ?_
  refine lv_aload_n hx hb dL_law_120 rfl (lv_at hl 0 rfl) ?_
  refine lv_iload_n hx hb dL_law_121 rfl (lv_at hl 3 rfl) ?_
  refine lv_iconst (v := nI 1) hx hb dL_law_122 (by decide +kernel) ?_
  refine wc_iadd hx hb (x := i) (y := 1) dL_law_123 ?_
  refine va_sld hx hb hX hbl hbA hS (vp_in_nI (n := i + 1) (by omega) (by omega)) dL_law_124 ?_
  refine wc_top (congrArg xs (nI_clamp (n := i + 1) (by omega))) ?_
  refine lv_aload_n hx hb dL_law_125 rfl (lv_at hl 0 rfl) ?_
  refine lv_iload_n hx hb dL_law_126 rfl (lv_at hl 3 rfl) ?_
  refine lv_iconst (v := nI 2) hx hb dL_law_127 (by decide +kernel) ?_
  refine wc_iadd hx hb (x := i) (y := 2) dL_law_128 ?_
  refine va_sld hx hb hX hbl hbA hS (vp_in_nI (n := i + 2) (by omega) (by omega)) dL_law_129 ?_
  refine wc_top (congrArg xs (nI_clamp (n := i + 2) (by omega))) ?_
  refine lv_aload_n hx hb dL_law_130 rfl (lv_at hl 0 rfl) ?_
  refine lv_iload_n hx hb dL_law_131 rfl (lv_at hl 3 rfl) ?_
  refine lv_iconst (v := nI 3) hx hb dL_law_132 (by decide +kernel) ?_
  refine wc_iadd hx hb (x := i) (y := 3) dL_law_133 ?_
  refine va_sld hx hb hX hbl hbA hS (vp_in_nI (n := i + 3) (by omega) (by omega)) dL_law_134 ?_
  refine wc_top (congrArg xs (nI_clamp (n := i + 3) (by omega))) ?_
  have hPc := hP.sub (ws' := wc_wM gg ee n mo ma mb md mn ro k bk pa st ct) [7, 8, 9, 10, 11, 12, 13, 14] rfl
  have hDc := hD.sub (ws' := wc_wM gg ee n mo ma mb md mn ro k bk pa st ct) [7, 8, 9, 10, 11, 12, 13, 14] (by decide) rfl
  have hKc := hK.sub (tys' := wc_tM ee) [6, 7, 8, 9, 10, 11, 12] rfl
  have hFc := va_free (wc := wc_wM gg ee n mo ma mb md mn ro k bk pa st ct) hD hS hA [7, 8, 9, 10, 11, 12, 13, 14] rfl
  refine va_calli (va_runV (As := [.int (xs (i + 1)), .int (xs (i + 2)), .int (xs (i + 3))]) (rest := [.int (wc_er (xs (i + 1)) (xs (i + 2)) n)]) ⟨hx, hb, hml, hown, hts⟩ (wc_mEmit l dC dI gg ee H_1.size n mo ma mb md mn ro k bk pa st ct hRel.1.1 (xs (i + 1)) (xs (i + 2)) (xs (i + 3))) (cwV 3 hts (lw_V q200 q201 q202 q12 q203) rfl rfl rfl (by decide +kernel) ⟨Nat.le_of_ble_eq_true rfl, Nat.le_of_ble_eq_true rfl⟩) (wc_preV hKc hPc hDc (ci := 1) (q0 := 0) rfl rfl) rfl rfl hl.1 rfl (lv_room (Nat.le_of_ble_eq_true rfl)) dL_law_135 ⟨Nat.le_of_ble_eq_true rfl, Nat.le_of_ble_eq_true rfl⟩) hS (fun q _ h => hFc q h) hFc (fun r_135 u t H_2 locs ht hvm hw hBw hz1 hk1 hS => ?_)
  obtain ⟨hqm, rfl⟩ := hw
  obtain ⟨hP1, hK1, hD1⟩ := hBw
  rw [ht] at hP1
  obtain ⟨hP, hD⟩ := va_join (wr := wc_wX hh dd xo' xr' xn' (wc_en (xs (i + 1)) (xs (i + 2)) n) pa st ct k lo rg me rt) (w1 := wc_wM gg ee (wc_en (xs (i + 1)) (xs (i + 2)) n) (wc_eU (xs (i + 1)) (xs (i + 2)) n mo (xs (i + 1))) (wc_eU (xs (i + 1)) (xs (i + 2)) n ma (xs (i + 2) &&& nI 7)) (wc_eU (xs (i + 1)) (xs (i + 2)) n mb ((xs (i + 2) >>> (nI 3 &&& 31)) &&& nI 7)) (wc_eU (xs (i + 1)) (xs (i + 2)) n md (xs (i + 2) >>> (nI 6 &&& 31))) (wc_eU (xs (i + 1)) (xs (i + 2)) n mn (xs (i + 3))) ro k bk pa st ct) hP hD [7, 8, 9, 10, 11, 12, 13, 14] [0, 1, 2, 3, 4, 5, 6] rfl rfl (by decide) (by decide) hk1 hFc hP1 hD1
  refine wc_top (show r_135 = wc_er (xs (i + 1)) (xs (i + 2)) n from hqm) ?_
  refine lv_icmp_eq (tgt := 367) hx hb dL_law_138 (by decide) (fun c_9 => ?_) (fun c_9 => absurd rfl c_9)
  exact KK xo' xr' xn' (wc_en (xs (i + 1)) (xs (i + 2)) n) pa st ct k lo rg me rt (wc_eU (xs (i + 1)) (xs (i + 2)) n mo (xs (i + 1))) (wc_eU (xs (i + 1)) (xs (i + 2)) n ma (xs (i + 2) &&& nI 7)) (wc_eU (xs (i + 1)) (xs (i + 2)) n mb ((xs (i + 2) >>> (nI 3 &&& 31)) &&& nI 7)) (wc_eU (xs (i + 1)) (xs (i + 2)) n md (xs (i + 2) >>> (nI 6 &&& 31))) (wc_eU (xs (i + 1)) (xs (i + 2)) n mn (xs (i + 3))) ro bk (⟨hPg', hRel.2.1, hRel.2.2.1, hRel.2.2.2⟩) _ _ hP hD hS ls hl
set_option maxHeartbeats 4000000 in
set_option maxRecDepth 100000 in
/-- case 1: wc_drop -/
theorem wc_case1 {p : Program} {e : Env} {s : State} {m : MethodId} {below : List Frame} {meth : Method} {c : Code} (l : Launch) {b L : Nat} {xs : Nat → Int32} (hL : L ≤ 256) (C0 : lw_At p s m meth c b L xs) {dC : Nat → ClassId} {dI : Nat → Nat → Nat} {hh gg : Nat → Nat} {dd ee : Nat → ClassId} (hK : va_K (dC, dI) vwCl (wc_tX dd ++ wc_tM ee) s) {i : Nat} (hi : i + 4 ≤ L) (KK : wc_At p l e s m below meth c dC dI hh gg dd ee b i 367) : wc_At p l e s m below meth c dC dI hh gg dd ee b i 143 := by
  obtain ⟨hx, hb, hr, hml, hown, hts0, hX, hbl, hlocks, hgv⟩ := C0
  have hts : ∀ w ∈ lw_all, w.before #[Value.ref b] s = true := fun w h => hts0 w (lw_all_tbl h)
  have hA : ∀ q : Nat, s.heap.size ≤ q → (fun q : Nat => s.heap.size ≤ q) q := fun _ h => h
  have hbA : ¬ (fun q : Nat => s.heap.size ≤ q) b := Nat.not_le.mpr hbl
  intro xo xr xn n pa st ct k lo rg me rt mo ma mb md mn ro bk hRel H locs hP hD hS ls hl
  refine lv_aload_n hx hb dL_law_143 rfl (lv_at hl 1 rfl) ?_
  have hPc := hP.sub (ws' := wc_wX hh dd xo xr xn n pa st ct k lo rg me rt) [0, 1, 2, 3, 4, 5, 6] rfl
  have hDc := hD.sub (ws' := wc_wX hh dd xo xr xn n pa st ct k lo rg me rt) [0, 1, 2, 3, 4, 5, 6] (by decide) rfl
  have hKc := hK.sub (tys' := wc_tX dd) [0, 1, 2, 3, 4, 5] rfl
  have hFc := va_free (wc := wc_wX hh dd xo xr xn n pa st ct k lo rg me rt) hD hS hA [0, 1, 2, 3, 4, 5, 6] rfl
  refine va_calli (va_runV (As := []) (rest := []) ⟨hx, hb, hml, hown, hts⟩ (wc_drop l dC dI hh dd H.size xo xr xn n pa st ct k lo rg me rt hRel.1.1 ) (cwV 0 hts (lw_V q65 q66 q67 q11 q68) rfl rfl rfl (by decide +kernel) ⟨Nat.le_of_ble_eq_true rfl, Nat.le_of_ble_eq_true rfl⟩) (wc_preV hKc hPc hDc (ci := 0) (q0 := 0) rfl rfl) rfl rfl hl.1 rfl (lv_room (Nat.le_of_ble_eq_true rfl)) dL_law_144 ⟨Nat.le_of_ble_eq_true rfl, Nat.le_of_ble_eq_true rfl⟩) hS (fun q _ h => hFc q h) hFc (fun r_144 u t H_1 locs ht hvm hw hBw hz1 hk1 hS => ?_)
  obtain ⟨hqx, rfl⟩ := hw
  obtain ⟨hP1, hK1, hD1⟩ := hBw
  rw [ht] at hP1
  obtain ⟨hP, hD⟩ := va_join (wr := wc_wM gg ee n mo ma mb md mn ro k bk pa st ct) (w1 := wc_wX hh dd xo xr xn (n - 1) pa st ct k lo rg me rt) hP hD [0, 1, 2, 3, 4, 5, 6] [7, 8, 9, 10, 11, 12, 13, 14] rfl rfl (by decide) (by decide) hk1 hFc hP1 hD1
  have hP : va_P (dC, dI) vwCl (wc_wX hh dd xo xr xn (n - 1) pa st ct k lo rg me rt ++ wc_wM gg ee n mo ma mb md mn ro k bk pa st ct) H_1 := hP.sub [8, 9, 10, 11, 12, 13, 14, 0, 1, 2, 3, 4, 5, 6, 7] rfl
  have hD : va_D (fun q : Nat => s.heap.size ≤ q) (wc_wX hh dd xo xr xn (n - 1) pa st ct k lo rg me rt ++ wc_wM gg ee n mo ma mb md mn ro k bk pa st ct) := hD.sub [8, 9, 10, 11, 12, 13, 14, 0, 1, 2, 3, 4, 5, 6, 7] (by decide) rfl
  refine wc_top (show r_144 = wc_dr n from hqx) ?_
  refine lv_aload_n hx hb dL_law_147 rfl (lv_at hl 2 rfl) ?_
  have hPc := hP.sub (ws' := wc_wM gg ee n mo ma mb md mn ro k bk pa st ct) [7, 8, 9, 10, 11, 12, 13, 14] rfl
  have hDc := hD.sub (ws' := wc_wM gg ee n mo ma mb md mn ro k bk pa st ct) [7, 8, 9, 10, 11, 12, 13, 14] (by decide) rfl
  have hKc := hK.sub (tys' := wc_tM ee) [6, 7, 8, 9, 10, 11, 12] rfl
  have hFc := va_free (wc := wc_wM gg ee n mo ma mb md mn ro k bk pa st ct) hD hS hA [7, 8, 9, 10, 11, 12, 13, 14] rfl
  refine va_calli (va_runV (As := []) (rest := [.int (wc_dr n)]) ⟨hx, hb, hml, hown, hts⟩ (wc_mDrop l dC dI gg ee H_1.size n mo ma mb md mn ro k bk pa st ct hRel.1.1 ) (cwV 0 hts (lw_V q204 q205 q206 q12 q207) rfl rfl rfl (by decide +kernel) ⟨Nat.le_of_ble_eq_true rfl, Nat.le_of_ble_eq_true rfl⟩) (wc_preV hKc hPc hDc (ci := 1) (q0 := 0) rfl rfl) rfl rfl hl.1 rfl (lv_room (Nat.le_of_ble_eq_true rfl)) dL_law_148 ⟨Nat.le_of_ble_eq_true rfl, Nat.le_of_ble_eq_true rfl⟩) hS (fun q _ h => hFc q h) hFc (fun r_148 u t H_2 locs ht hvm hw hBw hz1 hk1 hS => ?_)
  obtain ⟨hqm, rfl⟩ := hw
  obtain ⟨hP1, hK1, hD1⟩ := hBw
  rw [ht] at hP1
  obtain ⟨hP, hD⟩ := va_join (wr := wc_wX hh dd xo xr xn (n - 1) pa st ct k lo rg me rt) (w1 := wc_wM gg ee (n - 1) mo ma mb md mn ro k bk pa st ct) hP hD [7, 8, 9, 10, 11, 12, 13, 14] [0, 1, 2, 3, 4, 5, 6] rfl rfl (by decide) (by decide) hk1 hFc hP1 hD1
  refine wc_top (show r_148 = wc_dr n from hqm) ?_
  refine lv_icmp_eq (tgt := 367) hx hb dL_law_151 (by decide) (fun c_9 => ?_) (fun c_9 => absurd rfl c_9)
  exact KK xo xr xn (n - 1) pa st ct k lo rg me rt mo ma mb md mn ro bk (⟨wc_Prog_drop hRel.1, hRel.2.1, hRel.2.2.1, hRel.2.2.2⟩) _ _ hP hD hS ls hl
set_option maxHeartbeats 4000000 in
set_option maxRecDepth 100000 in
/-- case 2: wc_restart -/
theorem wc_case2 {p : Program} {e : Env} {s : State} {m : MethodId} {below : List Frame} {meth : Method} {c : Code} (l : Launch) {b L : Nat} {xs : Nat → Int32} (hL : L ≤ 256) (C0 : lw_At p s m meth c b L xs) {dC : Nat → ClassId} {dI : Nat → Nat → Nat} {hh gg : Nat → Nat} {dd ee : Nat → ClassId} (hK : va_K (dC, dI) vwCl (wc_tX dd ++ wc_tM ee) s) {i : Nat} (hi : i + 4 ≤ L) (KK : wc_At p l e s m below meth c dC dI hh gg dd ee b i 367) : wc_At p l e s m below meth c dC dI hh gg dd ee b i 156 := by
  obtain ⟨hx, hb, hr, hml, hown, hts0, hX, hbl, hlocks, hgv⟩ := C0
  have hts : ∀ w ∈ lw_all, w.before #[Value.ref b] s = true := fun w h => hts0 w (lw_all_tbl h)
  have hA : ∀ q : Nat, s.heap.size ≤ q → (fun q : Nat => s.heap.size ≤ q) q := fun _ h => h
  have hbA : ¬ (fun q : Nat => s.heap.size ≤ q) b := Nat.not_le.mpr hbl
  intro xo xr xn n pa st ct k lo rg me rt mo ma mb md mn ro bk hRel H locs hP hD hS ls hl
  refine lv_aload_n hx hb dL_law_156 rfl (lv_at hl 1 rfl) ?_
  have hPc := hP.sub (ws' := wc_wX hh dd xo xr xn n pa st ct k lo rg me rt) [0, 1, 2, 3, 4, 5, 6] rfl
  have hDc := hD.sub (ws' := wc_wX hh dd xo xr xn n pa st ct k lo rg me rt) [0, 1, 2, 3, 4, 5, 6] (by decide) rfl
  have hKc := hK.sub (tys' := wc_tX dd) [0, 1, 2, 3, 4, 5] rfl
  have hFc := va_free (wc := wc_wX hh dd xo xr xn n pa st ct k lo rg me rt) hD hS hA [0, 1, 2, 3, 4, 5, 6] rfl
  refine va_callv (va_runV (As := []) (rest := []) ⟨hx, hb, hml, hown, hts⟩ (wc_restart l dC dI hh dd H.size xo xr xn n pa st ct k lo rg me rt  ) (cwV 0 hts (lw_V q69 q70 q71 q11 q72) rfl rfl rfl (by decide +kernel) ⟨Nat.le_of_ble_eq_true rfl, Nat.le_of_ble_eq_true rfl⟩) (wc_preV hKc hPc hDc (ci := 0) (q0 := 0) rfl rfl) rfl rfl hl.1 rfl (lv_room (Nat.le_of_ble_eq_true rfl)) dL_law_157 ⟨Nat.le_of_ble_eq_true rfl, Nat.le_of_ble_eq_true rfl⟩) hS (fun q _ h => hFc q h) hFc (fun u t H_1 locs ht hvm hw hBw hz1 hk1 hS => ?_)
  subst hw
  obtain ⟨hP1, hK1, hD1⟩ := hBw
  rw [ht] at hP1
  obtain ⟨hP, hD⟩ := va_join (wr := wc_wM gg ee n mo ma mb md mn ro k bk pa st ct) (w1 := wc_wX hh dd xo xr xn n (nI 0) (nI 0) (nI 0) 0 0 (wc_cl4 (wc_cl4 rg (0 % 4 * 4)) (1 % 4 * 4)) me rt) hP hD [0, 1, 2, 3, 4, 5, 6] [7, 8, 9, 10, 11, 12, 13, 14] rfl rfl (by decide) (by decide) hk1 hFc hP1 hD1
  have hP : va_P (dC, dI) vwCl (wc_wX hh dd xo xr xn n (nI 0) (nI 0) (nI 0) 0 0 (wc_cl4 (wc_cl4 rg (0 % 4 * 4)) (1 % 4 * 4)) me rt ++ wc_wM gg ee n mo ma mb md mn ro k bk pa st ct) H_1 := hP.sub [8, 9, 10, 11, 12, 13, 14, 0, 1, 2, 3, 4, 5, 6, 7] rfl
  have hD : va_D (fun q : Nat => s.heap.size ≤ q) (wc_wX hh dd xo xr xn n (nI 0) (nI 0) (nI 0) 0 0 (wc_cl4 (wc_cl4 rg (0 % 4 * 4)) (1 % 4 * 4)) me rt ++ wc_wM gg ee n mo ma mb md mn ro k bk pa st ct) := hD.sub [8, 9, 10, 11, 12, 13, 14, 0, 1, 2, 3, 4, 5, 6, 7] (by decide) rfl
  refine lv_aload_n hx hb dL_law_160 rfl (lv_at hl 2 rfl) ?_
  have hPc := hP.sub (ws' := wc_wM gg ee n mo ma mb md mn ro k bk pa st ct) [7, 8, 9, 10, 11, 12, 13, 14] rfl
  have hDc := hD.sub (ws' := wc_wM gg ee n mo ma mb md mn ro k bk pa st ct) [7, 8, 9, 10, 11, 12, 13, 14] (by decide) rfl
  have hKc := hK.sub (tys' := wc_tM ee) [6, 7, 8, 9, 10, 11, 12] rfl
  have hFc := va_free (wc := wc_wM gg ee n mo ma mb md mn ro k bk pa st ct) hD hS hA [7, 8, 9, 10, 11, 12, 13, 14] rfl
  refine va_callv (va_runV (As := []) (rest := []) ⟨hx, hb, hml, hown, hts⟩ (wc_mRestart l dC dI gg ee H_1.size n mo ma mb md mn ro k bk pa st ct  ) (cwV 0 hts (lw_V q208 q209 q210 q12 q211) rfl rfl rfl (by decide +kernel) ⟨Nat.le_of_ble_eq_true rfl, Nat.le_of_ble_eq_true rfl⟩) (wc_preV hKc hPc hDc (ci := 1) (q0 := 0) rfl rfl) rfl rfl hl.1 rfl (lv_room (Nat.le_of_ble_eq_true rfl)) dL_law_161 ⟨Nat.le_of_ble_eq_true rfl, Nat.le_of_ble_eq_true rfl⟩) hS (fun q _ h => hFc q h) hFc (fun u t H_2 locs ht hvm hw hBw hz1 hk1 hS => ?_)
  obtain ⟨ro', rfl, hro⟩ := hw
  obtain ⟨hP1, hK1, hD1⟩ := hBw
  rw [ht] at hP1
  obtain ⟨hP, hD⟩ := va_join (wr := wc_wX hh dd xo xr xn n (nI 0) (nI 0) (nI 0) 0 0 (wc_cl4 (wc_cl4 rg (0 % 4 * 4)) (1 % 4 * 4)) me rt) (w1 := wc_wM gg ee n mo ma mb md mn ro' 0 bk (nI 0) (nI 0) (nI 0)) hP hD [7, 8, 9, 10, 11, 12, 13, 14] [0, 1, 2, 3, 4, 5, 6] rfl rfl (by decide) (by decide) hk1 hFc hP1 hD1
  refine lv_goto (tgt := 367) hx hb dL_law_164 (by decide) ?_
  exact KK xo xr xn n (nI 0) (nI 0) (nI 0) 0 0 (wc_cl4 (wc_cl4 rg (0 % 4 * 4)) (1 % 4 * 4)) me rt mo ma mb md mn ro' bk (⟨hRel.1, wc_Blk_0 (fun q hq => hro q (by omega)), wc_Ret_0, Or.inl nI_0⟩) _ _ hP hD hS ls hl
set_option maxHeartbeats 4000000 in
set_option maxRecDepth 100000 in
/-- case 3: wc_run -/
theorem wc_case3 {p : Program} {e : Env} {s : State} {m : MethodId} {below : List Frame} {meth : Method} {c : Code} (l : Launch) {b L : Nat} {xs : Nat → Int32} (hL : L ≤ 256) (C0 : lw_At p s m meth c b L xs) {dC : Nat → ClassId} {dI : Nat → Nat → Nat} {hh gg : Nat → Nat} {dd ee : Nat → ClassId} (hK : va_K (dC, dI) vwCl (wc_tX dd ++ wc_tM ee) s) {i : Nat} (hi : i + 4 ≤ L) (KK : wc_At p l e s m below meth c dC dI hh gg dd ee b i 367) : wc_At p l e s m below meth c dC dI hh gg dd ee b i 167 := by
  obtain ⟨hx, hb, hr, hml, hown, hts0, hX, hbl, hlocks, hgv⟩ := C0
  have hts : ∀ w ∈ lw_all, w.before #[Value.ref b] s = true := fun w h => hts0 w (lw_all_tbl h)
  have hA : ∀ q : Nat, s.heap.size ≤ q → (fun q : Nat => s.heap.size ≤ q) q := fun _ h => h
  have hbA : ¬ (fun q : Nat => s.heap.size ≤ q) b := Nat.not_le.mpr hbl
  intro xo xr xn n pa st ct k lo rg me rt mo ma mb md mn ro bk hRel H locs hP hD hS ls hl
  refine lv_aload_n hx hb dL_law_167 rfl (lv_at hl 1 rfl) ?_
  refine lv_aload_n hx hb dL_law_168 rfl (lv_at hl 0 rfl) ?_
  refine lv_iload_n hx hb dL_law_169 rfl (lv_at hl 3 rfl) ?_
  refine lv_iconst (v := nI 1) hx hb dL_law_170 (by decide +kernel) ?_
  refine wc_iadd hx hb (x := i) (y := 1) dL_law_171 ?_
  refine va_sld hx hb hX hbl hbA hS (vp_in_nI (n := i + 1) (by omega) (by omega)) dL_law_172 ?_
  refine wc_top (congrArg xs (nI_clamp (n := i + 1) (by omega))) ?_
  have hPc := hP.sub (ws' := wc_wX hh dd xo xr xn n pa st ct k lo rg me rt) [0, 1, 2, 3, 4, 5, 6] rfl
  have hDc := hD.sub (ws' := wc_wX hh dd xo xr xn n pa st ct k lo rg me rt) [0, 1, 2, 3, 4, 5, 6] (by decide) rfl
  have hKc := hK.sub (tys' := wc_tX dd) [0, 1, 2, 3, 4, 5] rfl
  have hFc := va_free (wc := wc_wX hh dd xo xr xn n pa st ct k lo rg me rt) hD hS hA [0, 1, 2, 3, 4, 5, 6] rfl
  refine va_calli (va_runV (As := [.int (xs (i + 1))]) (rest := []) ⟨hx, hb, hml, hown, hts⟩ (wc_run l dC dI hh dd H.size xo xr xn n pa st ct k lo rg me rt mo ma mb md mn ro bk hRel.1 hRel.2.1 hRel.2.2.1 (xs (i + 1))) (cwV 1 hts (lw_V q80 q81 q82 q11 q83) rfl rfl rfl (by decide +kernel) ⟨Nat.le_of_ble_eq_true rfl, Nat.le_of_ble_eq_true rfl⟩) (wc_preV hKc hPc hDc (ci := 0) (q0 := 0) rfl rfl) rfl rfl hl.1 rfl (lv_room (Nat.le_of_ble_eq_true rfl)) dL_law_173 ⟨Nat.le_of_ble_eq_true rfl, Nat.le_of_ble_eq_true rfl⟩) hS (fun q _ h => hFc q h) hFc (fun r_173 u t H_1 locs ht hvm hw hBw hz1 hk1 hS => ?_)
  obtain ⟨hqx, lo', rg', me', rt', rfl, hBk', hR'⟩ := hw
  obtain ⟨hP1, hK1, hD1⟩ := hBw
  rw [ht] at hP1
  obtain ⟨hP, hD⟩ := va_join (wr := wc_wM gg ee n mo ma mb md mn ro k bk pa st ct) (w1 := wc_wX hh dd xo xr xn n ((wc_rn n mo ma mb md mn (wc_cnt (xs (i + 1))) (ro, k, bk, pa, st)).2.2.2.2.1) ((wc_rn n mo ma mb md mn (wc_cnt (xs (i + 1))) (ro, k, bk, pa, st)).2.2.2.2.2) (ct + nI (wc_rn n mo ma mb md mn (wc_cnt (xs (i + 1))) (ro, k, bk, pa, st)).1) ((wc_rn n mo ma mb md mn (wc_cnt (xs (i + 1))) (ro, k, bk, pa, st)).2.2.1) lo' rg' me' rt') hP hD [0, 1, 2, 3, 4, 5, 6] [7, 8, 9, 10, 11, 12, 13, 14] rfl rfl (by decide) (by decide) hk1 hFc hP1 hD1
  have hP : va_P (dC, dI) vwCl (wc_wX hh dd xo xr xn n ((wc_rn n mo ma mb md mn (wc_cnt (xs (i + 1))) (ro, k, bk, pa, st)).2.2.2.2.1) ((wc_rn n mo ma mb md mn (wc_cnt (xs (i + 1))) (ro, k, bk, pa, st)).2.2.2.2.2) (ct + nI (wc_rn n mo ma mb md mn (wc_cnt (xs (i + 1))) (ro, k, bk, pa, st)).1) ((wc_rn n mo ma mb md mn (wc_cnt (xs (i + 1))) (ro, k, bk, pa, st)).2.2.1) lo' rg' me' rt' ++ wc_wM gg ee n mo ma mb md mn ro k bk pa st ct) H_1 := hP.sub [8, 9, 10, 11, 12, 13, 14, 0, 1, 2, 3, 4, 5, 6, 7] rfl
  have hD : va_D (fun q : Nat => s.heap.size ≤ q) (wc_wX hh dd xo xr xn n ((wc_rn n mo ma mb md mn (wc_cnt (xs (i + 1))) (ro, k, bk, pa, st)).2.2.2.2.1) ((wc_rn n mo ma mb md mn (wc_cnt (xs (i + 1))) (ro, k, bk, pa, st)).2.2.2.2.2) (ct + nI (wc_rn n mo ma mb md mn (wc_cnt (xs (i + 1))) (ro, k, bk, pa, st)).1) ((wc_rn n mo ma mb md mn (wc_cnt (xs (i + 1))) (ro, k, bk, pa, st)).2.2.1) lo' rg' me' rt' ++ wc_wM gg ee n mo ma mb md mn ro k bk pa st ct) := hD.sub [8, 9, 10, 11, 12, 13, 14, 0, 1, 2, 3, 4, 5, 6, 7] (by decide) rfl
  refine wc_top (show r_173 = nI (wc_rn n mo ma mb md mn (wc_cnt (xs (i + 1))) (ro, k, bk, pa, st)).1 from hqx) ?_
  refine lv_aload_n hx hb dL_law_176 rfl (lv_at hl 2 rfl) ?_
  refine lv_aload_n hx hb dL_law_177 rfl (lv_at hl 0 rfl) ?_
  refine lv_iload_n hx hb dL_law_178 rfl (lv_at hl 3 rfl) ?_
  refine lv_iconst (v := nI 1) hx hb dL_law_179 (by decide +kernel) ?_
  refine wc_iadd hx hb (x := i) (y := 1) dL_law_180 ?_
  refine va_sld hx hb hX hbl hbA hS (vp_in_nI (n := i + 1) (by omega) (by omega)) dL_law_181 ?_
  refine wc_top (congrArg xs (nI_clamp (n := i + 1) (by omega))) ?_
  have hPc := hP.sub (ws' := wc_wM gg ee n mo ma mb md mn ro k bk pa st ct) [7, 8, 9, 10, 11, 12, 13, 14] rfl
  have hDc := hD.sub (ws' := wc_wM gg ee n mo ma mb md mn ro k bk pa st ct) [7, 8, 9, 10, 11, 12, 13, 14] (by decide) rfl
  have hKc := hK.sub (tys' := wc_tM ee) [6, 7, 8, 9, 10, 11, 12] rfl
  have hFc := va_free (wc := wc_wM gg ee n mo ma mb md mn ro k bk pa st ct) hD hS hA [7, 8, 9, 10, 11, 12, 13, 14] rfl
  refine va_calli (va_runV (As := [.int (xs (i + 1))]) (rest := [.int (nI (wc_rn n mo ma mb md mn (wc_cnt (xs (i + 1))) (ro, k, bk, pa, st)).1)]) ⟨hx, hb, hml, hown, hts⟩ (wc_mRun l dC dI gg ee H_1.size n mo ma mb md mn ro k bk pa st ct xo xr xn hRel.1 hRel.2.1.2.2.1 (xs (i + 1))) (cwV 1 hts (lw_V q212 q213 q214 q12 q215) rfl rfl rfl (by decide +kernel) ⟨Nat.le_of_ble_eq_true rfl, Nat.le_of_ble_eq_true rfl⟩) (wc_preV hKc hPc hDc (ci := 1) (q0 := 0) rfl rfl) rfl rfl hl.1 rfl (lv_room (Nat.le_of_ble_eq_true rfl)) dL_law_182 ⟨Nat.le_of_ble_eq_true rfl, Nat.le_of_ble_eq_true rfl⟩) hS (fun q _ h => hFc q h) hFc (fun r_182 u t H_2 locs ht hvm hw hBw hz1 hk1 hS => ?_)
  obtain ⟨hqm, rfl⟩ := hw
  obtain ⟨hP1, hK1, hD1⟩ := hBw
  rw [ht] at hP1
  obtain ⟨hP, hD⟩ := va_join (wr := wc_wX hh dd xo xr xn n ((wc_rn n mo ma mb md mn (wc_cnt (xs (i + 1))) (ro, k, bk, pa, st)).2.2.2.2.1) ((wc_rn n mo ma mb md mn (wc_cnt (xs (i + 1))) (ro, k, bk, pa, st)).2.2.2.2.2) (ct + nI (wc_rn n mo ma mb md mn (wc_cnt (xs (i + 1))) (ro, k, bk, pa, st)).1) ((wc_rn n mo ma mb md mn (wc_cnt (xs (i + 1))) (ro, k, bk, pa, st)).2.2.1) lo' rg' me' rt') (w1 := wc_wM gg ee n mo ma mb md mn ((wc_rn n mo ma mb md mn (wc_cnt (xs (i + 1))) (ro, k, bk, pa, st)).2.1) ((wc_rn n mo ma mb md mn (wc_cnt (xs (i + 1))) (ro, k, bk, pa, st)).2.2.1) ((wc_rn n mo ma mb md mn (wc_cnt (xs (i + 1))) (ro, k, bk, pa, st)).2.2.2.1) ((wc_rn n mo ma mb md mn (wc_cnt (xs (i + 1))) (ro, k, bk, pa, st)).2.2.2.2.1) ((wc_rn n mo ma mb md mn (wc_cnt (xs (i + 1))) (ro, k, bk, pa, st)).2.2.2.2.2) (ct + nI (wc_rn n mo ma mb md mn (wc_cnt (xs (i + 1))) (ro, k, bk, pa, st)).1)) hP hD [7, 8, 9, 10, 11, 12, 13, 14] [0, 1, 2, 3, 4, 5, 6] rfl rfl (by decide) (by decide) hk1 hFc hP1 hD1
  refine wc_top (show r_182 = nI (wc_rn n mo ma mb md mn (wc_cnt (xs (i + 1))) (ro, k, bk, pa, st)).1 from hqm) ?_
  refine lv_icmp_eq (tgt := 367) hx hb dL_law_185 (by decide) (fun c_9 => ?_) (fun c_9 => absurd rfl c_9)
  exact KK xo xr xn n ((wc_rn n mo ma mb md mn (wc_cnt (xs (i + 1))) (ro, k, bk, pa, st)).2.2.2.2.1) ((wc_rn n mo ma mb md mn (wc_cnt (xs (i + 1))) (ro, k, bk, pa, st)).2.2.2.2.2) (ct + nI (wc_rn n mo ma mb md mn (wc_cnt (xs (i + 1))) (ro, k, bk, pa, st)).1) ((wc_rn n mo ma mb md mn (wc_cnt (xs (i + 1))) (ro, k, bk, pa, st)).2.2.1) lo' rg' me' rt' mo ma mb md mn ((wc_rn n mo ma mb md mn (wc_cnt (xs (i + 1))) (ro, k, bk, pa, st)).2.1) ((wc_rn n mo ma mb md mn (wc_cnt (xs (i + 1))) (ro, k, bk, pa, st)).2.2.2.1) (⟨hRel.1, hBk', hR', wc_rn_ov _ _ hRel.2.2.2⟩) _ _ hP hD hS ls hl
set_option maxHeartbeats 4000000 in
set_option maxRecDepth 100000 in
/-- case 4: wc_halted -/
theorem wc_case4 {p : Program} {e : Env} {s : State} {m : MethodId} {below : List Frame} {meth : Method} {c : Code} (l : Launch) {b L : Nat} {xs : Nat → Int32} (hL : L ≤ 256) (C0 : lw_At p s m meth c b L xs) {dC : Nat → ClassId} {dI : Nat → Nat → Nat} {hh gg : Nat → Nat} {dd ee : Nat → ClassId} (hK : va_K (dC, dI) vwCl (wc_tX dd ++ wc_tM ee) s) {i : Nat} (hi : i + 4 ≤ L) (KK : wc_At p l e s m below meth c dC dI hh gg dd ee b i 367) : wc_At p l e s m below meth c dC dI hh gg dd ee b i 190 := by
  obtain ⟨hx, hb, hr, hml, hown, hts0, hX, hbl, hlocks, hgv⟩ := C0
  have hts : ∀ w ∈ lw_all, w.before #[Value.ref b] s = true := fun w h => hts0 w (lw_all_tbl h)
  have hA : ∀ q : Nat, s.heap.size ≤ q → (fun q : Nat => s.heap.size ≤ q) q := fun _ h => h
  have hbA : ¬ (fun q : Nat => s.heap.size ≤ q) b := Nat.not_le.mpr hbl
  intro xo xr xn n pa st ct k lo rg me rt mo ma mb md mn ro bk hRel H locs hP hD hS ls hl
  refine lv_aload_n hx hb dL_law_190 rfl (lv_at hl 1 rfl) ?_
  have hPc := hP.sub (ws' := wc_wX hh dd xo xr xn n pa st ct k lo rg me rt) [0, 1, 2, 3, 4, 5, 6] rfl
  have hDc := hD.sub (ws' := wc_wX hh dd xo xr xn n pa st ct k lo rg me rt) [0, 1, 2, 3, 4, 5, 6] (by decide) rfl
  have hKc := hK.sub (tys' := wc_tX dd) [0, 1, 2, 3, 4, 5] rfl
  have hFc := va_free (wc := wc_wX hh dd xo xr xn n pa st ct k lo rg me rt) hD hS hA [0, 1, 2, 3, 4, 5, 6] rfl
  refine va_calli (va_runV (As := []) (rest := []) ⟨hx, hb, hml, hown, hts⟩ (wc_halted l dC dI hh dd H.size xo xr xn n pa st ct k lo rg me rt hRel.2.2.2 ) (cwV 0 hts (lw_V q114 q115 q116 q11 q117) rfl rfl rfl (by decide +kernel) ⟨Nat.le_of_ble_eq_true rfl, Nat.le_of_ble_eq_true rfl⟩) (wc_preV hKc hPc hDc (ci := 0) (q0 := 0) rfl rfl) rfl rfl hl.1 rfl (lv_room (Nat.le_of_ble_eq_true rfl)) dL_law_191 ⟨Nat.le_of_ble_eq_true rfl, Nat.le_of_ble_eq_true rfl⟩) hS (fun q _ h => hFc q h) hFc (fun r_191 u t H_1 locs ht hvm hw hBw hz1 hk1 hS => ?_)
  obtain ⟨hqx, rfl⟩ := hw
  obtain ⟨hP1, hK1, hD1⟩ := hBw
  rw [ht] at hP1
  obtain ⟨hP, hD⟩ := va_join (wr := wc_wM gg ee n mo ma mb md mn ro k bk pa st ct) (w1 := wc_wX hh dd xo xr xn n pa st ct k lo rg me rt) hP hD [0, 1, 2, 3, 4, 5, 6] [7, 8, 9, 10, 11, 12, 13, 14] rfl rfl (by decide) (by decide) hk1 hFc hP1 hD1
  have hP : va_P (dC, dI) vwCl (wc_wX hh dd xo xr xn n pa st ct k lo rg me rt ++ wc_wM gg ee n mo ma mb md mn ro k bk pa st ct) H_1 := hP.sub [8, 9, 10, 11, 12, 13, 14, 0, 1, 2, 3, 4, 5, 6, 7] rfl
  have hD : va_D (fun q : Nat => s.heap.size ≤ q) (wc_wX hh dd xo xr xn n pa st ct k lo rg me rt ++ wc_wM gg ee n mo ma mb md mn ro k bk pa st ct) := hD.sub [8, 9, 10, 11, 12, 13, 14, 0, 1, 2, 3, 4, 5, 6, 7] (by decide) rfl
  refine wc_top (show r_191 = st from hqx) ?_
  refine lv_aload_n hx hb dL_law_194 rfl (lv_at hl 2 rfl) ?_
  have hPc := hP.sub (ws' := wc_wM gg ee n mo ma mb md mn ro k bk pa st ct) [7, 8, 9, 10, 11, 12, 13, 14] rfl
  have hDc := hD.sub (ws' := wc_wM gg ee n mo ma mb md mn ro k bk pa st ct) [7, 8, 9, 10, 11, 12, 13, 14] (by decide) rfl
  have hKc := hK.sub (tys' := wc_tM ee) [6, 7, 8, 9, 10, 11, 12] rfl
  have hFc := va_free (wc := wc_wM gg ee n mo ma mb md mn ro k bk pa st ct) hD hS hA [7, 8, 9, 10, 11, 12, 13, 14] rfl
  refine va_calli (va_runV (As := []) (rest := [.int st]) ⟨hx, hb, hml, hown, hts⟩ (wc_mHalted l dC dI gg ee H_1.size n mo ma mb md mn ro k bk pa st ct hRel.2.2.2 ) (cwV 0 hts (lw_V q220 q221 q222 q12 q223) rfl rfl rfl (by decide +kernel) ⟨Nat.le_of_ble_eq_true rfl, Nat.le_of_ble_eq_true rfl⟩) (wc_preV hKc hPc hDc (ci := 1) (q0 := 0) rfl rfl) rfl rfl hl.1 rfl (lv_room (Nat.le_of_ble_eq_true rfl)) dL_law_195 ⟨Nat.le_of_ble_eq_true rfl, Nat.le_of_ble_eq_true rfl⟩) hS (fun q _ h => hFc q h) hFc (fun r_195 u t H_2 locs ht hvm hw hBw hz1 hk1 hS => ?_)
  obtain ⟨hqm, rfl⟩ := hw
  obtain ⟨hP1, hK1, hD1⟩ := hBw
  rw [ht] at hP1
  obtain ⟨hP, hD⟩ := va_join (wr := wc_wX hh dd xo xr xn n pa st ct k lo rg me rt) (w1 := wc_wM gg ee n mo ma mb md mn ro k bk pa st ct) hP hD [7, 8, 9, 10, 11, 12, 13, 14] [0, 1, 2, 3, 4, 5, 6] rfl rfl (by decide) (by decide) hk1 hFc hP1 hD1
  refine wc_top (show r_195 = st from hqm) ?_
  refine lv_icmp_eq (tgt := 367) hx hb dL_law_198 (by decide) (fun c_9 => ?_) (fun c_9 => absurd rfl c_9)
  exact KK xo xr xn n pa st ct k lo rg me rt mo ma mb md mn ro bk (hRel) _ _ hP hD hS ls hl
set_option maxHeartbeats 4000000 in
set_option maxRecDepth 100000 in
/-- case 5: wc_position -/
theorem wc_case5 {p : Program} {e : Env} {s : State} {m : MethodId} {below : List Frame} {meth : Method} {c : Code} (l : Launch) {b L : Nat} {xs : Nat → Int32} (hL : L ≤ 256) (C0 : lw_At p s m meth c b L xs) {dC : Nat → ClassId} {dI : Nat → Nat → Nat} {hh gg : Nat → Nat} {dd ee : Nat → ClassId} (hK : va_K (dC, dI) vwCl (wc_tX dd ++ wc_tM ee) s) {i : Nat} (hi : i + 4 ≤ L) (KK : wc_At p l e s m below meth c dC dI hh gg dd ee b i 367) : wc_At p l e s m below meth c dC dI hh gg dd ee b i 203 := by
  obtain ⟨hx, hb, hr, hml, hown, hts0, hX, hbl, hlocks, hgv⟩ := C0
  have hts : ∀ w ∈ lw_all, w.before #[Value.ref b] s = true := fun w h => hts0 w (lw_all_tbl h)
  have hA : ∀ q : Nat, s.heap.size ≤ q → (fun q : Nat => s.heap.size ≤ q) q := fun _ h => h
  have hbA : ¬ (fun q : Nat => s.heap.size ≤ q) b := Nat.not_le.mpr hbl
  intro xo xr xn n pa st ct k lo rg me rt mo ma mb md mn ro bk hRel H locs hP hD hS ls hl
  refine lv_aload_n hx hb dL_law_203 rfl (lv_at hl 1 rfl) ?_
  have hPc := hP.sub (ws' := wc_wX hh dd xo xr xn n pa st ct k lo rg me rt) [0, 1, 2, 3, 4, 5, 6] rfl
  have hDc := hD.sub (ws' := wc_wX hh dd xo xr xn n pa st ct k lo rg me rt) [0, 1, 2, 3, 4, 5, 6] (by decide) rfl
  have hKc := hK.sub (tys' := wc_tX dd) [0, 1, 2, 3, 4, 5] rfl
  have hFc := va_free (wc := wc_wX hh dd xo xr xn n pa st ct k lo rg me rt) hD hS hA [0, 1, 2, 3, 4, 5, 6] rfl
  refine va_calli (va_runV (As := []) (rest := []) ⟨hx, hb, hml, hown, hts⟩ (wc_position l dC dI hh dd H.size xo xr xn n pa st ct k lo rg me rt  ) (cwV 0 hts (lw_V q118 q119 q120 q11 q121) rfl rfl rfl (by decide +kernel) ⟨Nat.le_of_ble_eq_true rfl, Nat.le_of_ble_eq_true rfl⟩) (wc_preV hKc hPc hDc (ci := 0) (q0 := 0) rfl rfl) rfl rfl hl.1 rfl (lv_room (Nat.le_of_ble_eq_true rfl)) dL_law_204 ⟨Nat.le_of_ble_eq_true rfl, Nat.le_of_ble_eq_true rfl⟩) hS (fun q _ h => hFc q h) hFc (fun r_204 u t H_1 locs ht hvm hw hBw hz1 hk1 hS => ?_)
  obtain ⟨hqx, rfl⟩ := hw
  obtain ⟨hP1, hK1, hD1⟩ := hBw
  rw [ht] at hP1
  obtain ⟨hP, hD⟩ := va_join (wr := wc_wM gg ee n mo ma mb md mn ro k bk pa st ct) (w1 := wc_wX hh dd xo xr xn n pa st ct k lo rg me rt) hP hD [0, 1, 2, 3, 4, 5, 6] [7, 8, 9, 10, 11, 12, 13, 14] rfl rfl (by decide) (by decide) hk1 hFc hP1 hD1
  have hP : va_P (dC, dI) vwCl (wc_wX hh dd xo xr xn n pa st ct k lo rg me rt ++ wc_wM gg ee n mo ma mb md mn ro k bk pa st ct) H_1 := hP.sub [8, 9, 10, 11, 12, 13, 14, 0, 1, 2, 3, 4, 5, 6, 7] rfl
  have hD : va_D (fun q : Nat => s.heap.size ≤ q) (wc_wX hh dd xo xr xn n pa st ct k lo rg me rt ++ wc_wM gg ee n mo ma mb md mn ro k bk pa st ct) := hD.sub [8, 9, 10, 11, 12, 13, 14, 0, 1, 2, 3, 4, 5, 6, 7] (by decide) rfl
  refine wc_top (show r_204 = pa from hqx) ?_
  refine lv_aload_n hx hb dL_law_207 rfl (lv_at hl 2 rfl) ?_
  have hPc := hP.sub (ws' := wc_wM gg ee n mo ma mb md mn ro k bk pa st ct) [7, 8, 9, 10, 11, 12, 13, 14] rfl
  have hDc := hD.sub (ws' := wc_wM gg ee n mo ma mb md mn ro k bk pa st ct) [7, 8, 9, 10, 11, 12, 13, 14] (by decide) rfl
  have hKc := hK.sub (tys' := wc_tM ee) [6, 7, 8, 9, 10, 11, 12] rfl
  have hFc := va_free (wc := wc_wM gg ee n mo ma mb md mn ro k bk pa st ct) hD hS hA [7, 8, 9, 10, 11, 12, 13, 14] rfl
  refine va_calli (va_runV (As := []) (rest := [.int pa]) ⟨hx, hb, hml, hown, hts⟩ (wc_mPosition l dC dI gg ee H_1.size n mo ma mb md mn ro k bk pa st ct  ) (cwV 0 hts (lw_V q224 q225 q226 q12 q227) rfl rfl rfl (by decide +kernel) ⟨Nat.le_of_ble_eq_true rfl, Nat.le_of_ble_eq_true rfl⟩) (wc_preV hKc hPc hDc (ci := 1) (q0 := 0) rfl rfl) rfl rfl hl.1 rfl (lv_room (Nat.le_of_ble_eq_true rfl)) dL_law_208 ⟨Nat.le_of_ble_eq_true rfl, Nat.le_of_ble_eq_true rfl⟩) hS (fun q _ h => hFc q h) hFc (fun r_208 u t H_2 locs ht hvm hw hBw hz1 hk1 hS => ?_)
  obtain ⟨hqm, rfl⟩ := hw
  obtain ⟨hP1, hK1, hD1⟩ := hBw
  rw [ht] at hP1
  obtain ⟨hP, hD⟩ := va_join (wr := wc_wX hh dd xo xr xn n pa st ct k lo rg me rt) (w1 := wc_wM gg ee n mo ma mb md mn ro k bk pa st ct) hP hD [7, 8, 9, 10, 11, 12, 13, 14] [0, 1, 2, 3, 4, 5, 6] rfl rfl (by decide) (by decide) hk1 hFc hP1 hD1
  refine wc_top (show r_208 = pa from hqm) ?_
  refine lv_icmp_eq (tgt := 367) hx hb dL_law_211 (by decide) (fun c_9 => ?_) (fun c_9 => absurd rfl c_9)
  exact KK xo xr xn n pa st ct k lo rg me rt mo ma mb md mn ro bk (hRel) _ _ hP hD hS ls hl
set_option maxHeartbeats 4000000 in
set_option maxRecDepth 100000 in
/-- case 6: wc_depth -/
theorem wc_case6 {p : Program} {e : Env} {s : State} {m : MethodId} {below : List Frame} {meth : Method} {c : Code} (l : Launch) {b L : Nat} {xs : Nat → Int32} (hL : L ≤ 256) (C0 : lw_At p s m meth c b L xs) {dC : Nat → ClassId} {dI : Nat → Nat → Nat} {hh gg : Nat → Nat} {dd ee : Nat → ClassId} (hK : va_K (dC, dI) vwCl (wc_tX dd ++ wc_tM ee) s) {i : Nat} (hi : i + 4 ≤ L) (KK : wc_At p l e s m below meth c dC dI hh gg dd ee b i 367) : wc_At p l e s m below meth c dC dI hh gg dd ee b i 216 := by
  obtain ⟨hx, hb, hr, hml, hown, hts0, hX, hbl, hlocks, hgv⟩ := C0
  have hts : ∀ w ∈ lw_all, w.before #[Value.ref b] s = true := fun w h => hts0 w (lw_all_tbl h)
  have hA : ∀ q : Nat, s.heap.size ≤ q → (fun q : Nat => s.heap.size ≤ q) q := fun _ h => h
  have hbA : ¬ (fun q : Nat => s.heap.size ≤ q) b := Nat.not_le.mpr hbl
  intro xo xr xn n pa st ct k lo rg me rt mo ma mb md mn ro bk hRel H locs hP hD hS ls hl
  refine lv_aload_n hx hb dL_law_216 rfl (lv_at hl 1 rfl) ?_
  have hPc := hP.sub (ws' := wc_wX hh dd xo xr xn n pa st ct k lo rg me rt) [0, 1, 2, 3, 4, 5, 6] rfl
  have hDc := hD.sub (ws' := wc_wX hh dd xo xr xn n pa st ct k lo rg me rt) [0, 1, 2, 3, 4, 5, 6] (by decide) rfl
  have hKc := hK.sub (tys' := wc_tX dd) [0, 1, 2, 3, 4, 5] rfl
  have hFc := va_free (wc := wc_wX hh dd xo xr xn n pa st ct k lo rg me rt) hD hS hA [0, 1, 2, 3, 4, 5, 6] rfl
  refine va_calli (va_runV (As := []) (rest := []) ⟨hx, hb, hml, hown, hts⟩ (wc_depth l dC dI hh dd H.size xo xr xn n pa st ct k lo rg me rt  ) (cwV 0 hts (lw_V q122 q123 q124 q11 q125) rfl rfl rfl (by decide +kernel) ⟨Nat.le_of_ble_eq_true rfl, Nat.le_of_ble_eq_true rfl⟩) (wc_preV hKc hPc hDc (ci := 0) (q0 := 0) rfl rfl) rfl rfl hl.1 rfl (lv_room (Nat.le_of_ble_eq_true rfl)) dL_law_217 ⟨Nat.le_of_ble_eq_true rfl, Nat.le_of_ble_eq_true rfl⟩) hS (fun q _ h => hFc q h) hFc (fun r_217 u t H_1 locs ht hvm hw hBw hz1 hk1 hS => ?_)
  obtain ⟨hqx, rfl⟩ := hw
  obtain ⟨hP1, hK1, hD1⟩ := hBw
  rw [ht] at hP1
  obtain ⟨hP, hD⟩ := va_join (wr := wc_wM gg ee n mo ma mb md mn ro k bk pa st ct) (w1 := wc_wX hh dd xo xr xn n pa st ct k lo rg me rt) hP hD [0, 1, 2, 3, 4, 5, 6] [7, 8, 9, 10, 11, 12, 13, 14] rfl rfl (by decide) (by decide) hk1 hFc hP1 hD1
  have hP : va_P (dC, dI) vwCl (wc_wX hh dd xo xr xn n pa st ct k lo rg me rt ++ wc_wM gg ee n mo ma mb md mn ro k bk pa st ct) H_1 := hP.sub [8, 9, 10, 11, 12, 13, 14, 0, 1, 2, 3, 4, 5, 6, 7] rfl
  have hD : va_D (fun q : Nat => s.heap.size ≤ q) (wc_wX hh dd xo xr xn n pa st ct k lo rg me rt ++ wc_wM gg ee n mo ma mb md mn ro k bk pa st ct) := hD.sub [8, 9, 10, 11, 12, 13, 14, 0, 1, 2, 3, 4, 5, 6, 7] (by decide) rfl
  refine wc_top (show r_217 = nI (k + 1) from hqx) ?_
  refine lv_aload_n hx hb dL_law_220 rfl (lv_at hl 2 rfl) ?_
  have hPc := hP.sub (ws' := wc_wM gg ee n mo ma mb md mn ro k bk pa st ct) [7, 8, 9, 10, 11, 12, 13, 14] rfl
  have hDc := hD.sub (ws' := wc_wM gg ee n mo ma mb md mn ro k bk pa st ct) [7, 8, 9, 10, 11, 12, 13, 14] (by decide) rfl
  have hKc := hK.sub (tys' := wc_tM ee) [6, 7, 8, 9, 10, 11, 12] rfl
  have hFc := va_free (wc := wc_wM gg ee n mo ma mb md mn ro k bk pa st ct) hD hS hA [7, 8, 9, 10, 11, 12, 13, 14] rfl
  refine va_calli (va_runV (As := []) (rest := [.int (nI (k + 1))]) ⟨hx, hb, hml, hown, hts⟩ (wc_mDepth l dC dI gg ee H_1.size n mo ma mb md mn ro k bk pa st ct  ) (cwV 0 hts (lw_V q228 q229 q230 q12 q231) rfl rfl rfl (by decide +kernel) ⟨Nat.le_of_ble_eq_true rfl, Nat.le_of_ble_eq_true rfl⟩) (wc_preV hKc hPc hDc (ci := 1) (q0 := 0) rfl rfl) rfl rfl hl.1 rfl (lv_room (Nat.le_of_ble_eq_true rfl)) dL_law_221 ⟨Nat.le_of_ble_eq_true rfl, Nat.le_of_ble_eq_true rfl⟩) hS (fun q _ h => hFc q h) hFc (fun r_221 u t H_2 locs ht hvm hw hBw hz1 hk1 hS => ?_)
  obtain ⟨hqm, rfl⟩ := hw
  obtain ⟨hP1, hK1, hD1⟩ := hBw
  rw [ht] at hP1
  obtain ⟨hP, hD⟩ := va_join (wr := wc_wX hh dd xo xr xn n pa st ct k lo rg me rt) (w1 := wc_wM gg ee n mo ma mb md mn ro k bk pa st ct) hP hD [7, 8, 9, 10, 11, 12, 13, 14] [0, 1, 2, 3, 4, 5, 6] rfl rfl (by decide) (by decide) hk1 hFc hP1 hD1
  refine wc_top (show r_221 = nI (k + 1) from hqm) ?_
  refine lv_icmp_eq (tgt := 367) hx hb dL_law_224 (by decide) (fun c_9 => ?_) (fun c_9 => absurd rfl c_9)
  exact KK xo xr xn n pa st ct k lo rg me rt mo ma mb md mn ro bk (hRel) _ _ hP hD hS ls hl
set_option maxHeartbeats 4000000 in
set_option maxRecDepth 100000 in
/-- case 7: wc_register -/
theorem wc_case7 {p : Program} {e : Env} {s : State} {m : MethodId} {below : List Frame} {meth : Method} {c : Code} (l : Launch) {b L : Nat} {xs : Nat → Int32} (hL : L ≤ 256) (C0 : lw_At p s m meth c b L xs) {dC : Nat → ClassId} {dI : Nat → Nat → Nat} {hh gg : Nat → Nat} {dd ee : Nat → ClassId} (hK : va_K (dC, dI) vwCl (wc_tX dd ++ wc_tM ee) s) {i : Nat} (hi : i + 4 ≤ L) (KK : wc_At p l e s m below meth c dC dI hh gg dd ee b i 367) : wc_At p l e s m below meth c dC dI hh gg dd ee b i 229 := by
  obtain ⟨hx, hb, hr, hml, hown, hts0, hX, hbl, hlocks, hgv⟩ := C0
  have hts : ∀ w ∈ lw_all, w.before #[Value.ref b] s = true := fun w h => hts0 w (lw_all_tbl h)
  have hA : ∀ q : Nat, s.heap.size ≤ q → (fun q : Nat => s.heap.size ≤ q) q := fun _ h => h
  have hbA : ¬ (fun q : Nat => s.heap.size ≤ q) b := Nat.not_le.mpr hbl
  intro xo xr xn n pa st ct k lo rg me rt mo ma mb md mn ro bk hRel H locs hP hD hS ls hl
  refine lv_aload_n hx hb dL_law_229 rfl (lv_at hl 1 rfl) ?_
  refine lv_aload_n hx hb dL_law_230 rfl (lv_at hl 0 rfl) ?_
  refine lv_iload_n hx hb dL_law_231 rfl (lv_at hl 3 rfl) ?_
  refine lv_iconst (v := nI 1) hx hb dL_law_232 (by decide +kernel) ?_
  refine wc_iadd hx hb (x := i) (y := 1) dL_law_233 ?_
  refine va_sld hx hb hX hbl hbA hS (vp_in_nI (n := i + 1) (by omega) (by omega)) dL_law_234 ?_
  refine wc_top (congrArg xs (nI_clamp (n := i + 1) (by omega))) ?_
  have hPc := hP.sub (ws' := wc_wX hh dd xo xr xn n pa st ct k lo rg me rt) [0, 1, 2, 3, 4, 5, 6] rfl
  have hDc := hD.sub (ws' := wc_wX hh dd xo xr xn n pa st ct k lo rg me rt) [0, 1, 2, 3, 4, 5, 6] (by decide) rfl
  have hKc := hK.sub (tys' := wc_tX dd) [0, 1, 2, 3, 4, 5] rfl
  have hFc := va_free (wc := wc_wX hh dd xo xr xn n pa st ct k lo rg me rt) hD hS hA [0, 1, 2, 3, 4, 5, 6] rfl
  refine va_calli (va_runV (As := [.int (xs (i + 1))]) (rest := []) ⟨hx, hb, hml, hown, hts⟩ (wc_register l dC dI hh dd H.size xo xr xn n pa st ct k lo rg me rt ro hRel.2.1 (xs (i + 1))) (cwV 1 hts (lw_V q126 q127 q128 q11 q129) rfl rfl rfl (by decide +kernel) ⟨Nat.le_of_ble_eq_true rfl, Nat.le_of_ble_eq_true rfl⟩) (wc_preV hKc hPc hDc (ci := 0) (q0 := 0) rfl rfl) rfl rfl hl.1 rfl (lv_room (Nat.le_of_ble_eq_true rfl)) dL_law_235 ⟨Nat.le_of_ble_eq_true rfl, Nat.le_of_ble_eq_true rfl⟩) hS (fun q _ h => hFc q h) hFc (fun r_235 u t H_1 locs ht hvm hw hBw hz1 hk1 hS => ?_)
  obtain ⟨hqx, rfl⟩ := hw
  obtain ⟨hP1, hK1, hD1⟩ := hBw
  rw [ht] at hP1
  obtain ⟨hP, hD⟩ := va_join (wr := wc_wM gg ee n mo ma mb md mn ro k bk pa st ct) (w1 := wc_wX hh dd xo xr xn n pa st ct k lo rg me rt) hP hD [0, 1, 2, 3, 4, 5, 6] [7, 8, 9, 10, 11, 12, 13, 14] rfl rfl (by decide) (by decide) hk1 hFc hP1 hD1
  have hP : va_P (dC, dI) vwCl (wc_wX hh dd xo xr xn n pa st ct k lo rg me rt ++ wc_wM gg ee n mo ma mb md mn ro k bk pa st ct) H_1 := hP.sub [8, 9, 10, 11, 12, 13, 14, 0, 1, 2, 3, 4, 5, 6, 7] rfl
  have hD : va_D (fun q : Nat => s.heap.size ≤ q) (wc_wX hh dd xo xr xn n pa st ct k lo rg me rt ++ wc_wM gg ee n mo ma mb md mn ro k bk pa st ct) := hD.sub [8, 9, 10, 11, 12, 13, 14, 0, 1, 2, 3, 4, 5, 6, 7] (by decide) rfl
  refine wc_top (show r_235 = wc_be (nI 0) (xs (i + 1)) k ro from hqx) ?_
  refine lv_aload_n hx hb dL_law_238 rfl (lv_at hl 2 rfl) ?_
  refine lv_aload_n hx hb dL_law_239 rfl (lv_at hl 0 rfl) ?_
  refine lv_iload_n hx hb dL_law_240 rfl (lv_at hl 3 rfl) ?_
  refine lv_iconst (v := nI 1) hx hb dL_law_241 (by decide +kernel) ?_
  refine wc_iadd hx hb (x := i) (y := 1) dL_law_242 ?_
  refine va_sld hx hb hX hbl hbA hS (vp_in_nI (n := i + 1) (by omega) (by omega)) dL_law_243 ?_
  refine wc_top (congrArg xs (nI_clamp (n := i + 1) (by omega))) ?_
  have hPc := hP.sub (ws' := wc_wM gg ee n mo ma mb md mn ro k bk pa st ct) [7, 8, 9, 10, 11, 12, 13, 14] rfl
  have hDc := hD.sub (ws' := wc_wM gg ee n mo ma mb md mn ro k bk pa st ct) [7, 8, 9, 10, 11, 12, 13, 14] (by decide) rfl
  have hKc := hK.sub (tys' := wc_tM ee) [6, 7, 8, 9, 10, 11, 12] rfl
  have hFc := va_free (wc := wc_wM gg ee n mo ma mb md mn ro k bk pa st ct) hD hS hA [7, 8, 9, 10, 11, 12, 13, 14] rfl
  refine va_calli (va_runV (As := [.int (xs (i + 1))]) (rest := [.int (wc_be (nI 0) (xs (i + 1)) k ro)]) ⟨hx, hb, hml, hown, hts⟩ (wc_mRegister l dC dI gg ee H_1.size n mo ma mb md mn ro k bk pa st ct hRel.2.1.2.2.1 (xs (i + 1))) (cwV 1 hts (lw_V q232 q233 q234 q12 q235) rfl rfl rfl (by decide +kernel) ⟨Nat.le_of_ble_eq_true rfl, Nat.le_of_ble_eq_true rfl⟩) (wc_preV hKc hPc hDc (ci := 1) (q0 := 0) rfl rfl) rfl rfl hl.1 rfl (lv_room (Nat.le_of_ble_eq_true rfl)) dL_law_244 ⟨Nat.le_of_ble_eq_true rfl, Nat.le_of_ble_eq_true rfl⟩) hS (fun q _ h => hFc q h) hFc (fun r_244 u t H_2 locs ht hvm hw hBw hz1 hk1 hS => ?_)
  obtain ⟨hqm, rfl⟩ := hw
  obtain ⟨hP1, hK1, hD1⟩ := hBw
  rw [ht] at hP1
  obtain ⟨hP, hD⟩ := va_join (wr := wc_wX hh dd xo xr xn n pa st ct k lo rg me rt) (w1 := wc_wM gg ee n mo ma mb md mn ro k bk pa st ct) hP hD [7, 8, 9, 10, 11, 12, 13, 14] [0, 1, 2, 3, 4, 5, 6] rfl rfl (by decide) (by decide) hk1 hFc hP1 hD1
  refine wc_top (show r_244 = wc_be (nI 0) (xs (i + 1)) k ro from hqm) ?_
  refine lv_icmp_eq (tgt := 367) hx hb dL_law_247 (by decide) (fun c_9 => ?_) (fun c_9 => absurd rfl c_9)
  exact KK xo xr xn n pa st ct k lo rg me rt mo ma mb md mn ro bk (hRel) _ _ hP hD hS ls hl
set_option maxHeartbeats 4000000 in
set_option maxRecDepth 100000 in
/-- case 8: wc_below -/
theorem wc_case8 {p : Program} {e : Env} {s : State} {m : MethodId} {below : List Frame} {meth : Method} {c : Code} (l : Launch) {b L : Nat} {xs : Nat → Int32} (hL : L ≤ 256) (C0 : lw_At p s m meth c b L xs) {dC : Nat → ClassId} {dI : Nat → Nat → Nat} {hh gg : Nat → Nat} {dd ee : Nat → ClassId} (hK : va_K (dC, dI) vwCl (wc_tX dd ++ wc_tM ee) s) {i : Nat} (hi : i + 4 ≤ L) (KK : wc_At p l e s m below meth c dC dI hh gg dd ee b i 367) : wc_At p l e s m below meth c dC dI hh gg dd ee b i 252 := by
  obtain ⟨hx, hb, hr, hml, hown, hts0, hX, hbl, hlocks, hgv⟩ := C0
  have hts : ∀ w ∈ lw_all, w.before #[Value.ref b] s = true := fun w h => hts0 w (lw_all_tbl h)
  have hA : ∀ q : Nat, s.heap.size ≤ q → (fun q : Nat => s.heap.size ≤ q) q := fun _ h => h
  have hbA : ¬ (fun q : Nat => s.heap.size ≤ q) b := Nat.not_le.mpr hbl
  intro xo xr xn n pa st ct k lo rg me rt mo ma mb md mn ro bk hRel H locs hP hD hS ls hl
  refine lv_aload_n hx hb dL_law_252 rfl (lv_at hl 1 rfl) ?_
  refine lv_aload_n hx hb dL_law_253 rfl (lv_at hl 0 rfl) ?_
  refine lv_iload_n hx hb dL_law_254 rfl (lv_at hl 3 rfl) ?_
  refine lv_iconst (v := nI 1) hx hb dL_law_255 (by decide +kernel) ?_
  refine wc_iadd hx hb (x := i) (y := 1) dL_law_256 ?_
  refine va_sld hx hb hX hbl hbA hS (vp_in_nI (n := i + 1) (by omega) (by omega)) dL_law_257 ?_
  refine wc_top (congrArg xs (nI_clamp (n := i + 1) (by omega))) ?_
  refine lv_aload_n hx hb dL_law_258 rfl (lv_at hl 0 rfl) ?_
  refine lv_iload_n hx hb dL_law_259 rfl (lv_at hl 3 rfl) ?_
  refine lv_iconst (v := nI 2) hx hb dL_law_260 (by decide +kernel) ?_
  refine wc_iadd hx hb (x := i) (y := 2) dL_law_261 ?_
  refine va_sld hx hb hX hbl hbA hS (vp_in_nI (n := i + 2) (by omega) (by omega)) dL_law_262 ?_
  refine wc_top (congrArg xs (nI_clamp (n := i + 2) (by omega))) ?_
  have hPc := hP.sub (ws' := wc_wX hh dd xo xr xn n pa st ct k lo rg me rt) [0, 1, 2, 3, 4, 5, 6] rfl
  have hDc := hD.sub (ws' := wc_wX hh dd xo xr xn n pa st ct k lo rg me rt) [0, 1, 2, 3, 4, 5, 6] (by decide) rfl
  have hKc := hK.sub (tys' := wc_tX dd) [0, 1, 2, 3, 4, 5] rfl
  have hFc := va_free (wc := wc_wX hh dd xo xr xn n pa st ct k lo rg me rt) hD hS hA [0, 1, 2, 3, 4, 5, 6] rfl
  refine va_calli (va_runV (As := [.int (xs (i + 1)), .int (xs (i + 2))]) (rest := []) ⟨hx, hb, hml, hown, hts⟩ (wc_below l dC dI hh dd H.size xo xr xn n pa st ct k lo rg me rt ro hRel.2.1 (xs (i + 1)) (xs (i + 2))) (cwV 2 hts (lw_V q133 q134 q135 q11 q136) rfl rfl rfl (by decide +kernel) ⟨Nat.le_of_ble_eq_true rfl, Nat.le_of_ble_eq_true rfl⟩) (wc_preV hKc hPc hDc (ci := 0) (q0 := 0) rfl rfl) rfl rfl hl.1 rfl (lv_room (Nat.le_of_ble_eq_true rfl)) dL_law_263 ⟨Nat.le_of_ble_eq_true rfl, Nat.le_of_ble_eq_true rfl⟩) hS (fun q _ h => hFc q h) hFc (fun r_263 u t H_1 locs ht hvm hw hBw hz1 hk1 hS => ?_)
  obtain ⟨hqx, rfl⟩ := hw
  obtain ⟨hP1, hK1, hD1⟩ := hBw
  rw [ht] at hP1
  obtain ⟨hP, hD⟩ := va_join (wr := wc_wM gg ee n mo ma mb md mn ro k bk pa st ct) (w1 := wc_wX hh dd xo xr xn n pa st ct k lo rg me rt) hP hD [0, 1, 2, 3, 4, 5, 6] [7, 8, 9, 10, 11, 12, 13, 14] rfl rfl (by decide) (by decide) hk1 hFc hP1 hD1
  have hP : va_P (dC, dI) vwCl (wc_wX hh dd xo xr xn n pa st ct k lo rg me rt ++ wc_wM gg ee n mo ma mb md mn ro k bk pa st ct) H_1 := hP.sub [8, 9, 10, 11, 12, 13, 14, 0, 1, 2, 3, 4, 5, 6, 7] rfl
  have hD : va_D (fun q : Nat => s.heap.size ≤ q) (wc_wX hh dd xo xr xn n pa st ct k lo rg me rt ++ wc_wM gg ee n mo ma mb md mn ro k bk pa st ct) := hD.sub [8, 9, 10, 11, 12, 13, 14, 0, 1, 2, 3, 4, 5, 6, 7] (by decide) rfl
  refine wc_top (show r_263 = wc_be (xs (i + 1)) (xs (i + 2)) k ro from hqx) ?_
  refine lv_aload_n hx hb dL_law_266 rfl (lv_at hl 2 rfl) ?_
  refine lv_aload_n hx hb dL_law_267 rfl (lv_at hl 0 rfl) ?_
  refine lv_iload_n hx hb dL_law_268 rfl (lv_at hl 3 rfl) ?_
  refine lv_iconst (v := nI 1) hx hb dL_law_269 (by decide +kernel) ?_
  refine wc_iadd hx hb (x := i) (y := 1) dL_law_270 ?_
  refine va_sld hx hb hX hbl hbA hS (vp_in_nI (n := i + 1) (by omega) (by omega)) dL_law_271 ?_
  refine wc_top (congrArg xs (nI_clamp (n := i + 1) (by omega))) ?_
  refine lv_aload_n hx hb dL_law_272 rfl (lv_at hl 0 rfl) ?_
  refine lv_iload_n hx hb dL_law_273 rfl (lv_at hl 3 rfl) ?_
  refine lv_iconst (v := nI 2) hx hb dL_law_274 (by decide +kernel) ?_
  refine wc_iadd hx hb (x := i) (y := 2) dL_law_275 ?_
  refine va_sld hx hb hX hbl hbA hS (vp_in_nI (n := i + 2) (by omega) (by omega)) dL_law_276 ?_
  refine wc_top (congrArg xs (nI_clamp (n := i + 2) (by omega))) ?_
  have hPc := hP.sub (ws' := wc_wM gg ee n mo ma mb md mn ro k bk pa st ct) [7, 8, 9, 10, 11, 12, 13, 14] rfl
  have hDc := hD.sub (ws' := wc_wM gg ee n mo ma mb md mn ro k bk pa st ct) [7, 8, 9, 10, 11, 12, 13, 14] (by decide) rfl
  have hKc := hK.sub (tys' := wc_tM ee) [6, 7, 8, 9, 10, 11, 12] rfl
  have hFc := va_free (wc := wc_wM gg ee n mo ma mb md mn ro k bk pa st ct) hD hS hA [7, 8, 9, 10, 11, 12, 13, 14] rfl
  refine va_calli (va_runV (As := [.int (xs (i + 1)), .int (xs (i + 2))]) (rest := [.int (wc_be (xs (i + 1)) (xs (i + 2)) k ro)]) ⟨hx, hb, hml, hown, hts⟩ (wc_mBelow l dC dI gg ee H_1.size n mo ma mb md mn ro k bk pa st ct hRel.2.1.2.2.1 (xs (i + 1)) (xs (i + 2))) (cwV 2 hts (lw_V q244 q237 q238 q12 q239) rfl rfl rfl (by decide +kernel) ⟨Nat.le_of_ble_eq_true rfl, Nat.le_of_ble_eq_true rfl⟩) (wc_preV hKc hPc hDc (ci := 1) (q0 := 0) rfl rfl) rfl rfl hl.1 rfl (lv_room (Nat.le_of_ble_eq_true rfl)) dL_law_277 ⟨Nat.le_of_ble_eq_true rfl, Nat.le_of_ble_eq_true rfl⟩) hS (fun q _ h => hFc q h) hFc (fun r_277 u t H_2 locs ht hvm hw hBw hz1 hk1 hS => ?_)
  obtain ⟨hqm, rfl⟩ := hw
  obtain ⟨hP1, hK1, hD1⟩ := hBw
  rw [ht] at hP1
  obtain ⟨hP, hD⟩ := va_join (wr := wc_wX hh dd xo xr xn n pa st ct k lo rg me rt) (w1 := wc_wM gg ee n mo ma mb md mn ro k bk pa st ct) hP hD [7, 8, 9, 10, 11, 12, 13, 14] [0, 1, 2, 3, 4, 5, 6] rfl rfl (by decide) (by decide) hk1 hFc hP1 hD1
  refine wc_top (show r_277 = wc_be (xs (i + 1)) (xs (i + 2)) k ro from hqm) ?_
  refine lv_icmp_eq (tgt := 367) hx hb dL_law_280 (by decide) (fun c_9 => ?_) (fun c_9 => absurd rfl c_9)
  exact KK xo xr xn n pa st ct k lo rg me rt mo ma mb md mn ro bk (hRel) _ _ hP hD hS ls hl
set_option maxHeartbeats 4000000 in
set_option maxRecDepth 100000 in
/-- case 9: wc_put -/
theorem wc_case9 {p : Program} {e : Env} {s : State} {m : MethodId} {below : List Frame} {meth : Method} {c : Code} (l : Launch) {b L : Nat} {xs : Nat → Int32} (hL : L ≤ 256) (C0 : lw_At p s m meth c b L xs) {dC : Nat → ClassId} {dI : Nat → Nat → Nat} {hh gg : Nat → Nat} {dd ee : Nat → ClassId} (hK : va_K (dC, dI) vwCl (wc_tX dd ++ wc_tM ee) s) {i : Nat} (hi : i + 4 ≤ L) (KK : wc_At p l e s m below meth c dC dI hh gg dd ee b i 367) : wc_At p l e s m below meth c dC dI hh gg dd ee b i 285 := by
  obtain ⟨hx, hb, hr, hml, hown, hts0, hX, hbl, hlocks, hgv⟩ := C0
  have hts : ∀ w ∈ lw_all, w.before #[Value.ref b] s = true := fun w h => hts0 w (lw_all_tbl h)
  have hA : ∀ q : Nat, s.heap.size ≤ q → (fun q : Nat => s.heap.size ≤ q) q := fun _ h => h
  have hbA : ¬ (fun q : Nat => s.heap.size ≤ q) b := Nat.not_le.mpr hbl
  intro xo xr xn n pa st ct k lo rg me rt mo ma mb md mn ro bk hRel H locs hP hD hS ls hl
  refine lv_aload_n hx hb dL_law_285 rfl (lv_at hl 1 rfl) ?_
  refine lv_aload_n hx hb dL_law_286 rfl (lv_at hl 0 rfl) ?_
  refine lv_iload_n hx hb dL_law_287 rfl (lv_at hl 3 rfl) ?_
  refine lv_iconst (v := nI 1) hx hb dL_law_288 (by decide +kernel) ?_
  refine wc_iadd hx hb (x := i) (y := 1) dL_law_289 ?_
  refine va_sld hx hb hX hbl hbA hS (vp_in_nI (n := i + 1) (by omega) (by omega)) dL_law_290 ?_
  refine wc_top (congrArg xs (nI_clamp (n := i + 1) (by omega))) ?_
  refine lv_aload_n hx hb dL_law_291 rfl (lv_at hl 0 rfl) ?_
  refine lv_iload_n hx hb dL_law_292 rfl (lv_at hl 3 rfl) ?_
  refine lv_iconst (v := nI 2) hx hb dL_law_293 (by decide +kernel) ?_
  refine wc_iadd hx hb (x := i) (y := 2) dL_law_294 ?_
  refine va_sld hx hb hX hbl hbA hS (vp_in_nI (n := i + 2) (by omega) (by omega)) dL_law_295 ?_
  refine wc_top (congrArg xs (nI_clamp (n := i + 2) (by omega))) ?_
  have hPc := hP.sub (ws' := wc_wX hh dd xo xr xn n pa st ct k lo rg me rt) [0, 1, 2, 3, 4, 5, 6] rfl
  have hDc := hD.sub (ws' := wc_wX hh dd xo xr xn n pa st ct k lo rg me rt) [0, 1, 2, 3, 4, 5, 6] (by decide) rfl
  have hKc := hK.sub (tys' := wc_tX dd) [0, 1, 2, 3, 4, 5] rfl
  have hFc := va_free (wc := wc_wX hh dd xo xr xn n pa st ct k lo rg me rt) hD hS hA [0, 1, 2, 3, 4, 5, 6] rfl
  refine va_calli (va_runV (As := [.int (xs (i + 1)), .int (xs (i + 2))]) (rest := []) ⟨hx, hb, hml, hown, hts⟩ (wc_put l dC dI hh dd H.size xo xr xn n pa st ct k lo rg me rt ro hRel.2.1 (xs (i + 1)) (xs (i + 2))) (cwV 2 hts (lw_V q141 q142 q143 q11 q144) rfl rfl rfl (by decide +kernel) ⟨Nat.le_of_ble_eq_true rfl, Nat.le_of_ble_eq_true rfl⟩) (wc_preV hKc hPc hDc (ci := 0) (q0 := 0) rfl rfl) rfl rfl hl.1 rfl (lv_room (Nat.le_of_ble_eq_true rfl)) dL_law_296 ⟨Nat.le_of_ble_eq_true rfl, Nat.le_of_ble_eq_true rfl⟩) hS (fun q _ h => hFc q h) hFc (fun r_296 u t H_1 locs ht hvm hw hBw hz1 hk1 hS => ?_)
  obtain ⟨hqx, rg', rfl, hBk'⟩ := hw
  obtain ⟨hP1, hK1, hD1⟩ := hBw
  rw [ht] at hP1
  obtain ⟨hP, hD⟩ := va_join (wr := wc_wM gg ee n mo ma mb md mn ro k bk pa st ct) (w1 := wc_wX hh dd xo xr xn n pa st ct k lo rg' me rt) hP hD [0, 1, 2, 3, 4, 5, 6] [7, 8, 9, 10, 11, 12, 13, 14] rfl rfl (by decide) (by decide) hk1 hFc hP1 hD1
  have hP : va_P (dC, dI) vwCl (wc_wX hh dd xo xr xn n pa st ct k lo rg' me rt ++ wc_wM gg ee n mo ma mb md mn ro k bk pa st ct) H_1 := hP.sub [8, 9, 10, 11, 12, 13, 14, 0, 1, 2, 3, 4, 5, 6, 7] rfl
  have hD : va_D (fun q : Nat => s.heap.size ≤ q) (wc_wX hh dd xo xr xn n pa st ct k lo rg' me rt ++ wc_wM gg ee n mo ma mb md mn ro k bk pa st ct) := hD.sub [8, 9, 10, 11, 12, 13, 14, 0, 1, 2, 3, 4, 5, 6, 7] (by decide) rfl
  refine wc_top (show r_296 = wc_isr (xs (i + 1)) from hqx) ?_
  refine lv_aload_n hx hb dL_law_299 rfl (lv_at hl 2 rfl) ?_
  refine lv_aload_n hx hb dL_law_300 rfl (lv_at hl 0 rfl) ?_
  refine lv_iload_n hx hb dL_law_301 rfl (lv_at hl 3 rfl) ?_
  refine lv_iconst (v := nI 1) hx hb dL_law_302 (by decide +kernel) ?_
  refine wc_iadd hx hb (x := i) (y := 1) dL_law_303 ?_
  refine va_sld hx hb hX hbl hbA hS (vp_in_nI (n := i + 1) (by omega) (by omega)) dL_law_304 ?_
  refine wc_top (congrArg xs (nI_clamp (n := i + 1) (by omega))) ?_
  refine lv_aload_n hx hb dL_law_305 rfl (lv_at hl 0 rfl) ?_
  refine lv_iload_n hx hb dL_law_306 rfl (lv_at hl 3 rfl) ?_
  refine lv_iconst (v := nI 2) hx hb dL_law_307 (by decide +kernel) ?_
  refine wc_iadd hx hb (x := i) (y := 2) dL_law_308 ?_
  refine va_sld hx hb hX hbl hbA hS (vp_in_nI (n := i + 2) (by omega) (by omega)) dL_law_309 ?_
  refine wc_top (congrArg xs (nI_clamp (n := i + 2) (by omega))) ?_
  have hPc := hP.sub (ws' := wc_wM gg ee n mo ma mb md mn ro k bk pa st ct) [7, 8, 9, 10, 11, 12, 13, 14] rfl
  have hDc := hD.sub (ws' := wc_wM gg ee n mo ma mb md mn ro k bk pa st ct) [7, 8, 9, 10, 11, 12, 13, 14] (by decide) rfl
  have hKc := hK.sub (tys' := wc_tM ee) [6, 7, 8, 9, 10, 11, 12] rfl
  have hFc := va_free (wc := wc_wM gg ee n mo ma mb md mn ro k bk pa st ct) hD hS hA [7, 8, 9, 10, 11, 12, 13, 14] rfl
  refine va_calli (va_runV (As := [.int (xs (i + 1)), .int (xs (i + 2))]) (rest := [.int (wc_isr (xs (i + 1)))]) ⟨hx, hb, hml, hown, hts⟩ (wc_mPut l dC dI gg ee H_1.size n mo ma mb md mn ro k bk pa st ct hRel.2.1.2.2.1 (xs (i + 1)) (xs (i + 2))) (cwV 2 hts (lw_V q245 q246 q247 q12 q248) rfl rfl rfl (by decide +kernel) ⟨Nat.le_of_ble_eq_true rfl, Nat.le_of_ble_eq_true rfl⟩) (wc_preV hKc hPc hDc (ci := 1) (q0 := 0) rfl rfl) rfl rfl hl.1 rfl (lv_room (Nat.le_of_ble_eq_true rfl)) dL_law_310 ⟨Nat.le_of_ble_eq_true rfl, Nat.le_of_ble_eq_true rfl⟩) hS (fun q _ h => hFc q h) hFc (fun r_310 u t H_2 locs ht hvm hw hBw hz1 hk1 hS => ?_)
  obtain ⟨hqm, rfl⟩ := hw
  obtain ⟨hP1, hK1, hD1⟩ := hBw
  rw [ht] at hP1
  obtain ⟨hP, hD⟩ := va_join (wr := wc_wX hh dd xo xr xn n pa st ct k lo rg' me rt) (w1 := wc_wM gg ee n mo ma mb md mn (wc_pu (xs (i + 1)) (xs (i + 2)) k ro) k bk pa st ct) hP hD [7, 8, 9, 10, 11, 12, 13, 14] [0, 1, 2, 3, 4, 5, 6] rfl rfl (by decide) (by decide) hk1 hFc hP1 hD1
  refine wc_top (show r_310 = wc_isr (xs (i + 1)) from hqm) ?_
  refine lv_icmp_eq (tgt := 367) hx hb dL_law_313 (by decide) (fun c_9 => ?_) (fun c_9 => absurd rfl c_9)
  exact KK xo xr xn n pa st ct k lo rg' me rt mo ma mb md mn (wc_pu (xs (i + 1)) (xs (i + 2)) k ro) bk (⟨hRel.1, hBk', hRel.2.2.1, hRel.2.2.2⟩) _ _ hP hD hS ls hl
set_option maxHeartbeats 4000000 in
set_option maxRecDepth 100000 in
/-- case 10: wc_backTo -/
theorem wc_case10 {p : Program} {e : Env} {s : State} {m : MethodId} {below : List Frame} {meth : Method} {c : Code} (l : Launch) {b L : Nat} {xs : Nat → Int32} (hL : L ≤ 256) (C0 : lw_At p s m meth c b L xs) {dC : Nat → ClassId} {dI : Nat → Nat → Nat} {hh gg : Nat → Nat} {dd ee : Nat → ClassId} (hK : va_K (dC, dI) vwCl (wc_tX dd ++ wc_tM ee) s) {i : Nat} (hi : i + 4 ≤ L) (KK : wc_At p l e s m below meth c dC dI hh gg dd ee b i 367) : wc_At p l e s m below meth c dC dI hh gg dd ee b i 318 := by
  obtain ⟨hx, hb, hr, hml, hown, hts0, hX, hbl, hlocks, hgv⟩ := C0
  have hts : ∀ w ∈ lw_all, w.before #[Value.ref b] s = true := fun w h => hts0 w (lw_all_tbl h)
  have hA : ∀ q : Nat, s.heap.size ≤ q → (fun q : Nat => s.heap.size ≤ q) q := fun _ h => h
  have hbA : ¬ (fun q : Nat => s.heap.size ≤ q) b := Nat.not_le.mpr hbl
  intro xo xr xn n pa st ct k lo rg me rt mo ma mb md mn ro bk hRel H locs hP hD hS ls hl
  refine lv_aload_n hx hb dL_law_318 rfl (lv_at hl 1 rfl) ?_
  refine lv_aload_n hx hb dL_law_319 rfl (lv_at hl 0 rfl) ?_
  refine lv_iload_n hx hb dL_law_320 rfl (lv_at hl 3 rfl) ?_
  refine lv_iconst (v := nI 1) hx hb dL_law_321 (by decide +kernel) ?_
  refine wc_iadd hx hb (x := i) (y := 1) dL_law_322 ?_
  refine va_sld hx hb hX hbl hbA hS (vp_in_nI (n := i + 1) (by omega) (by omega)) dL_law_323 ?_
  refine wc_top (congrArg xs (nI_clamp (n := i + 1) (by omega))) ?_
  have hPc := hP.sub (ws' := wc_wX hh dd xo xr xn n pa st ct k lo rg me rt) [0, 1, 2, 3, 4, 5, 6] rfl
  have hDc := hD.sub (ws' := wc_wX hh dd xo xr xn n pa st ct k lo rg me rt) [0, 1, 2, 3, 4, 5, 6] (by decide) rfl
  have hKc := hK.sub (tys' := wc_tX dd) [0, 1, 2, 3, 4, 5] rfl
  have hFc := va_free (wc := wc_wX hh dd xo xr xn n pa st ct k lo rg me rt) hD hS hA [0, 1, 2, 3, 4, 5, 6] rfl
  refine va_calli (va_runV (As := [.int (xs (i + 1))]) (rest := []) ⟨hx, hb, hml, hown, hts⟩ (wc_backTo l dC dI hh dd H.size xo xr xn n pa st ct k lo rg me rt bk hRel.2.2.1 hRel.2.1.2.2.1 (xs (i + 1))) (cwV 1 hts (lw_V q145 q146 q147 q11 q148) rfl rfl rfl (by decide +kernel) ⟨Nat.le_of_ble_eq_true rfl, Nat.le_of_ble_eq_true rfl⟩) (wc_preV hKc hPc hDc (ci := 0) (q0 := 0) rfl rfl) rfl rfl hl.1 rfl (lv_room (Nat.le_of_ble_eq_true rfl)) dL_law_324 ⟨Nat.le_of_ble_eq_true rfl, Nat.le_of_ble_eq_true rfl⟩) hS (fun q _ h => hFc q h) hFc (fun r_324 u t H_1 locs ht hvm hw hBw hz1 hk1 hS => ?_)
  obtain ⟨hqx, rfl⟩ := hw
  obtain ⟨hP1, hK1, hD1⟩ := hBw
  rw [ht] at hP1
  obtain ⟨hP, hD⟩ := va_join (wr := wc_wM gg ee n mo ma mb md mn ro k bk pa st ct) (w1 := wc_wX hh dd xo xr xn n pa st ct k lo rg me rt) hP hD [0, 1, 2, 3, 4, 5, 6] [7, 8, 9, 10, 11, 12, 13, 14] rfl rfl (by decide) (by decide) hk1 hFc hP1 hD1
  have hP : va_P (dC, dI) vwCl (wc_wX hh dd xo xr xn n pa st ct k lo rg me rt ++ wc_wM gg ee n mo ma mb md mn ro k bk pa st ct) H_1 := hP.sub [8, 9, 10, 11, 12, 13, 14, 0, 1, 2, 3, 4, 5, 6, 7] rfl
  have hD : va_D (fun q : Nat => s.heap.size ≤ q) (wc_wX hh dd xo xr xn n pa st ct k lo rg me rt ++ wc_wM gg ee n mo ma mb md mn ro k bk pa st ct) := hD.sub [8, 9, 10, 11, 12, 13, 14, 0, 1, 2, 3, 4, 5, 6, 7] (by decide) rfl
  refine wc_top (show r_324 = wc_bt (xs (i + 1)) k bk from hqx) ?_
  refine lv_aload_n hx hb dL_law_327 rfl (lv_at hl 2 rfl) ?_
  refine lv_aload_n hx hb dL_law_328 rfl (lv_at hl 0 rfl) ?_
  refine lv_iload_n hx hb dL_law_329 rfl (lv_at hl 3 rfl) ?_
  refine lv_iconst (v := nI 1) hx hb dL_law_330 (by decide +kernel) ?_
  refine wc_iadd hx hb (x := i) (y := 1) dL_law_331 ?_
  refine va_sld hx hb hX hbl hbA hS (vp_in_nI (n := i + 1) (by omega) (by omega)) dL_law_332 ?_
  refine wc_top (congrArg xs (nI_clamp (n := i + 1) (by omega))) ?_
  have hPc := hP.sub (ws' := wc_wM gg ee n mo ma mb md mn ro k bk pa st ct) [7, 8, 9, 10, 11, 12, 13, 14] rfl
  have hDc := hD.sub (ws' := wc_wM gg ee n mo ma mb md mn ro k bk pa st ct) [7, 8, 9, 10, 11, 12, 13, 14] (by decide) rfl
  have hKc := hK.sub (tys' := wc_tM ee) [6, 7, 8, 9, 10, 11, 12] rfl
  have hFc := va_free (wc := wc_wM gg ee n mo ma mb md mn ro k bk pa st ct) hD hS hA [7, 8, 9, 10, 11, 12, 13, 14] rfl
  refine va_calli (va_runV (As := [.int (xs (i + 1))]) (rest := [.int (wc_bt (xs (i + 1)) k bk)]) ⟨hx, hb, hml, hown, hts⟩ (wc_mBackTo l dC dI gg ee H_1.size n mo ma mb md mn ro k bk pa st ct hRel.2.1.2.2.1 (xs (i + 1))) (cwV 1 hts (lw_V q249 q250 q251 q12 q252) rfl rfl rfl (by decide +kernel) ⟨Nat.le_of_ble_eq_true rfl, Nat.le_of_ble_eq_true rfl⟩) (wc_preV hKc hPc hDc (ci := 1) (q0 := 0) rfl rfl) rfl rfl hl.1 rfl (lv_room (Nat.le_of_ble_eq_true rfl)) dL_law_333 ⟨Nat.le_of_ble_eq_true rfl, Nat.le_of_ble_eq_true rfl⟩) hS (fun q _ h => hFc q h) hFc (fun r_333 u t H_2 locs ht hvm hw hBw hz1 hk1 hS => ?_)
  obtain ⟨hqm, rfl⟩ := hw
  obtain ⟨hP1, hK1, hD1⟩ := hBw
  rw [ht] at hP1
  obtain ⟨hP, hD⟩ := va_join (wr := wc_wX hh dd xo xr xn n pa st ct k lo rg me rt) (w1 := wc_wM gg ee n mo ma mb md mn ro k bk pa st ct) hP hD [7, 8, 9, 10, 11, 12, 13, 14] [0, 1, 2, 3, 4, 5, 6] rfl rfl (by decide) (by decide) hk1 hFc hP1 hD1
  refine wc_top (show r_333 = wc_bt (xs (i + 1)) k bk from hqm) ?_
  refine lv_icmp_eq (tgt := 367) hx hb dL_law_336 (by decide) (fun c_9 => ?_) (fun c_9 => absurd rfl c_9)
  exact KK xo xr xn n pa st ct k lo rg me rt mo ma mb md mn ro bk (hRel) _ _ hP hD hS ls hl
set_option maxHeartbeats 4000000 in
set_option maxRecDepth 100000 in
/-- case 11: wc_digest -/
theorem wc_case11 {p : Program} {e : Env} {s : State} {m : MethodId} {below : List Frame} {meth : Method} {c : Code} (l : Launch) {b L : Nat} {xs : Nat → Int32} (hL : L ≤ 256) (C0 : lw_At p s m meth c b L xs) {dC : Nat → ClassId} {dI : Nat → Nat → Nat} {hh gg : Nat → Nat} {dd ee : Nat → ClassId} (hK : va_K (dC, dI) vwCl (wc_tX dd ++ wc_tM ee) s) {i : Nat} (hi : i + 4 ≤ L) (KK : wc_At p l e s m below meth c dC dI hh gg dd ee b i 367) : wc_At p l e s m below meth c dC dI hh gg dd ee b i 341 := by
  obtain ⟨hx, hb, hr, hml, hown, hts0, hX, hbl, hlocks, hgv⟩ := C0
  have hts : ∀ w ∈ lw_all, w.before #[Value.ref b] s = true := fun w h => hts0 w (lw_all_tbl h)
  have hA : ∀ q : Nat, s.heap.size ≤ q → (fun q : Nat => s.heap.size ≤ q) q := fun _ h => h
  have hbA : ¬ (fun q : Nat => s.heap.size ≤ q) b := Nat.not_le.mpr hbl
  intro xo xr xn n pa st ct k lo rg me rt mo ma mb md mn ro bk hRel H locs hP hD hS ls hl
  refine lv_aload_n hx hb dL_law_341 rfl (lv_at hl 1 rfl) ?_
  have hPc := hP.sub (ws' := wc_wX hh dd xo xr xn n pa st ct k lo rg me rt) [0, 1, 2, 3, 4, 5, 6] rfl
  have hDc := hD.sub (ws' := wc_wX hh dd xo xr xn n pa st ct k lo rg me rt) [0, 1, 2, 3, 4, 5, 6] (by decide) rfl
  have hKc := hK.sub (tys' := wc_tX dd) [0, 1, 2, 3, 4, 5] rfl
  have hFc := va_free (wc := wc_wX hh dd xo xr xn n pa st ct k lo rg me rt) hD hS hA [0, 1, 2, 3, 4, 5, 6] rfl
  refine va_calli (va_runV (As := []) (rest := []) ⟨hx, hb, hml, hown, hts⟩ (wc_digest l dC dI hh dd H.size xo xr xn n pa st ct k lo rg me rt ro hRel.2.1 ) (cwV 0 hts (lw_V q149 q150 q151 q11 q152) rfl rfl rfl (by decide +kernel) ⟨Nat.le_of_ble_eq_true rfl, Nat.le_of_ble_eq_true rfl⟩) (wc_preV hKc hPc hDc (ci := 0) (q0 := 0) rfl rfl) rfl rfl hl.1 rfl (lv_room (Nat.le_of_ble_eq_true rfl)) dL_law_342 ⟨Nat.le_of_ble_eq_true rfl, Nat.le_of_ble_eq_true rfl⟩) hS (fun q _ h => hFc q h) hFc (fun r_342 u t H_1 locs ht hvm hw hBw hz1 hk1 hS => ?_)
  obtain ⟨hqx, rfl⟩ := hw
  obtain ⟨hP1, hK1, hD1⟩ := hBw
  rw [ht] at hP1
  obtain ⟨hP, hD⟩ := va_join (wr := wc_wM gg ee n mo ma mb md mn ro k bk pa st ct) (w1 := wc_wX hh dd xo xr xn n pa st ct k lo rg me rt) hP hD [0, 1, 2, 3, 4, 5, 6] [7, 8, 9, 10, 11, 12, 13, 14] rfl rfl (by decide) (by decide) hk1 hFc hP1 hD1
  have hP : va_P (dC, dI) vwCl (wc_wX hh dd xo xr xn n pa st ct k lo rg me rt ++ wc_wM gg ee n mo ma mb md mn ro k bk pa st ct) H_1 := hP.sub [8, 9, 10, 11, 12, 13, 14, 0, 1, 2, 3, 4, 5, 6, 7] rfl
  have hD : va_D (fun q : Nat => s.heap.size ≤ q) (wc_wX hh dd xo xr xn n pa st ct k lo rg me rt ++ wc_wM gg ee n mo ma mb md mn ro k bk pa st ct) := hD.sub [8, 9, 10, 11, 12, 13, 14, 0, 1, 2, 3, 4, 5, 6, 7] (by decide) rfl
  refine wc_top (show r_342 = wc_dgo ro (k + 1) from hqx) ?_
  refine lv_aload_n hx hb dL_law_345 rfl (lv_at hl 2 rfl) ?_
  have hPc := hP.sub (ws' := wc_wM gg ee n mo ma mb md mn ro k bk pa st ct) [7, 8, 9, 10, 11, 12, 13, 14] rfl
  have hDc := hD.sub (ws' := wc_wM gg ee n mo ma mb md mn ro k bk pa st ct) [7, 8, 9, 10, 11, 12, 13, 14] (by decide) rfl
  have hKc := hK.sub (tys' := wc_tM ee) [6, 7, 8, 9, 10, 11, 12] rfl
  have hFc := va_free (wc := wc_wM gg ee n mo ma mb md mn ro k bk pa st ct) hD hS hA [7, 8, 9, 10, 11, 12, 13, 14] rfl
  refine va_calli (va_runV (As := []) (rest := [.int (wc_dgo ro (k + 1))]) ⟨hx, hb, hml, hown, hts⟩ (wc_mDigest l dC dI gg ee H_1.size n mo ma mb md mn ro k bk pa st ct hRel.2.1.2.2.1 ) (cwV 0 hts (lw_V q253 q254 q255 q12 q256) rfl rfl rfl (by decide +kernel) ⟨Nat.le_of_ble_eq_true rfl, Nat.le_of_ble_eq_true rfl⟩) (wc_preV hKc hPc hDc (ci := 1) (q0 := 0) rfl rfl) rfl rfl hl.1 rfl (lv_room (Nat.le_of_ble_eq_true rfl)) dL_law_346 ⟨Nat.le_of_ble_eq_true rfl, Nat.le_of_ble_eq_true rfl⟩) hS (fun q _ h => hFc q h) hFc (fun r_346 u t H_2 locs ht hvm hw hBw hz1 hk1 hS => ?_)
  obtain ⟨hqm, rfl⟩ := hw
  obtain ⟨hP1, hK1, hD1⟩ := hBw
  rw [ht] at hP1
  obtain ⟨hP, hD⟩ := va_join (wr := wc_wX hh dd xo xr xn n pa st ct k lo rg me rt) (w1 := wc_wM gg ee n mo ma mb md mn ro k bk pa st ct) hP hD [7, 8, 9, 10, 11, 12, 13, 14] [0, 1, 2, 3, 4, 5, 6] rfl rfl (by decide) (by decide) hk1 hFc hP1 hD1
  refine wc_top (show r_346 = wc_dgo ro (k + 1) from hqm) ?_
  refine lv_icmp_eq (tgt := 367) hx hb dL_law_349 (by decide) (fun c_9 => ?_) (fun c_9 => absurd rfl c_9)
  exact KK xo xr xn n pa st ct k lo rg me rt mo ma mb md mn ro bk (hRel) _ _ hP hD hS ls hl
set_option maxHeartbeats 4000000 in
set_option maxRecDepth 100000 in
/-- case 12: wc_done -/
theorem wc_case12 {p : Program} {e : Env} {s : State} {m : MethodId} {below : List Frame} {meth : Method} {c : Code} (l : Launch) {b L : Nat} {xs : Nat → Int32} (hL : L ≤ 256) (C0 : lw_At p s m meth c b L xs) {dC : Nat → ClassId} {dI : Nat → Nat → Nat} {hh gg : Nat → Nat} {dd ee : Nat → ClassId} (hK : va_K (dC, dI) vwCl (wc_tX dd ++ wc_tM ee) s) {i : Nat} (hi : i + 4 ≤ L) (KK : wc_At p l e s m below meth c dC dI hh gg dd ee b i 367) : wc_At p l e s m below meth c dC dI hh gg dd ee b i 354 := by
  obtain ⟨hx, hb, hr, hml, hown, hts0, hX, hbl, hlocks, hgv⟩ := C0
  have hts : ∀ w ∈ lw_all, w.before #[Value.ref b] s = true := fun w h => hts0 w (lw_all_tbl h)
  have hA : ∀ q : Nat, s.heap.size ≤ q → (fun q : Nat => s.heap.size ≤ q) q := fun _ h => h
  have hbA : ¬ (fun q : Nat => s.heap.size ≤ q) b := Nat.not_le.mpr hbl
  intro xo xr xn n pa st ct k lo rg me rt mo ma mb md mn ro bk hRel H locs hP hD hS ls hl
  refine lv_aload_n hx hb dL_law_354 rfl (lv_at hl 1 rfl) ?_
  have hPc := hP.sub (ws' := wc_wX hh dd xo xr xn n pa st ct k lo rg me rt) [0, 1, 2, 3, 4, 5, 6] rfl
  have hDc := hD.sub (ws' := wc_wX hh dd xo xr xn n pa st ct k lo rg me rt) [0, 1, 2, 3, 4, 5, 6] (by decide) rfl
  have hKc := hK.sub (tys' := wc_tX dd) [0, 1, 2, 3, 4, 5] rfl
  have hFc := va_free (wc := wc_wX hh dd xo xr xn n pa st ct k lo rg me rt) hD hS hA [0, 1, 2, 3, 4, 5, 6] rfl
  refine va_calli (va_runV (As := []) (rest := []) ⟨hx, hb, hml, hown, hts⟩ (wc_done l dC dI hh dd H.size xo xr xn n pa st ct k lo rg me rt  ) (cwV 0 hts (lw_V q153 q154 q155 q11 q156) rfl rfl rfl (by decide +kernel) ⟨Nat.le_of_ble_eq_true rfl, Nat.le_of_ble_eq_true rfl⟩) (wc_preV hKc hPc hDc (ci := 0) (q0 := 0) rfl rfl) rfl rfl hl.1 rfl (lv_room (Nat.le_of_ble_eq_true rfl)) dL_law_355 ⟨Nat.le_of_ble_eq_true rfl, Nat.le_of_ble_eq_true rfl⟩) hS (fun q _ h => hFc q h) hFc (fun r_355 u t H_1 locs ht hvm hw hBw hz1 hk1 hS => ?_)
  obtain ⟨hqx, rfl⟩ := hw
  obtain ⟨hP1, hK1, hD1⟩ := hBw
  rw [ht] at hP1
  obtain ⟨hP, hD⟩ := va_join (wr := wc_wM gg ee n mo ma mb md mn ro k bk pa st ct) (w1 := wc_wX hh dd xo xr xn n pa st ct k lo rg me rt) hP hD [0, 1, 2, 3, 4, 5, 6] [7, 8, 9, 10, 11, 12, 13, 14] rfl rfl (by decide) (by decide) hk1 hFc hP1 hD1
  have hP : va_P (dC, dI) vwCl (wc_wX hh dd xo xr xn n pa st ct k lo rg me rt ++ wc_wM gg ee n mo ma mb md mn ro k bk pa st ct) H_1 := hP.sub [8, 9, 10, 11, 12, 13, 14, 0, 1, 2, 3, 4, 5, 6, 7] rfl
  have hD : va_D (fun q : Nat => s.heap.size ≤ q) (wc_wX hh dd xo xr xn n pa st ct k lo rg me rt ++ wc_wM gg ee n mo ma mb md mn ro k bk pa st ct) := hD.sub [8, 9, 10, 11, 12, 13, 14, 0, 1, 2, 3, 4, 5, 6, 7] (by decide) rfl
  refine wc_top (show r_355 = ct from hqx) ?_
  refine lv_aload_n hx hb dL_law_358 rfl (lv_at hl 2 rfl) ?_
  have hPc := hP.sub (ws' := wc_wM gg ee n mo ma mb md mn ro k bk pa st ct) [7, 8, 9, 10, 11, 12, 13, 14] rfl
  have hDc := hD.sub (ws' := wc_wM gg ee n mo ma mb md mn ro k bk pa st ct) [7, 8, 9, 10, 11, 12, 13, 14] (by decide) rfl
  have hKc := hK.sub (tys' := wc_tM ee) [6, 7, 8, 9, 10, 11, 12] rfl
  have hFc := va_free (wc := wc_wM gg ee n mo ma mb md mn ro k bk pa st ct) hD hS hA [7, 8, 9, 10, 11, 12, 13, 14] rfl
  refine va_calli (va_runV (As := []) (rest := [.int ct]) ⟨hx, hb, hml, hown, hts⟩ (wc_mDone l dC dI gg ee H_1.size n mo ma mb md mn ro k bk pa st ct  ) (cwV 0 hts (lw_V q257 q258 q259 q12 q260) rfl rfl rfl (by decide +kernel) ⟨Nat.le_of_ble_eq_true rfl, Nat.le_of_ble_eq_true rfl⟩) (wc_preV hKc hPc hDc (ci := 1) (q0 := 0) rfl rfl) rfl rfl hl.1 rfl (lv_room (Nat.le_of_ble_eq_true rfl)) dL_law_359 ⟨Nat.le_of_ble_eq_true rfl, Nat.le_of_ble_eq_true rfl⟩) hS (fun q _ h => hFc q h) hFc (fun r_359 u t H_2 locs ht hvm hw hBw hz1 hk1 hS => ?_)
  obtain ⟨hqm, rfl⟩ := hw
  obtain ⟨hP1, hK1, hD1⟩ := hBw
  rw [ht] at hP1
  obtain ⟨hP, hD⟩ := va_join (wr := wc_wX hh dd xo xr xn n pa st ct k lo rg me rt) (w1 := wc_wM gg ee n mo ma mb md mn ro k bk pa st ct) hP hD [7, 8, 9, 10, 11, 12, 13, 14] [0, 1, 2, 3, 4, 5, 6] rfl rfl (by decide) (by decide) hk1 hFc hP1 hD1
  refine wc_top (show r_359 = ct from hqm) ?_
  refine lv_icmp_eq (tgt := 367) hx hb dL_law_362 (by decide) (fun c_9 => ?_) (fun c_9 => absurd rfl c_9)
  exact KK xo xr xn n pa st ct k lo rg me rt mo ma mb md mn ro bk (hRel) _ _ hP hD hS ls hl
end
section
/-! the law: its loop, its entry -/
set_option maxHeartbeats 4000000 in
set_option maxRecDepth 100000 in
/-- the law's loop -/
theorem wc_loop {p : Program} {e : Env} {s : State} {m : MethodId} {below : List Frame} {meth : Method} {c : Code} (l : Launch) {b L : Nat} {xs : Nat → Int32} (hL : L ≤ 256) (C0 : lw_At p s m meth c b L xs) {dC : Nat → ClassId} {dI : Nat → Nat → Nat} {hh gg : Nat → Nat} {dd ee : Nat → ClassId} (hK : va_K (dC, dI) vwCl (wc_tX dd ++ wc_tM ee) s) : ∀ (f i : Nat), L < i + f → i ≤ 300 → wc_At p l e s m below meth c dC dI hh gg dd ee b i 18 := by
  have C1 := C0
  obtain ⟨hx, hb, hr, hml, hown, hts0, hX, hbl, hlocks, hgv⟩ := C0
  have hts : ∀ w ∈ lw_all, w.before #[Value.ref b] s = true := fun w h => hts0 w (lw_all_tbl h)
  have hA : ∀ q : Nat, s.heap.size ≤ q → (fun q : Nat => s.heap.size ≤ q) q := fun _ h => h
  have hbA : ¬ (fun q : Nat => s.heap.size ≤ q) b := Nat.not_le.mpr hbl
  intro f
  induction f with
  | zero =>
    intro i hf hi3 xo xr xn n pa st ct k lo rg me rt mo ma mb md mn ro bk hRel H locs hP hD hS ls hl
    refine lv_iload_n hx hb dL_law_18 rfl (lv_at hl 3 rfl) ?_
    refine lv_aload_n hx hb dL_law_19 rfl (lv_at hl 0 rfl) ?_
    refine va_slen hx hb hX hbl hbA hS dL_law_20 ?_
    refine lv_iconst (v := nI 4) hx hb dL_law_21 (by decide +kernel) ?_
    refine lv_isub hx hb dL_law_22 ?_
    refine lv_icmp_gt (tgt := 373) hx hb dL_law_23 (by decide) (fun c_23 => ?_) (fun c_23 => ?_)
    · refine lv_iconst (v := 1) hx hb dL_law_373 (by decide +kernel) ?_
      refine va_forget (fun q hq => hS.2.2 q hq) ?_
      refine W.widen (k := 600000) (n := 7290000) (by omega) (by omega) ?_
      exact lw_ret hx hb hr hlocks dL_law_374
    · exact absurd ((wc_lim hL hi3).mpr (by omega)) c_23
  | succ f ih =>
    intro i hf hi3 xo xr xn n pa st ct k lo rg me rt mo ma mb md mn ro bk hRel H locs hP hD hS ls hl
    refine lv_iload_n hx hb dL_law_18 rfl (lv_at hl 3 rfl) ?_
    refine lv_aload_n hx hb dL_law_19 rfl (lv_at hl 0 rfl) ?_
    refine va_slen hx hb hX hbl hbA hS dL_law_20 ?_
    refine lv_iconst (v := nI 4) hx hb dL_law_21 (by decide +kernel) ?_
    refine lv_isub hx hb dL_law_22 ?_
    refine lv_icmp_gt (tgt := 373) hx hb dL_law_23 (by decide) (fun c_23 => ?_) (fun c_23 => ?_)
    · refine lv_iconst (v := 1) hx hb dL_law_373 (by decide +kernel) ?_
      refine va_forget (fun q hq => hS.2.2 q hq) ?_
      refine W.widen (k := 600000) (n := 7290000) (by omega) (by omega) ?_
      exact lw_ret hx hb hr hlocks dL_law_374
    · have hi : i + 4 ≤ L := Nat.not_lt.mp (fun h => c_23 ((wc_lim hL hi3).mpr h))
      have KK : wc_At p l e s m below meth c dC dI hh gg dd ee b i 367 := by
        intro xo xr xn n pa st ct k lo rg me rt mo ma mb md mn ro bk hRel H locs hP hD hS ls hl
        refine lv_iinc (v := nI (i + 4)) (lv' := [(3, .int (nI (i + 4))), (0, .ref b), (1, .ref (hh 0)), (2, .ref (gg 0))]) hx hb dL_law_367 hl (k := 3) rfl (by first | exact nI_add _ _ | decide +kernel) (by decide) rfl (fun ls hl => ?_)
        refine lv_goto (tgt := 18) hx hb dL_law_370 (by decide) ?_
        exact ih (i + 4) (by omega) (by omega) xo xr xn n pa st ct k lo rg me rt mo ma mb md mn ro bk hRel _ _ hP hD hS ls (lv_sub hl [1, 2, 3, 0] rfl)
      refine lv_aload_n hx hb dL_law_26 rfl (lv_at hl 0 rfl) ?_
      refine lv_iload_n hx hb dL_law_27 rfl (lv_at hl 3 rfl) ?_
      refine va_sld hx hb hX hbl hbA hS (vp_in_nI (n := i) (by omega) (by omega)) dL_law_28 ?_
      refine wc_top (congrArg xs (nI_clamp (n := i) (by omega))) ?_
      refine lv_bipush (v := nI 15) hx hb dL_law_29 (by decide +kernel) ?_
      refine lv_iand hx hb dL_law_31 ?_
      obtain ⟨z, hz, ez⟩ := pk_andE (xs i) (m := nI 15) 4 (by decide +kernel)
      refine wc_top (show (xs i) &&& nI 15 = nI z from ez) ?_
      rcases (show z = 0 ∨ z = 1 ∨ z = 2 ∨ z = 3 ∨ z = 4 ∨ z = 5 ∨ z = 6 ∨ z = 7 ∨ z = 8 ∨ z = 9 ∨ z = 10 ∨ z = 11 ∨ z = 12 ∨ z = 13 ∨ z = 14 ∨ z = 15 by omega) with rfl | rfl | rfl | rfl | rfl | rfl | rfl | rfl | rfl | rfl | rfl | rfl | rfl | rfl | rfl | rfl
      · refine lv_tableIn (tgt := 100) (off := 68) hx hb dL_law_32 (by decide +kernel) (by decide +kernel) (by decide +kernel) (by decide) ?_
        exact wc_case0 l hL C1 hK hi KK xo xr xn n pa st ct k lo rg me rt mo ma mb md mn ro bk hRel _ _ hP hD hS ls hl
      · refine lv_tableIn (tgt := 143) (off := 111) hx hb dL_law_32 (by decide +kernel) (by decide +kernel) (by decide +kernel) (by decide) ?_
        exact wc_case1 l hL C1 hK hi KK xo xr xn n pa st ct k lo rg me rt mo ma mb md mn ro bk hRel _ _ hP hD hS ls hl
      · refine lv_tableIn (tgt := 156) (off := 124) hx hb dL_law_32 (by decide +kernel) (by decide +kernel) (by decide +kernel) (by decide) ?_
        exact wc_case2 l hL C1 hK hi KK xo xr xn n pa st ct k lo rg me rt mo ma mb md mn ro bk hRel _ _ hP hD hS ls hl
      · refine lv_tableIn (tgt := 167) (off := 135) hx hb dL_law_32 (by decide +kernel) (by decide +kernel) (by decide +kernel) (by decide) ?_
        exact wc_case3 l hL C1 hK hi KK xo xr xn n pa st ct k lo rg me rt mo ma mb md mn ro bk hRel _ _ hP hD hS ls hl
      · refine lv_tableIn (tgt := 190) (off := 158) hx hb dL_law_32 (by decide +kernel) (by decide +kernel) (by decide +kernel) (by decide) ?_
        exact wc_case4 l hL C1 hK hi KK xo xr xn n pa st ct k lo rg me rt mo ma mb md mn ro bk hRel _ _ hP hD hS ls hl
      · refine lv_tableIn (tgt := 203) (off := 171) hx hb dL_law_32 (by decide +kernel) (by decide +kernel) (by decide +kernel) (by decide) ?_
        exact wc_case5 l hL C1 hK hi KK xo xr xn n pa st ct k lo rg me rt mo ma mb md mn ro bk hRel _ _ hP hD hS ls hl
      · refine lv_tableIn (tgt := 216) (off := 184) hx hb dL_law_32 (by decide +kernel) (by decide +kernel) (by decide +kernel) (by decide) ?_
        exact wc_case6 l hL C1 hK hi KK xo xr xn n pa st ct k lo rg me rt mo ma mb md mn ro bk hRel _ _ hP hD hS ls hl
      · refine lv_tableIn (tgt := 229) (off := 197) hx hb dL_law_32 (by decide +kernel) (by decide +kernel) (by decide +kernel) (by decide) ?_
        exact wc_case7 l hL C1 hK hi KK xo xr xn n pa st ct k lo rg me rt mo ma mb md mn ro bk hRel _ _ hP hD hS ls hl
      · refine lv_tableIn (tgt := 252) (off := 220) hx hb dL_law_32 (by decide +kernel) (by decide +kernel) (by decide +kernel) (by decide) ?_
        exact wc_case8 l hL C1 hK hi KK xo xr xn n pa st ct k lo rg me rt mo ma mb md mn ro bk hRel _ _ hP hD hS ls hl
      · refine lv_tableIn (tgt := 285) (off := 253) hx hb dL_law_32 (by decide +kernel) (by decide +kernel) (by decide +kernel) (by decide) ?_
        exact wc_case9 l hL C1 hK hi KK xo xr xn n pa st ct k lo rg me rt mo ma mb md mn ro bk hRel _ _ hP hD hS ls hl
      · refine lv_tableIn (tgt := 318) (off := 286) hx hb dL_law_32 (by decide +kernel) (by decide +kernel) (by decide +kernel) (by decide) ?_
        exact wc_case10 l hL C1 hK hi KK xo xr xn n pa st ct k lo rg me rt mo ma mb md mn ro bk hRel _ _ hP hD hS ls hl
      · refine lv_tableIn (tgt := 341) (off := 309) hx hb dL_law_32 (by decide +kernel) (by decide +kernel) (by decide +kernel) (by decide) ?_
        exact wc_case11 l hL C1 hK hi KK xo xr xn n pa st ct k lo rg me rt mo ma mb md mn ro bk hRel _ _ hP hD hS ls hl
      · refine lv_tableIn (tgt := 354) (off := 322) hx hb dL_law_32 (by decide +kernel) (by decide +kernel) (by decide +kernel) (by decide) ?_
        exact wc_case12 l hL C1 hK hi KK xo xr xn n pa st ct k lo rg me rt mo ma mb md mn ro bk hRel _ _ hP hD hS ls hl
      · refine lv_tableOut (tgt := 367) hx hb dL_law_32 (by decide +kernel) (by decide) ?_
        exact KK xo xr xn n pa st ct k lo rg me rt mo ma mb md mn ro bk hRel _ _ hP hD hS ls hl
      · refine lv_tableOut (tgt := 367) hx hb dL_law_32 (by decide +kernel) (by decide) ?_
        exact KK xo xr xn n pa st ct k lo rg me rt mo ma mb md mn ro bk hRel _ _ hP hD hS ls hl
      · refine lv_tableOut (tgt := 367) hx hb dL_law_32 (by decide +kernel) (by decide) ?_
        exact KK xo xr xn n pa st ct k lo rg me rt mo ma mb md mn ro bk hRel _ _ hP hD hS ls hl
set_option maxHeartbeats 4000000 in
set_option maxRecDepth 100000 in
theorem whole_start {p : Program} {e : Env} {s : State} {m : MethodId} {below : List Frame} {meth : Method} {c : Code} (l : Launch) {b L : Nat} {xs : Nat → Int32} (hL : L ≤ 256) (C0 : lw_At p s m meth c b L xs) : W p l e room_1 s m #[Value.ref b] below meth c s.heap [] 0 0 (lw_Z below #[Value.ref b] s) (entryFrame m ([Value.ref b] : List Value).toArray 4) := by
  have C1 := C0
  obtain ⟨hx, hb, hr, hml, hown, hts0, hX, hbl, hlocks, hgv⟩ := C0
  have hts : ∀ w ∈ lw_all, w.before #[Value.ref b] s = true := fun w h => hts0 w (lw_all_tbl h)
  have hA : ∀ q : Nat, s.heap.size ≤ q → (fun q : Nat => s.heap.size ≤ q) q := fun _ h => h
  obtain ⟨c0_, iS0, hKn0⟩ := u_known (C := RX0) (T := TX0) (N := 12) (n := 12) hts in_X0 (hts _ q14)
  obtain ⟨c1_, iS1, hKn1⟩ := u_known (C := RX1) (T := TX1) (N := 12) (n := 12) hts in_X1 (hts _ q158)
  obtain ⟨dC, dI, hKc⟩ : ∃ (dC : Nat → ClassId) (dI : Nat → Nat → Nat), ∀ (k : Nat) (q : vw_C), vwCl[k]? = some q → u_Kn s q.1 q.2.1 q.2.2 (dC k) (dI k) := by
    refine ⟨fun k => if k = 0 then c0_ else c1_, fun k => if k = 0 then iS0 else iS1, ?_⟩
    intro k q hq
    match k, hq with
    | 0, hq => cases hq; exact hKn0
    | 1, hq => cases hq; exact hKn1
    | k + 2, hq => simp [vwCl] at hq
  have hS : va_S (fun q : Nat => s.heap.size ≤ q) s.heap s.heap [] := va_S.rf
  have hK : va_K (dC, dI) vwCl [] s := ⟨hKc, fun k q h => by simp at h⟩
  have hP : va_P (dC, dI) vwCl [] s.heap := fun k q h => by simp at h
  have hD : va_D (fun q : Nat => s.heap.size ≤ q) [] := ⟨fun i j p q h => by simp at h, fun k q h => by simp at h⟩
  have hl := lv_entry ([.ref b]) (n := 4) (Nat.le_of_ble_eq_true rfl)
  rw [lg_entry_eq]
  generalize (lg_sl ([.ref b]) ++ List.replicate (4 - (lg_sl ([.ref b])).length) Slot.unset).toArray = ls at hl ⊢
  have hl : lv_has ls 4 [(0, .ref b)] := hl
  refine va_new (ci := 0) (fs := [.null, .null, .null, .int (nI 0), .int 0, .int 0, .int 0, .int (nI 0), .int (nI 0), .null, .null, .null]) (C := RX0) (T := TX0) (N := 12) hx hb hts in_X0 tyX0 tyX0_ok hown (hts _ q13) (hts _ q14) (hts _ q11) hK hP hD hS hA rfl (fun j hj => by rcases (show j = 0 ∨ j = 1 ∨ j = 2 ∨ j = 3 ∨ j = 4 ∨ j = 5 ∨ j = 6 ∨ j = 7 ∨ j = 8 ∨ j = 9 ∨ j = 10 ∨ j = 11 by omega) with rfl | rfl | rfl | rfl | rfl | rfl | rfl | rfl | rfl | rfl | rfl | rfl <;> rfl) (Nat.le_of_ble_eq_true rfl) (Nat.le_of_ble_eq_true rfl) dL_law_0 (fun q0v H0 hP hD hS => ?_)
  have hP : va_P (dC, dI) vwCl [(q0v, .inr (0, [.null, .null, .null, .int (nI 0), .int 0, .int 0, .int 0, .int (nI 0), .int (nI 0), .null, .null, .null]))] H0 := hP
  have hD : va_D (fun q : Nat => s.heap.size ≤ q) [(q0v, .inr (0, [.null, .null, .null, .int (nI 0), .int 0, .int 0, .int 0, .int (nI 0), .int (nI 0), .null, .null, .null]))] := hD
  refine W.widen (k := 1) (n := 12) (by omega) (by omega) ?_
  refine lv_dup hx hb dL_law_3 rfl ?_
  have hFc := va_free (wc := [(q0v, .inr (0, [.null, .null, .null, .int (nI 0), .int 0, .int 0, .int 0, .int (nI 0), .int (nI 0), .null, .null, .null]))]) hD hS hA [0] rfl
  have hPc := hP.sub (ws' := [(q0v, .inr (0, [.null, .null, .null, .int (nI 0), .int 0, .int 0, .int 0, .int (nI 0), .int (nI 0), .null, .null, .null]))]) [0] rfl
  have hDc := hD.sub (ws' := [(q0v, .inr (0, [.null, .null, .null, .int (nI 0), .int 0, .int 0, .int 0, .int (nI 0), .int (nI 0), .null, .null, .null]))]) [0] (by decide) rfl
  have hKc := hK.sub (tys' := []) [] rfl
  refine va_callv (va_runI (As := []) (rest := [.ref q0v]) ⟨hx, hb, hml, hown, hts⟩ (wc_xInit l dC dI q0v H0.size) (cwI 0 hts (lw_meth q17) rfl rfl rfl (hts _ q11) (hts _ q15) (hts _ q16) rfl (by decide +kernel) ⟨Nat.le_of_ble_eq_true rfl, Nat.le_of_ble_eq_true rfl⟩) ⟨fun a U g mk q => by obtain ⟨q0, q1, qP, qK, qD⟩ := q; exact ⟨q0, q1, qP, va_K.moved (u := U) (U := U.calling g mk a) (Vm.Alike.refl U.vm) qK, qD⟩, fun U hU hW => ⟨rfl, by rw [hU], by rw [hU]; exact hPc, va_K.moved hW.alike hKc, hDc.weaken (fun _ _ _ _ => trivial)⟩⟩ rfl rfl hl.1 rfl (lv_room (Nat.le_of_ble_eq_true rfl)) dL_law_4 ⟨Nat.le_of_ble_eq_true rfl, Nat.le_of_ble_eq_true rfl⟩) hS (fun q _ h => hFc q h) hFc (fun u t H1 locs ht hvm hw hBw hz1 hk1 hS => ?_)
  subst hw
  obtain ⟨hh, dd, rfl, hP1, hK1, hD1⟩ := hBw
  rw [ht] at hP1
  have hK : va_K (dC, dI) vwCl (wc_tX dd) s := va_K.moved hvm.symm hK1
  have hP : va_P (dC, dI) vwCl (wc_wX hh dd (fun _ => 0) (fun _ => 0) (fun _ => 0) 0 0 0 0 0 0 (fun _ => 0) (fun _ => 0) (fun _ => 0)) H1 := hP1
  have hD : va_D (fun q : Nat => s.heap.size ≤ q) (wc_wX hh dd (fun _ => 0) (fun _ => 0) (fun _ => 0) 0 0 0 0 0 0 (fun _ => 0) (fun _ => 0) (fun _ => 0)) := hD1.weaken (fun _ q _ h => hFc q.1 h)
  refine W.widen (k := 7) (n := 258) (by omega) (by omega) ?_
  refine lv_astore_n (lv' := [(1, .ref (hh 0)), (0, .ref b)]) hx hb dL_law_7 rfl hl (by decide) rfl (fun ls hl => ?_)
  refine va_new (ci := 1) (fs := [.int (nI 0), .null, .null, .null, .null, .null, .null, .int (nI 0), .null, .int 0, .int 0, .int 0]) (C := RX1) (T := TX1) (N := 12) hx hb hts in_X1 tyX1 tyX1_ok hown (hts _ q157) (hts _ q158) (hts _ q12) hK hP hD hS hA rfl (fun j hj => by rcases (show j = 0 ∨ j = 1 ∨ j = 2 ∨ j = 3 ∨ j = 4 ∨ j = 5 ∨ j = 6 ∨ j = 7 ∨ j = 8 ∨ j = 9 ∨ j = 10 ∨ j = 11 by omega) with rfl | rfl | rfl | rfl | rfl | rfl | rfl | rfl | rfl | rfl | rfl | rfl <;> rfl) (Nat.le_of_ble_eq_true rfl) (Nat.le_of_ble_eq_true rfl) dL_law_8 (fun q1v H2 hP hD hS => ?_)
  have hP : va_P (dC, dI) vwCl (wc_wX hh dd (fun _ => 0) (fun _ => 0) (fun _ => 0) 0 0 0 0 0 0 (fun _ => 0) (fun _ => 0) (fun _ => 0) ++ [(q1v, .inr (1, [.int (nI 0), .null, .null, .null, .null, .null, .null, .int (nI 0), .null, .int 0, .int 0, .int 0]))]) H2 := hP
  have hD : va_D (fun q : Nat => s.heap.size ≤ q) (wc_wX hh dd (fun _ => 0) (fun _ => 0) (fun _ => 0) 0 0 0 0 0 0 (fun _ => 0) (fun _ => 0) (fun _ => 0) ++ [(q1v, .inr (1, [.int (nI 0), .null, .null, .null, .null, .null, .null, .int (nI 0), .null, .int 0, .int 0, .int 0]))]) := hD
  refine W.widen (k := 8) (n := 270) (by omega) (by omega) ?_
  refine lv_dup hx hb dL_law_11 rfl ?_
  have hFc := va_free (wc := [(q1v, .inr (1, [.int (nI 0), .null, .null, .null, .null, .null, .null, .int (nI 0), .null, .int 0, .int 0, .int 0]))]) hD hS hA [7] rfl
  have hPc := hP.sub (ws' := [(q1v, .inr (1, [.int (nI 0), .null, .null, .null, .null, .null, .null, .int (nI 0), .null, .int 0, .int 0, .int 0]))]) [7] rfl
  have hDc := hD.sub (ws' := [(q1v, .inr (1, [.int (nI 0), .null, .null, .null, .null, .null, .null, .int (nI 0), .null, .int 0, .int 0, .int 0]))]) [7] (by decide) rfl
  have hKc := hK.sub (tys' := []) [] rfl
  refine va_callv (va_runI (As := []) (rest := [.ref q1v]) ⟨hx, hb, hml, hown, hts⟩ (wc_mInit l dC dI q1v H2.size) (cwI 0 hts (lw_meth q161) rfl rfl rfl (hts _ q12) (hts _ q159) (hts _ q160) rfl (by decide +kernel) ⟨Nat.le_of_ble_eq_true rfl, Nat.le_of_ble_eq_true rfl⟩) ⟨fun a U g mk q => by obtain ⟨q0, q1, qP, qK, qD⟩ := q; exact ⟨q0, q1, qP, va_K.moved (u := U) (U := U.calling g mk a) (Vm.Alike.refl U.vm) qK, qD⟩, fun U hU hW => ⟨rfl, by rw [hU], by rw [hU]; exact hPc, va_K.moved hW.alike hKc, hDc.weaken (fun _ _ _ _ => trivial)⟩⟩ rfl rfl hl.1 rfl (lv_room (Nat.le_of_ble_eq_true rfl)) dL_law_12 ⟨Nat.le_of_ble_eq_true rfl, Nat.le_of_ble_eq_true rfl⟩) hS (fun q _ h => hFc q h) hFc (fun u t H3 locs ht hvm hw hBw hz1 hk1 hS => ?_)
  subst hw
  obtain ⟨gg, ee, rfl, hP1, hK1, hD1⟩ := hBw
  rw [ht] at hP1
  have hK : va_K (dC, dI) vwCl (wc_tX dd ++ wc_tM ee) s := hK.app (va_K.moved hvm.symm hK1)
  obtain ⟨hP, hD⟩ := va_join (wr := wc_wX hh dd (fun _ => 0) (fun _ => 0) (fun _ => 0) 0 0 0 0 0 0 (fun _ => 0) (fun _ => 0) (fun _ => 0)) (w1 := wc_wM gg ee 0 (fun _ => 0) (fun _ => 0) (fun _ => 0) (fun _ => 0) (fun _ => 0) (fun _ => 0) 0 (fun _ => 0) 0 0 0) hP hD [7] [0, 1, 2, 3, 4, 5, 6] rfl rfl (by decide) (by decide) hk1 hFc hP1 hD1
  refine W.widen (k := 15) (n := 544) (by omega) (by omega) ?_
  refine lv_astore_n (lv' := [(2, .ref (gg 0)), (1, .ref (hh 0)), (0, .ref b)]) hx hb dL_law_15 rfl hl (by decide) rfl (fun ls hl => ?_)
  refine lv_iconst (v := nI 0) hx hb dL_law_16 (by decide +kernel) ?_
  refine lv_istore_n (lv' := [(3, .int (nI 0)), (2, .ref (gg 0)), (1, .ref (hh 0)), (0, .ref b)]) hx hb dL_law_17 rfl hl (by decide) rfl (fun ls hl => ?_)
  exact wc_loop l hL C1 hK (L + 1) 0 (by omega) (by omega) (fun _ => 0) (fun _ => 0) (fun _ => 0) 0 0 0 0 0 0 (fun _ => 0) (fun _ => 0) (fun _ => 0) (fun _ => 0) (fun _ => 0) (fun _ => 0) (fun _ => 0) (fun _ => 0) (fun _ => 0) (fun _ => 0) ⟨wc_Prog_0, wc_Blk_new, wc_Ret_0, Or.inl rfl⟩ _ _ hP hD hS ls (lv_sub hl [3, 2, 1, 0] rfl)
end
section
set_option maxRecDepth 100000
set_option maxHeartbeats 4000000 in
theorem lw_walk (l : Launch) (b : Addr) (xs : List Int32) : MetFree l x (headSpec (Jvm.Cond.code x code maxLocals ret :: tables_1) room_1) (lw_P b xs) (fun _ _ _ _ _ => True) lw_Q := by
  refine MetFree.of_bodyS (code := code) (maxLocals := maxLocals) (ret := ret) (by decide) ?_ ?_
  · intro args s m h hn
    obtain ⟨meth, c, h1, h2, h3, h4, h5, h6, -, -⟩ := Cond.code_spec hn (atoms_spec (ws := Jvm.Cond.code x code maxLocals ret :: tables_1) h _ List.mem_cons_self)
    exact ⟨meth, c, h1, h2, h3, h4, h5, h6⟩
  · intro p e s m args below meth c s₁ B hml0 hP _
    obtain ⟨rfl, hx, hbd, hgv⟩ := hP
    obtain ⟨scr, harrAt, hlist, hof, hsmall⟩ := hx
    obtain ⟨hcb, hkn, -, -⟩ := State.arrayAt?_spec harrAt
    have hown : s.vm.findClass R_law = some m.cls := findClass_of_methodNamed B.named
    have hts0 : ∀ c ∈ (Jvm.Cond.code x code maxLocals ret :: tables_1), c.before #[Value.ref b] s = true := atoms_spec (ws := Jvm.Cond.code x code maxLocals ret :: tables_1) B.pre
    have hts : ∀ w ∈ lw_tbl, w.before #[Value.ref b] s = true := k2_hts_sels lw_privs (fun w hw => hts0 w (List.mem_cons_of_mem _ hw)) lw_privs_ok
    have hml : c.maxLocals = 4 := B.maxLocals_eq (hts0 _ List.mem_cons_self)
    have X₀ : Stand p l e room_1 s m #[Value.ref b] below meth c s₁ [] 0 0 := Stand.of_body B
    have hh0 : s₁.heap = s.heap := by rw [B.state]; rfl
    have hsz : scr.slots.size = xs.length := by rw [← Array.length_toList, hlist, List.length_map]
    have hval : ∀ j : Nat, j < xs.length → scr.slots[j]? = some (.int (xs.getD j 0)) := fun j hj => by
      rw [← Array.getElem?_toList, hlist]
      simp [hj]
    have hbl : b < s.heap.size := (Array.getElem?_eq_some_iff.mp hcb).1
    have hX : va_X b xs.length (fun j => xs.getD j 0) s s.heap := ⟨scr, hcb, hof, hkn, hsz, hval⟩
    have K : W p l e room_1 s m #[Value.ref b] below meth c s₁.heap [] 0 0 (lw_Z below #[Value.ref b] s) (entryFrame m ([Value.ref b] : List Value).toArray 4) := by
      rw [hh0]
      exact whole_start l hbd ⟨B.exec, B.bytes, B.returns, hml, hown, hts, hX, hbl, B.notSynchronized, hgv⟩
    obtain ⟨t, a1, o, b1, b2, b3⟩ := K s₁ rfl X₀
    exact ⟨t, o, a1, b1, b2, b3⟩
theorem lw_pre_spec {args : Array Value} {s : State} (h : (Jvm.Cond.and given_1 narrow_1).before args s = true) (hr : rest_1_c.before args s = true) : ∃ (b : Addr) (xs : List Int32), lw_P b xs args s := by
  have hs := flat_of_before _ h
  have hq := flat_of_before _ hr
  have hc : (Cond.count 1).before args s = true := hs _ (by decide +kernel)
  have harr : (Cond.arrayOf (.arg 0) .int).before args s = true := hs _ (by decide +kernel)
  have hle : (Cond.le (.length (.arg 0)) (.int 256)).before args s = true := hs _ (by decide +kernel)
  have hlen : (Cond.isInt (.length (.arg 0))).before args s = true := hq _ (by decide +kernel)
  have hall : (Cond.all (.arg 0) (.isInt (.elem (.arg 0) (.index 0)))).before args s = true := hq _ (by decide +kernel)
  obtain ⟨b, xs, hb, hx⟩ := State.ints_of_pre rfl harr hlen hall
  have hsm : xs.length < 2 ^ 31 := hx.choose_spec.2.2.2
  have hev : (Term.length (.arg 0)).eval args s none [] s = some (.int xs.length.toInt32) := hx.length_eval hb
  have hv := Cond.le_ints hev (show (Term.int 256).eval args s none [] s = some (.int 256) from rfl)
  have hd : xs.length.toInt32 ≤ 256 := by
    simpa [Cond.before, Cond.holds, hv] using hle
  have hN : xs.length ≤ 256 := (Int32.ofNat_le_ofNat hsm (by decide)).mp (show Int32.ofNat xs.length ≤ Int32.ofNat 256 from hd)
  exact ⟨b, xs, Cond.one_arg hc (show args[0]? = some (.ref b) from hb), hx, hN, h⟩
theorem lw_comes (l : Launch) : Comes l x (Jvm.Cond.code x code maxLocals ret :: tables_1) room_1 (fun tb e args s => Calls_1 tb e args s ∧ rest_1 tb e args s ∧ Pre_1 tb e args s)
    (fun _ _ args s o t => lw_Q args s o t) := by
  intro p e ha hc hk s m args below hf hfit hheap happ hpre
  obtain ⟨b, xs, hP⟩ := lw_pre_spec hpre.2.2 hpre.2.1
  obtain ⟨k, o, h1, h2, h3, hQ⟩ := lw_walk l b xs p e ha hc hk s m args below hf ((Spec.applies_iff_loose hf).mp happ).1 hP trivial
  exact ⟨k, o, h1, h2, h3, hQ⟩
theorem lw_frame {s t : State} {o : Outcome} {args : Array Value} (h : Framed s o t [] 600000 7290000) :
    Framed s o t (fieldLocs frame_1_writes args s ++ arrayLocs frame_1_arrays args s ++ staticLocs frame_1_statics s) 600000 7290000 := h
theorem lw_limb (L : Cond) (hL : ∀ (args : Array Value) (s t : State), L.after args s (.returned (some (.int 1))) t = true) :
    ArmFor flags0 classFile x code maxLocals ret World_1 tables_1 room_1 Calls_1 rest_1 Pre_1
      (fun tb e a s o t => postC L tb e a s o t ∧ Framed s o t (fieldLocs frame_1_writes a s ++ arrayLocs frame_1_arrays a s ++ staticLocs frame_1_statics s) 600000 7290000) := by
  intro l _ _ _ p e ha hc hk s m args below hf hfit hheap happ hpre
  obtain ⟨k, o, h1, h2, h3, rfl, hF⟩ := lw_comes l p e ha hc hk s m args below hf hfit hheap happ hpre
  exact ⟨k, _, h1, h2, h3, hL args s _, lw_frame hF⟩
theorem i_vc : Claimed_1_1 ∧ Claimed_1_2 := ⟨lw_limb limb_1_1 (fun args s t => by simp [limb_1_1, Cond.after, Cond.holds, Cond.value]), lw_limb limb_1_2 (fun args s t => Cond.after_iff.mpr (by
  first | (rw [show limb_1_2 = Cond.eq .result (.int 1) from rfl, Cond.eq_ints (x := 1) (y := 1) rfl rfl]; simp; done) | (simp [limb_1_2, Cond.value, Term.eval]; done)))⟩
end
