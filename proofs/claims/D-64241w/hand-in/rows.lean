section
-- ===== PART A: goes FIRST, ahead of the names: the tables' words, and 'selects' of the private methods out of them =====
/-- a private method of a class that the tables say can be made, by its rows of tables_1 -/
def lw_okq (q : MethodName × Nat) : Prop := (q.1.cls ≠ "java/lang/invoke/MethodHandle" ∧ q.1.cls ≠ "java/lang/invoke/VarHandle") ∧ Cond.instantiable q.1.cls q.2 ∈ tables_1 ∧ Cond.privateMethod q.1 ∈ tables_1 ∧ Cond.instanceMethod q.1 ∈ tables_1
set_option maxRecDepth 100000
theorem lw_p0 : lw_okq (⟨"TwoFlows", "put", "(III)V"⟩, 8) := ⟨⟨by decide +kernel, by decide +kernel⟩, List.mem_of_getElem? (i := 4) rfl, List.mem_of_getElem? (i := 46) rfl, List.mem_of_getElem? (i := 47) rfl⟩
theorem lw_p1 : lw_okq (⟨"TwoFlows", "learn", "()V"⟩, 8) := ⟨⟨by decide +kernel, by decide +kernel⟩, List.mem_of_getElem? (i := 4) rfl, List.mem_of_getElem? (i := 65) rfl, List.mem_of_getElem? (i := 66) rfl⟩
theorem lw_p2 : lw_okq (⟨"TwoFlows", "flow", "(II)I"⟩, 8) := ⟨⟨by decide +kernel, by decide +kernel⟩, List.mem_of_getElem? (i := 4) rfl, List.mem_of_getElem? (i := 69) rfl, List.mem_of_getElem? (i := 70) rfl⟩
theorem lw_p3 : lw_okq (⟨"TwoFlows", "spread", "(II)I"⟩, 8) := ⟨⟨by decide +kernel, by decide +kernel⟩, List.mem_of_getElem? (i := 4) rfl, List.mem_of_getElem? (i := 73) rfl, List.mem_of_getElem? (i := 74) rfl⟩
theorem lw_p4 : lw_okq (⟨"TwoFlows", "push", "(I)I"⟩, 8) := ⟨⟨by decide +kernel, by decide +kernel⟩, List.mem_of_getElem? (i := 4) rfl, List.mem_of_getElem? (i := 77) rfl, List.mem_of_getElem? (i := 78) rfl⟩
theorem lw_p5 : lw_okq (⟨"TwoFlows", "change", "(III)I"⟩, 8) := ⟨⟨by decide +kernel, by decide +kernel⟩, List.mem_of_getElem? (i := 4) rfl, List.mem_of_getElem? (i := 107) rfl, List.mem_of_getElem? (i := 108) rfl⟩
theorem lw_p6 : lw_okq (⟨"TwoFlowsModel", "pair", "(II)Z"⟩, 2) := ⟨⟨by decide +kernel, by decide +kernel⟩, List.mem_of_getElem? (i := 121) rfl, List.mem_of_getElem? (i := 138) rfl, List.mem_of_getElem? (i := 139) rfl⟩
theorem lw_p7 : lw_okq (⟨"TwoFlowsModel", "put", "(III)V"⟩, 2) := ⟨⟨by decide +kernel, by decide +kernel⟩, List.mem_of_getElem? (i := 121) rfl, List.mem_of_getElem? (i := 142) rfl, List.mem_of_getElem? (i := 143) rfl⟩
theorem lw_p8 : lw_okq (⟨"TwoFlowsModel", "work", "()V"⟩, 2) := ⟨⟨by decide +kernel, by decide +kernel⟩, List.mem_of_getElem? (i := 121) rfl, List.mem_of_getElem? (i := 158) rfl, List.mem_of_getElem? (i := 159) rfl⟩
theorem lw_p9 : lw_okq (⟨"TwoFlowsModel", "fits", "(II)Z"⟩, 2) := ⟨⟨by decide +kernel, by decide +kernel⟩, List.mem_of_getElem? (i := 121) rfl, List.mem_of_getElem? (i := 163) rfl, List.mem_of_getElem? (i := 164) rfl⟩
theorem lw_p10 : lw_okq (⟨"TwoFlowsModel", "mostWith", "(III)I"⟩, 2) := ⟨⟨by decide +kernel, by decide +kernel⟩, List.mem_of_getElem? (i := 121) rfl, List.mem_of_getElem? (i := 191) rfl, List.mem_of_getElem? (i := 192) rfl⟩
def lw_privs_1 : List (MethodName × Nat) := [(⟨"TwoFlows", "put", "(III)V"⟩, 8), (⟨"TwoFlows", "learn", "()V"⟩, 8), (⟨"TwoFlows", "flow", "(II)I"⟩, 8), (⟨"TwoFlows", "spread", "(II)I"⟩, 8), (⟨"TwoFlows", "push", "(I)I"⟩, 8), (⟨"TwoFlows", "change", "(III)I"⟩, 8), (⟨"TwoFlowsModel", "pair", "(II)Z"⟩, 2), (⟨"TwoFlowsModel", "put", "(III)V"⟩, 2), (⟨"TwoFlowsModel", "work", "()V"⟩, 2), (⟨"TwoFlowsModel", "fits", "(II)Z"⟩, 2), (⟨"TwoFlowsModel", "mostWith", "(III)I"⟩, 2)]
theorem lw_r1 : ∀ q ∈ lw_privs_1, lw_okq q := List.forall_mem_cons.mpr ⟨lw_p0, List.forall_mem_cons.mpr ⟨lw_p1, List.forall_mem_cons.mpr ⟨lw_p2, List.forall_mem_cons.mpr ⟨lw_p3, List.forall_mem_cons.mpr ⟨lw_p4, List.forall_mem_cons.mpr ⟨lw_p5, List.forall_mem_cons.mpr ⟨lw_p6, List.forall_mem_cons.mpr ⟨lw_p7, List.forall_mem_cons.mpr ⟨lw_p8, List.forall_mem_cons.mpr ⟨lw_p9, List.forall_mem_cons.mpr ⟨lw_p10, fun _ h => absurd h List.not_mem_nil⟩⟩⟩⟩⟩⟩⟩⟩⟩⟩⟩
def lw_privs : List (MethodName × Nat) := lw_privs_1
def lw_tbl : List Cond := k2_sels lw_privs ++ tables_1
theorem lw_privs_ok : ∀ q ∈ lw_privs, lw_okq q := lw_r1
-- ===== ONE list of words for every method: the tables' words that hold all through a run =====
def lw_all : List Cond := lw_tbl.filter goodWord
/-- a word of the tables by its place: claim/WORDS.tsv -/
theorem lw_w {w : Cond} (i : Nat) (h : lw_tbl[i]? = some w) (g : goodWord w = true) : w ∈ lw_all := List.mem_filter.mpr ⟨List.mem_of_getElem? h, g⟩
theorem lw_all_tbl {w : Cond} (h : w ∈ lw_all) : w ∈ lw_tbl := (List.mem_filter.mp h).1
theorem lw_self : GoodIn lw_all lw_all := fun w h => ⟨h, good_of_word (List.mem_filter.mp h).2⟩
/-- a class's field words, by their places -/
theorem lw_in (ws : List Cond) (ps : List Nat) (hp : ws = ps.filterMap (fun i => lw_tbl[i]?)) (hg : ws.all goodWord = true) : ∀ w ∈ ws, w ∈ lw_all := by
  intro w h
  have h1 := List.all_eq_true.mp hg w h
  rw [hp] at h
  obtain ⟨i, -, hi⟩ := List.mem_filterMap.mp h
  exact lw_w i hi h1
/-- the words of a contract for the method y with code b, L locals, answer r -/
abbrev ws_ (y : MethodName) (b : ByteArray) (L : Nat) (r : Option FieldType) : List Cond := Cond.code y b L r :: lw_all
theorem lw_meth {y : MethodName} {b : ByteArray} {L : Nat} {r : Option FieldType} (h : Cond.code y b L r ∈ lw_all) : GoodIn lw_all (ws_ y b L r) := by
  intro w hw
  rcases List.mem_cons.mp hw with e | e
  · rw [e]
    exact lw_self _ h
  · exact lw_self _ e
theorem lw_app {a c : List Cond} (ha : ∀ w ∈ a, w ∈ lw_all) (hc : GoodIn lw_all c) : GoodIn lw_all (a ++ c) := by
  intro w hw
  rcases List.mem_append.mp hw with e | e
  · exact lw_self w (ha w e)
  · exact hc w e
/-- what a call through an object asks: cwV n hts (lw_V ..) -/
theorem lw_V {own : String} {idx : Nat} {C : String} {y : MethodName} {b : ByteArray} {L : Nat} {r : Option FieldType} (h1 : Cond.methodLink own idx y ∈ lw_all) (h2 : Cond.instanceMethod y ∈ lw_all) (h3 : Cond.selects C y y ∈ lw_all) (h4 : Cond.initialized C ∈ lw_all) (h5 : Cond.code y b L r ∈ lw_all) : GoodIn lw_all (wsV own idx C y (ws_ y b L r)) := by
  refine lw_app ?_ (lw_meth h5)
  intro w hw
  simp only [List.mem_cons, List.not_mem_nil, or_false] at hw
  rcases hw with e | e | e | e
  · rw [e]; exact h1
  · rw [e]; exact h2
  · rw [e]; exact h3
  · rw [e]; exact h4
/-- what a static call asks: va_cwS n hts (lw_S ..) -/
theorem lw_S {own : String} {idx : Nat} {y : MethodName} {b : ByteArray} {L : Nat} {r : Option FieldType} (h1 : Cond.methodLink own idx y ∈ lw_all) (h2 : Cond.static y ∈ lw_all) (h3 : Cond.initialized y.cls ∈ lw_all) (h4 : Cond.code y b L r ∈ lw_all) : GoodIn lw_all (va_wsS own idx y (ws_ y b L r)) := by
  refine lw_app ?_ (lw_meth h4)
  intro w hw
  simp only [List.mem_cons, List.not_mem_nil, or_false] at hw
  rcases hw with e | e | e
  · rw [e]; exact h1
  · rw [e]; exact h2
  · rw [e]; exact h3
/-- the words of a contract for a method WITH HANDLERS (hh: its table) -/
abbrev wsW_ (y : MethodName) (b : ByteArray) (L : Nat) (r : Option FieldType) (hh : List (Nat × Nat × Nat × Nat)) : List Cond := Cond.codeWith y b L r hh :: lw_all
theorem lw_methW {y : MethodName} {b : ByteArray} {L : Nat} {r : Option FieldType} {hh : List (Nat × Nat × Nat × Nat)} (h : Cond.codeWith y b L r hh ∈ lw_all) : GoodIn lw_all (wsW_ y b L r hh) := by
  intro w hw
  rcases List.mem_cons.mp hw with e | e
  · rw [e]
    exact lw_self _ h
  · exact lw_self _ e
/-- any list of words by their places (lw_in), good -/
theorem lw_good {ws : List Cond} (h : ∀ w ∈ ws, w ∈ lw_all) : GoodIn lw_all ws := fun w hw => lw_self w (h w hw)
/-- what a call of a method with handlers asks: vx_cwVW n hts (lw_VW ..), vx_cwSW n hts (lw_SW ..) -/
theorem lw_VW {own : String} {idx : Nat} {C : String} {y : MethodName} {b : ByteArray} {L : Nat} {r : Option FieldType} {hh : List (Nat × Nat × Nat × Nat)} (h1 : Cond.methodLink own idx y ∈ lw_all) (h2 : Cond.instanceMethod y ∈ lw_all) (h3 : Cond.selects C y y ∈ lw_all) (h4 : Cond.initialized C ∈ lw_all) (h5 : Cond.codeWith y b L r hh ∈ lw_all) : GoodIn lw_all (wsV own idx C y (wsW_ y b L r hh)) := by
  refine lw_app ?_ (lw_methW h5)
  intro w hw
  simp only [List.mem_cons, List.not_mem_nil, or_false] at hw
  rcases hw with e | e | e | e
  · rw [e]; exact h1
  · rw [e]; exact h2
  · rw [e]; exact h3
  · rw [e]; exact h4
theorem lw_SW {own : String} {idx : Nat} {y : MethodName} {b : ByteArray} {L : Nat} {r : Option FieldType} {hh : List (Nat × Nat × Nat × Nat)} (h1 : Cond.methodLink own idx y ∈ lw_all) (h2 : Cond.static y ∈ lw_all) (h3 : Cond.initialized y.cls ∈ lw_all) (h4 : Cond.codeWith y b L r hh ∈ lw_all) : GoodIn lw_all (va_wsS own idx y (wsW_ y b L r hh)) := by
  refine lw_app ?_ (lw_methW h4)
  intro w hw
  simp only [List.mem_cons, List.not_mem_nil, or_false] at hw
  rcases hw with e | e | e
  · rw [e]; exact h1
  · rw [e]; exact h2
  · rw [e]; exact h3
/-- a word by its place in its run of the tables -/
theorem lw_at {r : List Cond} (hr : ∀ w ∈ r, w ∈ lw_tbl) {w : Cond} (i : Nat) (h : r[i]? = some w) : w ∈ lw_tbl := hr w (List.mem_of_getElem? h)
theorem lw_g {w : Cond} (h : w ∈ lw_tbl) (g : goodWord w = true) : w ∈ lw_all := List.mem_filter.mpr ⟨h, g⟩
theorem lw_ms : ∀ w ∈ k2_sels lw_privs, w ∈ lw_tbl := fun w h => show w ∈ k2_sels lw_privs ++ tables_1 from List.mem_append_left _ h
theorem lw_m0 : ∀ w ∈ tables_1, w ∈ lw_tbl := fun w h => show w ∈ k2_sels lw_privs ++ tables_1 from List.mem_append_right (k2_sels lw_privs) h
theorem qs0 : (Cond.selects "TwoFlows" ⟨"TwoFlows", "put", "(III)V"⟩ ⟨"TwoFlows", "put", "(III)V"⟩) ∈ lw_all := lw_g (lw_at lw_ms 0 rfl) rfl
theorem qs1 : (Cond.selects "TwoFlows" ⟨"TwoFlows", "learn", "()V"⟩ ⟨"TwoFlows", "learn", "()V"⟩) ∈ lw_all := lw_g (lw_at lw_ms 1 rfl) rfl
theorem qs2 : (Cond.selects "TwoFlows" ⟨"TwoFlows", "flow", "(II)I"⟩ ⟨"TwoFlows", "flow", "(II)I"⟩) ∈ lw_all := lw_g (lw_at lw_ms 2 rfl) rfl
theorem qs3 : (Cond.selects "TwoFlows" ⟨"TwoFlows", "spread", "(II)I"⟩ ⟨"TwoFlows", "spread", "(II)I"⟩) ∈ lw_all := lw_g (lw_at lw_ms 3 rfl) rfl
theorem qs4 : (Cond.selects "TwoFlows" ⟨"TwoFlows", "push", "(I)I"⟩ ⟨"TwoFlows", "push", "(I)I"⟩) ∈ lw_all := lw_g (lw_at lw_ms 4 rfl) rfl
theorem qs5 : (Cond.selects "TwoFlows" ⟨"TwoFlows", "change", "(III)I"⟩ ⟨"TwoFlows", "change", "(III)I"⟩) ∈ lw_all := lw_g (lw_at lw_ms 5 rfl) rfl
theorem qs6 : (Cond.selects "TwoFlowsModel" ⟨"TwoFlowsModel", "pair", "(II)Z"⟩ ⟨"TwoFlowsModel", "pair", "(II)Z"⟩) ∈ lw_all := lw_g (lw_at lw_ms 6 rfl) rfl
theorem qs7 : (Cond.selects "TwoFlowsModel" ⟨"TwoFlowsModel", "put", "(III)V"⟩ ⟨"TwoFlowsModel", "put", "(III)V"⟩) ∈ lw_all := lw_g (lw_at lw_ms 7 rfl) rfl
theorem qs8 : (Cond.selects "TwoFlowsModel" ⟨"TwoFlowsModel", "work", "()V"⟩ ⟨"TwoFlowsModel", "work", "()V"⟩) ∈ lw_all := lw_g (lw_at lw_ms 8 rfl) rfl
theorem qs9 : (Cond.selects "TwoFlowsModel" ⟨"TwoFlowsModel", "fits", "(II)Z"⟩ ⟨"TwoFlowsModel", "fits", "(II)Z"⟩) ∈ lw_all := lw_g (lw_at lw_ms 9 rfl) rfl
theorem qs10 : (Cond.selects "TwoFlowsModel" ⟨"TwoFlowsModel", "mostWith", "(III)I"⟩ ⟨"TwoFlowsModel", "mostWith", "(III)I"⟩) ∈ lw_all := lw_g (lw_at lw_ms 10 rfl) rfl
end
section
/-! java/lang/Object -/
set_option maxRecDepth 100000
def RJ0 : String := "java/lang/Object"
abbrev cJ0_init : ByteArray := object_method_1_code
def yJ0_init : MethodName := ⟨RJ0, "<init>", "()V"⟩
theorem dJ0_init_0 : decode cJ0_init 0 = .ok (.return_, 1) := by decide +kernel
theorem q20 : (Jvm.Cond.instanceMethod ({ cls := "java/lang/Object", name := "<init>", desc := "()V" } : Jvm.MethodName)) ∈ lw_all := lw_g (lw_at lw_m0 9 rfl) rfl
theorem q21 : (Jvm.Cond.code ({ cls := "java/lang/Object", name := "<init>", desc := "()V" } : Jvm.MethodName) object_method_1_code (1 : Nat) (Option.none : Option Jvm.ClassFile.FieldType)) ∈ lw_all := lw_g (lw_at lw_m0 10 rfl) rfl
theorem q47 : (Jvm.Cond.arrayClass Jvm.ClassFile.FieldType.byte) ∈ lw_all := lw_g (lw_at lw_m0 36 rfl) rfl
set_option maxRecDepth 100000
theorem q48 : (Jvm.Cond.arrayClass Jvm.ClassFile.FieldType.int) ∈ lw_all := lw_g (lw_at lw_m0 37 rfl) rfl
theorem q11 : (Jvm.Cond.initialized "TwoFlowsLaw") ∈ lw_all := lw_g (lw_at lw_m0 0 rfl) rfl
set_option maxRecDepth 100000
theorem q14 : (Jvm.Cond.classLink "TwoFlowsLaw" (7 : Nat) "TwoFlows") ∈ lw_all := lw_g (lw_at lw_m0 3 rfl) rfl
theorem q16 : (Jvm.Cond.methodLink "TwoFlowsLaw" (9 : Nat) ({ cls := "TwoFlows", name := "<init>", desc := "()V" } : Jvm.MethodName)) ∈ lw_all := lw_g (lw_at lw_m0 5 rfl) rfl
theorem q49 : (Jvm.Cond.methodLink "TwoFlowsLaw" (13 : Nat) ({ cls := "TwoFlows", name := "set", desc := "(III)Z" } : Jvm.MethodName)) ∈ lw_all := lw_g (lw_at lw_m0 38 rfl) rfl
theorem q60 : (Jvm.Cond.methodLink "TwoFlowsLaw" (18 : Nat) ({ cls := "TwoFlows", name := "capacity", desc := "(II)I" } : Jvm.MethodName)) ∈ lw_all := lw_g (lw_at lw_m0 49 rfl) rfl
theorem q64 : (Jvm.Cond.methodLink "TwoFlowsLaw" (23 : Nat) ({ cls := "TwoFlows", name := "width", desc := "(I)I" } : Jvm.MethodName)) ∈ lw_all := lw_g (lw_at lw_m0 53 rfl) rfl
theorem q71 : (Jvm.Cond.methodLink "TwoFlowsLaw" (28 : Nat) ({ cls := "TwoFlows", name := "carries", desc := "(II)Z" } : Jvm.MethodName)) ∈ lw_all := lw_g (lw_at lw_m0 60 rfl) rfl
theorem q92 : (Jvm.Cond.methodLink "TwoFlowsLaw" (33 : Nat) ({ cls := "TwoFlows", name := "alone", desc := "(I)I" } : Jvm.MethodName)) ∈ lw_all := lw_g (lw_at lw_m0 81 rfl) rfl
theorem q96 : (Jvm.Cond.methodLink "TwoFlowsLaw" (37 : Nat) ({ cls := "TwoFlows", name := "most", desc := "()I" } : Jvm.MethodName)) ∈ lw_all := lw_g (lw_at lw_m0 85 rfl) rfl
theorem q100 : (Jvm.Cond.methodLink "TwoFlowsLaw" (42 : Nat) ({ cls := "TwoFlows", name := "besides", desc := "(I)I" } : Jvm.MethodName)) ∈ lw_all := lw_g (lw_at lw_m0 89 rfl) rfl
theorem q104 : (Jvm.Cond.methodLink "TwoFlowsLaw" (46 : Nat) ({ cls := "TwoFlows", name := "evenly", desc := "()I" } : Jvm.MethodName)) ∈ lw_all := lw_g (lw_at lw_m0 93 rfl) rfl
theorem q108 : (Jvm.Cond.methodLink "TwoFlowsLaw" (50 : Nat) ({ cls := "TwoFlows", name := "pairs", desc := "()I" } : Jvm.MethodName)) ∈ lw_all := lw_g (lw_at lw_m0 97 rfl) rfl
theorem q113 : (Jvm.Cond.methodLink "TwoFlowsLaw" (54 : Nat) ({ cls := "TwoFlows", name := "worth", desc := "(II)I" } : Jvm.MethodName)) ∈ lw_all := lw_g (lw_at lw_m0 102 rfl) rfl
theorem q122 : (Jvm.Cond.methodLink "TwoFlowsLaw" (58 : Nat) ({ cls := "TwoFlows", name := "loss", desc := "(II)I" } : Jvm.MethodName)) ∈ lw_all := lw_g (lw_at lw_m0 111 rfl) rfl
theorem q126 : (Jvm.Cond.methodLink "TwoFlowsLaw" (62 : Nat) ({ cls := "TwoFlows", name := "full", desc := "(II)Z" } : Jvm.MethodName)) ∈ lw_all := lw_g (lw_at lw_m0 115 rfl) rfl
theorem q131 : (Jvm.Cond.classLink "TwoFlowsLaw" (10 : Nat) "TwoFlowsModel") ∈ lw_all := lw_g (lw_at lw_m0 120 rfl) rfl
theorem q133 : (Jvm.Cond.methodLink "TwoFlowsLaw" (12 : Nat) ({ cls := "TwoFlowsModel", name := "<init>", desc := "()V" } : Jvm.MethodName)) ∈ lw_all := lw_g (lw_at lw_m0 122 rfl) rfl
theorem q144 : (Jvm.Cond.methodLink "TwoFlowsLaw" (17 : Nat) ({ cls := "TwoFlowsModel", name := "set", desc := "(III)Z" } : Jvm.MethodName)) ∈ lw_all := lw_g (lw_at lw_m0 133 rfl) rfl
theorem q156 : (Jvm.Cond.methodLink "TwoFlowsLaw" (22 : Nat) ({ cls := "TwoFlowsModel", name := "capacity", desc := "(II)I" } : Jvm.MethodName)) ∈ lw_all := lw_g (lw_at lw_m0 145 rfl) rfl
theorem q160 : (Jvm.Cond.methodLink "TwoFlowsLaw" (27 : Nat) ({ cls := "TwoFlowsModel", name := "width", desc := "(I)I" } : Jvm.MethodName)) ∈ lw_all := lw_g (lw_at lw_m0 149 rfl) rfl
theorem q164 : (Jvm.Cond.methodLink "TwoFlowsLaw" (32 : Nat) ({ cls := "TwoFlowsModel", name := "carries", desc := "(II)Z" } : Jvm.MethodName)) ∈ lw_all := lw_g (lw_at lw_m0 153 rfl) rfl
theorem q177 : (Jvm.Cond.methodLink "TwoFlowsLaw" (36 : Nat) ({ cls := "TwoFlowsModel", name := "alone", desc := "(I)I" } : Jvm.MethodName)) ∈ lw_all := lw_g (lw_at lw_m0 166 rfl) rfl
theorem q181 : (Jvm.Cond.methodLink "TwoFlowsLaw" (41 : Nat) ({ cls := "TwoFlowsModel", name := "most", desc := "()I" } : Jvm.MethodName)) ∈ lw_all := lw_g (lw_at lw_m0 170 rfl) rfl
theorem q185 : (Jvm.Cond.methodLink "TwoFlowsLaw" (45 : Nat) ({ cls := "TwoFlowsModel", name := "besides", desc := "(I)I" } : Jvm.MethodName)) ∈ lw_all := lw_g (lw_at lw_m0 174 rfl) rfl
theorem q189 : (Jvm.Cond.methodLink "TwoFlowsLaw" (49 : Nat) ({ cls := "TwoFlowsModel", name := "evenly", desc := "()I" } : Jvm.MethodName)) ∈ lw_all := lw_g (lw_at lw_m0 178 rfl) rfl
theorem q193 : (Jvm.Cond.methodLink "TwoFlowsLaw" (53 : Nat) ({ cls := "TwoFlowsModel", name := "pairs", desc := "()I" } : Jvm.MethodName)) ∈ lw_all := lw_g (lw_at lw_m0 182 rfl) rfl
theorem q197 : (Jvm.Cond.methodLink "TwoFlowsLaw" (57 : Nat) ({ cls := "TwoFlowsModel", name := "worth", desc := "(II)I" } : Jvm.MethodName)) ∈ lw_all := lw_g (lw_at lw_m0 186 rfl) rfl
theorem q206 : (Jvm.Cond.methodLink "TwoFlowsLaw" (61 : Nat) ({ cls := "TwoFlowsModel", name := "loss", desc := "(II)I" } : Jvm.MethodName)) ∈ lw_all := lw_g (lw_at lw_m0 195 rfl) rfl
theorem q210 : (Jvm.Cond.methodLink "TwoFlowsLaw" (65 : Nat) ({ cls := "TwoFlowsModel", name := "full", desc := "(II)Z" } : Jvm.MethodName)) ∈ lw_all := lw_g (lw_at lw_m0 199 rfl) rfl
/-! TwoFlows -/
set_option maxRecDepth 100000
def RX0 : String := "TwoFlows"
def TX0 : u_T := fun k => match k with
  | 0 => ("TwoFlows", "capacities", "[B", true)
  | 1 => ("TwoFlows", "room", "[I", true)
  | 2 => ("TwoFlows", "cameFrom", "[B", true)
  | 3 => ("TwoFlows", "line", "[B", true)
  | 4 => ("TwoFlows", "known", "Z", false)
  | 5 => ("TwoFlows", "first", "I", false)
  | 6 => ("TwoFlows", "second", "I", false)
  | _ => ("TwoFlows", "both", "I", false)
def tyX0 : Nat → FieldType := fun k => match k with
  | 0 => .array .byte
  | 1 => .array .int
  | 2 => .array .byte
  | 3 => .array .byte
  | 4 => .boolean
  | 5 => .int
  | 6 => .int
  | _ => .int
abbrev wsX00 : List Cond := u_ws RX0 TX0 8
theorem nmX0 : ∀ a, a < 8 → ∀ b, b < 8 → a ≠ b → (TX0 a).2.1 ≠ (TX0 b).2.1 := by decide +kernel
theorem tyX0_ok : ∀ k, k < 8 → parseFieldDescriptor (TX0 k).2.2.1 = some (tyX0 k) := by decide +kernel
abbrev cX0_init : ByteArray := prog_1_method_1_code
def yX0_init : MethodName := ⟨RX0, "<init>", "()V"⟩
theorem dX0_init_0 : decode cX0_init 0 = .ok (.aload_n 0, 1) := by decide +kernel
theorem dX0_init_1 : decode cX0_init 1 = .ok (.invokespecial 1, 3) := by decide +kernel
theorem dX0_init_4 : decode cX0_init 4 = .ok (.aload_n 0, 1) := by decide +kernel
theorem dX0_init_5 : decode cX0_init 5 = .ok (.bipush 36, 2) := by decide +kernel
theorem dX0_init_7 : decode cX0_init 7 = .ok (.newarray .byte, 2) := by decide +kernel
theorem dX0_init_9 : decode cX0_init 9 = .ok (.putfield 7, 3) := by decide +kernel
theorem dX0_init_12 : decode cX0_init 12 = .ok (.aload_n 0, 1) := by decide +kernel
theorem dX0_init_13 : decode cX0_init 13 = .ok (.bipush 36, 2) := by decide +kernel
theorem dX0_init_15 : decode cX0_init 15 = .ok (.newarray .int, 2) := by decide +kernel
theorem dX0_init_17 : decode cX0_init 17 = .ok (.putfield 13, 3) := by decide +kernel
theorem dX0_init_20 : decode cX0_init 20 = .ok (.aload_n 0, 1) := by decide +kernel
theorem dX0_init_21 : decode cX0_init 21 = .ok (.bipush 6, 2) := by decide +kernel
theorem dX0_init_23 : decode cX0_init 23 = .ok (.newarray .byte, 2) := by decide +kernel
theorem dX0_init_25 : decode cX0_init 25 = .ok (.putfield 17, 3) := by decide +kernel
theorem dX0_init_28 : decode cX0_init 28 = .ok (.aload_n 0, 1) := by decide +kernel
theorem dX0_init_29 : decode cX0_init 29 = .ok (.bipush 8, 2) := by decide +kernel
theorem dX0_init_31 : decode cX0_init 31 = .ok (.newarray .byte, 2) := by decide +kernel
theorem dX0_init_33 : decode cX0_init 33 = .ok (.putfield 20, 3) := by decide +kernel
theorem dX0_init_36 : decode cX0_init 36 = .ok (.return_, 1) := by decide +kernel
abbrev cX0_set : ByteArray := prog_1_method_5_code
def yX0_set : MethodName := ⟨RX0, "set", "(III)Z"⟩
theorem dX0_set_0 : decode cX0_set 0 = .ok (.iload_n 1, 1) := by decide +kernel
theorem dX0_set_1 : decode cX0_set 1 = .ok (.iload_n 2, 1) := by decide +kernel
theorem dX0_set_2 : decode cX0_set 2 = .ok (.invokestatic 27, 3) := by decide +kernel
theorem dX0_set_5 : decode cX0_set 5 = .ok (.ifCond .eq 13, 3) := by decide +kernel
theorem dX0_set_8 : decode cX0_set 8 = .ok (.iload_n 3, 1) := by decide +kernel
theorem dX0_set_9 : decode cX0_set 9 = .ok (.ifCond .lt 9, 3) := by decide +kernel
theorem dX0_set_12 : decode cX0_set 12 = .ok (.iload_n 3, 1) := by decide +kernel
theorem dX0_set_13 : decode cX0_set 13 = .ok (.bipush 20, 2) := by decide +kernel
theorem dX0_set_15 : decode cX0_set 15 = .ok (.if_icmp .le 5, 3) := by decide +kernel
theorem dX0_set_18 : decode cX0_set 18 = .ok (.iconst 0, 1) := by decide +kernel
theorem dX0_set_19 : decode cX0_set 19 = .ok (.ireturn, 1) := by decide +kernel
theorem dX0_set_20 : decode cX0_set 20 = .ok (.aload_n 0, 1) := by decide +kernel
theorem dX0_set_21 : decode cX0_set 21 = .ok (.iload_n 1, 1) := by decide +kernel
theorem dX0_set_22 : decode cX0_set 22 = .ok (.iload_n 2, 1) := by decide +kernel
theorem dX0_set_23 : decode cX0_set 23 = .ok (.iload_n 3, 1) := by decide +kernel
theorem dX0_set_24 : decode cX0_set 24 = .ok (.invokevirtual 31, 3) := by decide +kernel
theorem dX0_set_27 : decode cX0_set 27 = .ok (.iconst 1, 1) := by decide +kernel
theorem dX0_set_28 : decode cX0_set 28 = .ok (.ireturn, 1) := by decide +kernel
abbrev cX0_isPair : ByteArray := prog_1_method_2_code
def yX0_isPair : MethodName := ⟨RX0, "isPair", "(II)Z"⟩
theorem dX0_isPair_0 : decode cX0_isPair 0 = .ok (.iload_n 0, 1) := by decide +kernel
theorem dX0_isPair_1 : decode cX0_isPair 1 = .ok (.ifCond .lt 28, 3) := by decide +kernel
theorem dX0_isPair_4 : decode cX0_isPair 4 = .ok (.iload_n 0, 1) := by decide +kernel
theorem dX0_isPair_5 : decode cX0_isPair 5 = .ok (.bipush 6, 2) := by decide +kernel
theorem dX0_isPair_7 : decode cX0_isPair 7 = .ok (.if_icmp .ge 22, 3) := by decide +kernel
theorem dX0_isPair_10 : decode cX0_isPair 10 = .ok (.iload_n 1, 1) := by decide +kernel
theorem dX0_isPair_11 : decode cX0_isPair 11 = .ok (.ifCond .lt 18, 3) := by decide +kernel
theorem dX0_isPair_14 : decode cX0_isPair 14 = .ok (.iload_n 1, 1) := by decide +kernel
theorem dX0_isPair_15 : decode cX0_isPair 15 = .ok (.bipush 6, 2) := by decide +kernel
theorem dX0_isPair_17 : decode cX0_isPair 17 = .ok (.if_icmp .ge 12, 3) := by decide +kernel
theorem dX0_isPair_20 : decode cX0_isPair 20 = .ok (.iload_n 0, 1) := by decide +kernel
theorem dX0_isPair_21 : decode cX0_isPair 21 = .ok (.iload_n 1, 1) := by decide +kernel
theorem dX0_isPair_22 : decode cX0_isPair 22 = .ok (.if_icmp .eq 7, 3) := by decide +kernel
theorem dX0_isPair_25 : decode cX0_isPair 25 = .ok (.iconst 1, 1) := by decide +kernel
theorem dX0_isPair_26 : decode cX0_isPair 26 = .ok (.goto 4, 3) := by decide +kernel
theorem dX0_isPair_29 : decode cX0_isPair 29 = .ok (.iconst 0, 1) := by decide +kernel
theorem dX0_isPair_30 : decode cX0_isPair 30 = .ok (.ireturn, 1) := by decide +kernel
abbrev cX0_put : ByteArray := prog_1_method_4_code
def yX0_put : MethodName := ⟨RX0, "put", "(III)V"⟩
theorem dX0_put_0 : decode cX0_put 0 = .ok (.aload_n 0, 1) := by decide +kernel
theorem dX0_put_1 : decode cX0_put 1 = .ok (.getfield 7, 3) := by decide +kernel
theorem dX0_put_4 : decode cX0_put 4 = .ok (.iload_n 1, 1) := by decide +kernel
theorem dX0_put_5 : decode cX0_put 5 = .ok (.bipush 6, 2) := by decide +kernel
theorem dX0_put_7 : decode cX0_put 7 = .ok (.imul, 1) := by decide +kernel
theorem dX0_put_8 : decode cX0_put 8 = .ok (.iload_n 2, 1) := by decide +kernel
theorem dX0_put_9 : decode cX0_put 9 = .ok (.iadd, 1) := by decide +kernel
theorem dX0_put_10 : decode cX0_put 10 = .ok (.iload_n 3, 1) := by decide +kernel
theorem dX0_put_11 : decode cX0_put 11 = .ok (.i2b, 1) := by decide +kernel
theorem dX0_put_12 : decode cX0_put 12 = .ok (.bastore, 1) := by decide +kernel
theorem dX0_put_13 : decode cX0_put 13 = .ok (.aload_n 0, 1) := by decide +kernel
theorem dX0_put_14 : decode cX0_put 14 = .ok (.getfield 7, 3) := by decide +kernel
theorem dX0_put_17 : decode cX0_put 17 = .ok (.iload_n 2, 1) := by decide +kernel
theorem dX0_put_18 : decode cX0_put 18 = .ok (.bipush 6, 2) := by decide +kernel
theorem dX0_put_20 : decode cX0_put 20 = .ok (.imul, 1) := by decide +kernel
theorem dX0_put_21 : decode cX0_put 21 = .ok (.iload_n 1, 1) := by decide +kernel
theorem dX0_put_22 : decode cX0_put 22 = .ok (.iadd, 1) := by decide +kernel
theorem dX0_put_23 : decode cX0_put 23 = .ok (.iload_n 3, 1) := by decide +kernel
theorem dX0_put_24 : decode cX0_put 24 = .ok (.i2b, 1) := by decide +kernel
theorem dX0_put_25 : decode cX0_put 25 = .ok (.bastore, 1) := by decide +kernel
theorem dX0_put_26 : decode cX0_put 26 = .ok (.aload_n 0, 1) := by decide +kernel
theorem dX0_put_27 : decode cX0_put 27 = .ok (.iconst 0, 1) := by decide +kernel
theorem dX0_put_28 : decode cX0_put 28 = .ok (.putfield 23, 3) := by decide +kernel
theorem dX0_put_31 : decode cX0_put 31 = .ok (.return_, 1) := by decide +kernel
abbrev cX0_capacity : ByteArray := prog_1_method_6_code
def yX0_capacity : MethodName := ⟨RX0, "capacity", "(II)I"⟩
theorem dX0_capacity_0 : decode cX0_capacity 0 = .ok (.iload_n 1, 1) := by decide +kernel
theorem dX0_capacity_1 : decode cX0_capacity 1 = .ok (.iload_n 2, 1) := by decide +kernel
theorem dX0_capacity_2 : decode cX0_capacity 2 = .ok (.invokestatic 27, 3) := by decide +kernel
theorem dX0_capacity_5 : decode cX0_capacity 5 = .ok (.ifCond .eq 17, 3) := by decide +kernel
theorem dX0_capacity_8 : decode cX0_capacity 8 = .ok (.aload_n 0, 1) := by decide +kernel
theorem dX0_capacity_9 : decode cX0_capacity 9 = .ok (.getfield 7, 3) := by decide +kernel
theorem dX0_capacity_12 : decode cX0_capacity 12 = .ok (.iload_n 1, 1) := by decide +kernel
theorem dX0_capacity_13 : decode cX0_capacity 13 = .ok (.bipush 6, 2) := by decide +kernel
theorem dX0_capacity_15 : decode cX0_capacity 15 = .ok (.imul, 1) := by decide +kernel
theorem dX0_capacity_16 : decode cX0_capacity 16 = .ok (.iload_n 2, 1) := by decide +kernel
theorem dX0_capacity_17 : decode cX0_capacity 17 = .ok (.iadd, 1) := by decide +kernel
theorem dX0_capacity_18 : decode cX0_capacity 18 = .ok (.baload, 1) := by decide +kernel
theorem dX0_capacity_19 : decode cX0_capacity 19 = .ok (.goto 4, 3) := by decide +kernel
theorem dX0_capacity_22 : decode cX0_capacity 22 = .ok (.iconst (-1), 1) := by decide +kernel
theorem dX0_capacity_23 : decode cX0_capacity 23 = .ok (.ireturn, 1) := by decide +kernel
abbrev cX0_width : ByteArray := prog_1_method_7_code
def yX0_width : MethodName := ⟨RX0, "width", "(I)I"⟩
theorem dX0_width_0 : decode cX0_width 0 = .ok (.iload_n 1, 1) := by decide +kernel
theorem dX0_width_1 : decode cX0_width 1 = .ok (.ifCond .lt 9, 3) := by decide +kernel
theorem dX0_width_4 : decode cX0_width 4 = .ok (.iload_n 1, 1) := by decide +kernel
theorem dX0_width_5 : decode cX0_width 5 = .ok (.bipush 63, 2) := by decide +kernel
theorem dX0_width_7 : decode cX0_width 7 = .ok (.if_icmp .le 5, 3) := by decide +kernel
theorem dX0_width_10 : decode cX0_width 10 = .ok (.iconst (-1), 1) := by decide +kernel
theorem dX0_width_11 : decode cX0_width 11 = .ok (.ireturn, 1) := by decide +kernel
theorem dX0_width_12 : decode cX0_width 12 = .ok (.iconst 0, 1) := by decide +kernel
theorem dX0_width_13 : decode cX0_width 13 = .ok (.istore_n 2, 1) := by decide +kernel
theorem dX0_width_14 : decode cX0_width 14 = .ok (.iconst 0, 1) := by decide +kernel
theorem dX0_width_15 : decode cX0_width 15 = .ok (.istore_n 3, 1) := by decide +kernel
theorem dX0_width_16 : decode cX0_width 16 = .ok (.iload_n 3, 1) := by decide +kernel
theorem dX0_width_17 : decode cX0_width 17 = .ok (.bipush 6, 2) := by decide +kernel
theorem dX0_width_19 : decode cX0_width 19 = .ok (.if_icmp .ge 61, 3) := by decide +kernel
theorem dX0_width_22 : decode cX0_width 22 = .ok (.iconst 0, 1) := by decide +kernel
theorem dX0_width_23 : decode cX0_width 23 = .ok (.istore 4, 2) := by decide +kernel
theorem dX0_width_25 : decode cX0_width 25 = .ok (.iload 4, 2) := by decide +kernel
theorem dX0_width_27 : decode cX0_width 27 = .ok (.bipush 6, 2) := by decide +kernel
theorem dX0_width_29 : decode cX0_width 29 = .ok (.if_icmp .ge 45, 3) := by decide +kernel
theorem dX0_width_32 : decode cX0_width 32 = .ok (.iload_n 2, 1) := by decide +kernel
theorem dX0_width_33 : decode cX0_width 33 = .ok (.iload_n 1, 1) := by decide +kernel
theorem dX0_width_34 : decode cX0_width 34 = .ok (.iload_n 3, 1) := by decide +kernel
theorem dX0_width_35 : decode cX0_width 35 = .ok (.invokestatic 35, 3) := by decide +kernel
theorem dX0_width_38 : decode cX0_width 38 = .ok (.ifCond .eq 27, 3) := by decide +kernel
theorem dX0_width_41 : decode cX0_width 41 = .ok (.iload_n 1, 1) := by decide +kernel
theorem dX0_width_42 : decode cX0_width 42 = .ok (.iload 4, 2) := by decide +kernel
theorem dX0_width_44 : decode cX0_width 44 = .ok (.invokestatic 35, 3) := by decide +kernel
theorem dX0_width_47 : decode cX0_width 47 = .ok (.ifCond .ne 18, 3) := by decide +kernel
theorem dX0_width_50 : decode cX0_width 50 = .ok (.aload_n 0, 1) := by decide +kernel
theorem dX0_width_51 : decode cX0_width 51 = .ok (.getfield 7, 3) := by decide +kernel
theorem dX0_width_54 : decode cX0_width 54 = .ok (.iload_n 3, 1) := by decide +kernel
theorem dX0_width_55 : decode cX0_width 55 = .ok (.bipush 6, 2) := by decide +kernel
theorem dX0_width_57 : decode cX0_width 57 = .ok (.imul, 1) := by decide +kernel
theorem dX0_width_58 : decode cX0_width 58 = .ok (.iload 4, 2) := by decide +kernel
theorem dX0_width_60 : decode cX0_width 60 = .ok (.iadd, 1) := by decide +kernel
theorem dX0_width_61 : decode cX0_width 61 = .ok (.baload, 1) := by decide +kernel
theorem dX0_width_62 : decode cX0_width 62 = .ok (.goto 4, 3) := by decide +kernel
theorem dX0_width_65 : decode cX0_width 65 = .ok (.iconst 0, 1) := by decide +kernel
theorem dX0_width_66 : decode cX0_width 66 = .ok (.iadd, 1) := by decide +kernel
theorem dX0_width_67 : decode cX0_width 67 = .ok (.istore_n 2, 1) := by decide +kernel
theorem dX0_width_68 : decode cX0_width 68 = .ok (.iinc 4 1, 3) := by decide +kernel
theorem dX0_width_71 : decode cX0_width 71 = .ok (.goto (-46), 3) := by decide +kernel
theorem dX0_width_74 : decode cX0_width 74 = .ok (.iinc 3 1, 3) := by decide +kernel
theorem dX0_width_77 : decode cX0_width 77 = .ok (.goto (-61), 3) := by decide +kernel
theorem dX0_width_80 : decode cX0_width 80 = .ok (.iload_n 2, 1) := by decide +kernel
theorem dX0_width_81 : decode cX0_width 81 = .ok (.ireturn, 1) := by decide +kernel
abbrev cX0_in : ByteArray := prog_1_method_3_code
def yX0_in : MethodName := ⟨RX0, "in", "(II)Z"⟩
theorem dX0_in_0 : decode cX0_in 0 = .ok (.iload_n 0, 1) := by decide +kernel
theorem dX0_in_1 : decode cX0_in 1 = .ok (.iload_n 1, 1) := by decide +kernel
theorem dX0_in_2 : decode cX0_in 2 = .ok (.ishr, 1) := by decide +kernel
theorem dX0_in_3 : decode cX0_in 3 = .ok (.iconst 1, 1) := by decide +kernel
theorem dX0_in_4 : decode cX0_in 4 = .ok (.iand, 1) := by decide +kernel
theorem dX0_in_5 : decode cX0_in 5 = .ok (.ifCond .eq 7, 3) := by decide +kernel
theorem dX0_in_8 : decode cX0_in 8 = .ok (.iconst 1, 1) := by decide +kernel
theorem dX0_in_9 : decode cX0_in 9 = .ok (.goto 4, 3) := by decide +kernel
theorem dX0_in_12 : decode cX0_in 12 = .ok (.iconst 0, 1) := by decide +kernel
theorem dX0_in_13 : decode cX0_in 13 = .ok (.ireturn, 1) := by decide +kernel
abbrev cX0_carries : ByteArray := prog_1_method_12_code
def yX0_carries : MethodName := ⟨RX0, "carries", "(II)Z"⟩
theorem dX0_carries_0 : decode cX0_carries 0 = .ok (.aload_n 0, 1) := by decide +kernel
theorem dX0_carries_1 : decode cX0_carries 1 = .ok (.invokevirtual 60, 3) := by decide +kernel
theorem dX0_carries_4 : decode cX0_carries 4 = .ok (.iload_n 1, 1) := by decide +kernel
theorem dX0_carries_5 : decode cX0_carries 5 = .ok (.ifCond .lt 37, 3) := by decide +kernel
theorem dX0_carries_8 : decode cX0_carries 8 = .ok (.iload_n 2, 1) := by decide +kernel
theorem dX0_carries_9 : decode cX0_carries 9 = .ok (.ifCond .lt 33, 3) := by decide +kernel
theorem dX0_carries_12 : decode cX0_carries 12 = .ok (.iload_n 1, 1) := by decide +kernel
theorem dX0_carries_13 : decode cX0_carries 13 = .ok (.aload_n 0, 1) := by decide +kernel
theorem dX0_carries_14 : decode cX0_carries 14 = .ok (.getfield 50, 3) := by decide +kernel
theorem dX0_carries_17 : decode cX0_carries 17 = .ok (.if_icmp .gt 25, 3) := by decide +kernel
theorem dX0_carries_20 : decode cX0_carries 20 = .ok (.iload_n 2, 1) := by decide +kernel
theorem dX0_carries_21 : decode cX0_carries 21 = .ok (.aload_n 0, 1) := by decide +kernel
theorem dX0_carries_22 : decode cX0_carries 22 = .ok (.getfield 54, 3) := by decide +kernel
theorem dX0_carries_25 : decode cX0_carries 25 = .ok (.if_icmp .gt 17, 3) := by decide +kernel
theorem dX0_carries_28 : decode cX0_carries 28 = .ok (.iload_n 1, 1) := by decide +kernel
theorem dX0_carries_29 : decode cX0_carries 29 = .ok (.aload_n 0, 1) := by decide +kernel
theorem dX0_carries_30 : decode cX0_carries 30 = .ok (.getfield 57, 3) := by decide +kernel
theorem dX0_carries_33 : decode cX0_carries 33 = .ok (.iload_n 2, 1) := by decide +kernel
theorem dX0_carries_34 : decode cX0_carries 34 = .ok (.isub, 1) := by decide +kernel
theorem dX0_carries_35 : decode cX0_carries 35 = .ok (.if_icmp .gt 7, 3) := by decide +kernel
theorem dX0_carries_38 : decode cX0_carries 38 = .ok (.iconst 1, 1) := by decide +kernel
theorem dX0_carries_39 : decode cX0_carries 39 = .ok (.goto 4, 3) := by decide +kernel
theorem dX0_carries_42 : decode cX0_carries 42 = .ok (.iconst 0, 1) := by decide +kernel
theorem dX0_carries_43 : decode cX0_carries 43 = .ok (.ireturn, 1) := by decide +kernel
abbrev cX0_learn : ByteArray := prog_1_method_11_code
def yX0_learn : MethodName := ⟨RX0, "learn", "()V"⟩
theorem dX0_learn_0 : decode cX0_learn 0 = .ok (.aload_n 0, 1) := by decide +kernel
theorem dX0_learn_1 : decode cX0_learn 1 = .ok (.getfield 23, 3) := by decide +kernel
theorem dX0_learn_4 : decode cX0_learn 4 = .ok (.ifCond .eq 4, 3) := by decide +kernel
theorem dX0_learn_7 : decode cX0_learn 7 = .ok (.return_, 1) := by decide +kernel
theorem dX0_learn_8 : decode cX0_learn 8 = .ok (.aload_n 0, 1) := by decide +kernel
theorem dX0_learn_9 : decode cX0_learn 9 = .ok (.iconst 1, 1) := by decide +kernel
theorem dX0_learn_10 : decode cX0_learn 10 = .ok (.putfield 23, 3) := by decide +kernel
theorem dX0_learn_13 : decode cX0_learn 13 = .ok (.aload_n 0, 1) := by decide +kernel
theorem dX0_learn_14 : decode cX0_learn 14 = .ok (.aload_n 0, 1) := by decide +kernel
theorem dX0_learn_15 : decode cX0_learn 15 = .ok (.iconst 1, 1) := by decide +kernel
theorem dX0_learn_16 : decode cX0_learn 16 = .ok (.iconst 2, 1) := by decide +kernel
theorem dX0_learn_17 : decode cX0_learn 17 = .ok (.invokevirtual 47, 3) := by decide +kernel
theorem dX0_learn_20 : decode cX0_learn 20 = .ok (.putfield 50, 3) := by decide +kernel
theorem dX0_learn_23 : decode cX0_learn 23 = .ok (.aload_n 0, 1) := by decide +kernel
theorem dX0_learn_24 : decode cX0_learn 24 = .ok (.aload_n 0, 1) := by decide +kernel
theorem dX0_learn_25 : decode cX0_learn 25 = .ok (.iconst 4, 1) := by decide +kernel
theorem dX0_learn_26 : decode cX0_learn 26 = .ok (.bipush 8, 2) := by decide +kernel
theorem dX0_learn_28 : decode cX0_learn 28 = .ok (.invokevirtual 47, 3) := by decide +kernel
theorem dX0_learn_31 : decode cX0_learn 31 = .ok (.putfield 54, 3) := by decide +kernel
theorem dX0_learn_34 : decode cX0_learn 34 = .ok (.aload_n 0, 1) := by decide +kernel
theorem dX0_learn_35 : decode cX0_learn 35 = .ok (.iconst 5, 1) := by decide +kernel
theorem dX0_learn_36 : decode cX0_learn 36 = .ok (.bipush 10, 2) := by decide +kernel
theorem dX0_learn_38 : decode cX0_learn 38 = .ok (.invokevirtual 47, 3) := by decide +kernel
theorem dX0_learn_41 : decode cX0_learn 41 = .ok (.istore_n 1, 1) := by decide +kernel
theorem dX0_learn_42 : decode cX0_learn 42 = .ok (.aload_n 0, 1) := by decide +kernel
theorem dX0_learn_43 : decode cX0_learn 43 = .ok (.bipush 9, 2) := by decide +kernel
theorem dX0_learn_45 : decode cX0_learn 45 = .ok (.bipush 6, 2) := by decide +kernel
theorem dX0_learn_47 : decode cX0_learn 47 = .ok (.invokevirtual 47, 3) := by decide +kernel
theorem dX0_learn_50 : decode cX0_learn 50 = .ok (.istore_n 2, 1) := by decide +kernel
theorem dX0_learn_51 : decode cX0_learn 51 = .ok (.aload_n 0, 1) := by decide +kernel
theorem dX0_learn_52 : decode cX0_learn 52 = .ok (.iload_n 1, 1) := by decide +kernel
theorem dX0_learn_53 : decode cX0_learn 53 = .ok (.iload_n 2, 1) := by decide +kernel
theorem dX0_learn_54 : decode cX0_learn 54 = .ok (.if_icmp .ge 7, 3) := by decide +kernel
theorem dX0_learn_57 : decode cX0_learn 57 = .ok (.iload_n 1, 1) := by decide +kernel
theorem dX0_learn_58 : decode cX0_learn 58 = .ok (.goto 4, 3) := by decide +kernel
theorem dX0_learn_61 : decode cX0_learn 61 = .ok (.iload_n 2, 1) := by decide +kernel
theorem dX0_learn_62 : decode cX0_learn 62 = .ok (.putfield 57, 3) := by decide +kernel
theorem dX0_learn_65 : decode cX0_learn 65 = .ok (.return_, 1) := by decide +kernel
abbrev cX0_flow : ByteArray := prog_1_method_10_code
def yX0_flow : MethodName := ⟨RX0, "flow", "(II)I"⟩
theorem dX0_flow_0 : decode cX0_flow 0 = .ok (.iconst 0, 1) := by decide +kernel
theorem dX0_flow_1 : decode cX0_flow 1 = .ok (.istore_n 3, 1) := by decide +kernel
theorem dX0_flow_2 : decode cX0_flow 2 = .ok (.iload_n 3, 1) := by decide +kernel
theorem dX0_flow_3 : decode cX0_flow 3 = .ok (.bipush 36, 2) := by decide +kernel
theorem dX0_flow_5 : decode cX0_flow 5 = .ok (.if_icmp .ge 21, 3) := by decide +kernel
theorem dX0_flow_8 : decode cX0_flow 8 = .ok (.aload_n 0, 1) := by decide +kernel
theorem dX0_flow_9 : decode cX0_flow 9 = .ok (.getfield 13, 3) := by decide +kernel
theorem dX0_flow_12 : decode cX0_flow 12 = .ok (.iload_n 3, 1) := by decide +kernel
theorem dX0_flow_13 : decode cX0_flow 13 = .ok (.aload_n 0, 1) := by decide +kernel
theorem dX0_flow_14 : decode cX0_flow 14 = .ok (.getfield 7, 3) := by decide +kernel
theorem dX0_flow_17 : decode cX0_flow 17 = .ok (.iload_n 3, 1) := by decide +kernel
theorem dX0_flow_18 : decode cX0_flow 18 = .ok (.baload, 1) := by decide +kernel
theorem dX0_flow_19 : decode cX0_flow 19 = .ok (.iastore, 1) := by decide +kernel
theorem dX0_flow_20 : decode cX0_flow 20 = .ok (.iinc 3 1, 3) := by decide +kernel
theorem dX0_flow_23 : decode cX0_flow 23 = .ok (.goto (-21), 3) := by decide +kernel
theorem dX0_flow_26 : decode cX0_flow 26 = .ok (.iconst 0, 1) := by decide +kernel
theorem dX0_flow_27 : decode cX0_flow 27 = .ok (.istore_n 3, 1) := by decide +kernel
theorem dX0_flow_28 : decode cX0_flow 28 = .ok (.iconst 0, 1) := by decide +kernel
theorem dX0_flow_29 : decode cX0_flow 29 = .ok (.istore 4, 2) := by decide +kernel
theorem dX0_flow_31 : decode cX0_flow 31 = .ok (.iload 4, 2) := by decide +kernel
theorem dX0_flow_33 : decode cX0_flow 33 = .ok (.sipush 128, 3) := by decide +kernel
theorem dX0_flow_36 : decode cX0_flow 36 = .ok (.if_icmp .ge 33, 3) := by decide +kernel
theorem dX0_flow_39 : decode cX0_flow 39 = .ok (.aload_n 0, 1) := by decide +kernel
theorem dX0_flow_40 : decode cX0_flow 40 = .ok (.iload_n 1, 1) := by decide +kernel
theorem dX0_flow_41 : decode cX0_flow 41 = .ok (.iload_n 2, 1) := by decide +kernel
theorem dX0_flow_42 : decode cX0_flow 42 = .ok (.invokevirtual 39, 3) := by decide +kernel
theorem dX0_flow_45 : decode cX0_flow 45 = .ok (.istore 5, 2) := by decide +kernel
theorem dX0_flow_47 : decode cX0_flow 47 = .ok (.iload 5, 2) := by decide +kernel
theorem dX0_flow_49 : decode cX0_flow 49 = .ok (.ifCond .ge 5, 3) := by decide +kernel
theorem dX0_flow_52 : decode cX0_flow 52 = .ok (.iload_n 3, 1) := by decide +kernel
theorem dX0_flow_53 : decode cX0_flow 53 = .ok (.ireturn, 1) := by decide +kernel
theorem dX0_flow_54 : decode cX0_flow 54 = .ok (.iload_n 3, 1) := by decide +kernel
theorem dX0_flow_55 : decode cX0_flow 55 = .ok (.aload_n 0, 1) := by decide +kernel
theorem dX0_flow_56 : decode cX0_flow 56 = .ok (.iload 5, 2) := by decide +kernel
theorem dX0_flow_58 : decode cX0_flow 58 = .ok (.invokevirtual 43, 3) := by decide +kernel
theorem dX0_flow_61 : decode cX0_flow 61 = .ok (.iadd, 1) := by decide +kernel
theorem dX0_flow_62 : decode cX0_flow 62 = .ok (.istore_n 3, 1) := by decide +kernel
theorem dX0_flow_63 : decode cX0_flow 63 = .ok (.iinc 4 1, 3) := by decide +kernel
theorem dX0_flow_66 : decode cX0_flow 66 = .ok (.goto (-35), 3) := by decide +kernel
theorem dX0_flow_69 : decode cX0_flow 69 = .ok (.iload_n 3, 1) := by decide +kernel
theorem dX0_flow_70 : decode cX0_flow 70 = .ok (.ireturn, 1) := by decide +kernel
abbrev cX0_spread : ByteArray := prog_1_method_8_code
def yX0_spread : MethodName := ⟨RX0, "spread", "(II)I"⟩
theorem dX0_spread_0 : decode cX0_spread 0 = .ok (.iload_n 1, 1) := by decide +kernel
theorem dX0_spread_1 : decode cX0_spread 1 = .ok (.istore_n 3, 1) := by decide +kernel
theorem dX0_spread_2 : decode cX0_spread 2 = .ok (.iconst 0, 1) := by decide +kernel
theorem dX0_spread_3 : decode cX0_spread 3 = .ok (.istore 4, 2) := by decide +kernel
theorem dX0_spread_5 : decode cX0_spread 5 = .ok (.iconst 0, 1) := by decide +kernel
theorem dX0_spread_6 : decode cX0_spread 6 = .ok (.istore 5, 2) := by decide +kernel
theorem dX0_spread_8 : decode cX0_spread 8 = .ok (.iload 5, 2) := by decide +kernel
theorem dX0_spread_10 : decode cX0_spread 10 = .ok (.bipush 6, 2) := by decide +kernel
theorem dX0_spread_12 : decode cX0_spread 12 = .ok (.if_icmp .ge 39, 3) := by decide +kernel
theorem dX0_spread_15 : decode cX0_spread 15 = .ok (.iload_n 1, 1) := by decide +kernel
theorem dX0_spread_16 : decode cX0_spread 16 = .ok (.iload 5, 2) := by decide +kernel
theorem dX0_spread_18 : decode cX0_spread 18 = .ok (.invokestatic 35, 3) := by decide +kernel
theorem dX0_spread_21 : decode cX0_spread 21 = .ok (.ifCond .eq 24, 3) := by decide +kernel
theorem dX0_spread_24 : decode cX0_spread 24 = .ok (.aload_n 0, 1) := by decide +kernel
theorem dX0_spread_25 : decode cX0_spread 25 = .ok (.getfield 17, 3) := by decide +kernel
theorem dX0_spread_28 : decode cX0_spread 28 = .ok (.iload 5, 2) := by decide +kernel
theorem dX0_spread_30 : decode cX0_spread 30 = .ok (.iconst (-1), 1) := by decide +kernel
theorem dX0_spread_31 : decode cX0_spread 31 = .ok (.bastore, 1) := by decide +kernel
theorem dX0_spread_32 : decode cX0_spread 32 = .ok (.aload_n 0, 1) := by decide +kernel
theorem dX0_spread_33 : decode cX0_spread 33 = .ok (.getfield 20, 3) := by decide +kernel
theorem dX0_spread_36 : decode cX0_spread 36 = .ok (.iload 4, 2) := by decide +kernel
theorem dX0_spread_38 : decode cX0_spread 38 = .ok (.iload 5, 2) := by decide +kernel
theorem dX0_spread_40 : decode cX0_spread 40 = .ok (.i2b, 1) := by decide +kernel
theorem dX0_spread_41 : decode cX0_spread 41 = .ok (.bastore, 1) := by decide +kernel
theorem dX0_spread_42 : decode cX0_spread 42 = .ok (.iinc 4 1, 3) := by decide +kernel
theorem dX0_spread_45 : decode cX0_spread 45 = .ok (.iinc 5 1, 3) := by decide +kernel
theorem dX0_spread_48 : decode cX0_spread 48 = .ok (.goto (-40), 3) := by decide +kernel
theorem dX0_spread_51 : decode cX0_spread 51 = .ok (.iconst 0, 1) := by decide +kernel
theorem dX0_spread_52 : decode cX0_spread 52 = .ok (.istore 5, 2) := by decide +kernel
theorem dX0_spread_54 : decode cX0_spread 54 = .ok (.iload 5, 2) := by decide +kernel
theorem dX0_spread_56 : decode cX0_spread 56 = .ok (.iload 4, 2) := by decide +kernel
theorem dX0_spread_58 : decode cX0_spread 58 = .ok (.if_icmp .ge 108, 3) := by decide +kernel
theorem dX0_spread_61 : decode cX0_spread 61 = .ok (.iload 5, 2) := by decide +kernel
theorem dX0_spread_63 : decode cX0_spread 63 = .ok (.bipush 6, 2) := by decide +kernel
theorem dX0_spread_65 : decode cX0_spread 65 = .ok (.if_icmp .ge 101, 3) := by decide +kernel
theorem dX0_spread_68 : decode cX0_spread 68 = .ok (.aload_n 0, 1) := by decide +kernel
theorem dX0_spread_69 : decode cX0_spread 69 = .ok (.getfield 20, 3) := by decide +kernel
theorem dX0_spread_72 : decode cX0_spread 72 = .ok (.iload 5, 2) := by decide +kernel
theorem dX0_spread_74 : decode cX0_spread 74 = .ok (.baload, 1) := by decide +kernel
theorem dX0_spread_75 : decode cX0_spread 75 = .ok (.istore 6, 2) := by decide +kernel
theorem dX0_spread_77 : decode cX0_spread 77 = .ok (.iconst 0, 1) := by decide +kernel
theorem dX0_spread_78 : decode cX0_spread 78 = .ok (.istore 7, 2) := by decide +kernel
theorem dX0_spread_80 : decode cX0_spread 80 = .ok (.iload 7, 2) := by decide +kernel
theorem dX0_spread_82 : decode cX0_spread 82 = .ok (.bipush 6, 2) := by decide +kernel
theorem dX0_spread_84 : decode cX0_spread 84 = .ok (.if_icmp .ge 76, 3) := by decide +kernel
theorem dX0_spread_87 : decode cX0_spread 87 = .ok (.iload_n 3, 1) := by decide +kernel
theorem dX0_spread_88 : decode cX0_spread 88 = .ok (.iload 7, 2) := by decide +kernel
theorem dX0_spread_90 : decode cX0_spread 90 = .ok (.invokestatic 35, 3) := by decide +kernel
theorem dX0_spread_93 : decode cX0_spread 93 = .ok (.ifCond .ne 61, 3) := by decide +kernel
theorem dX0_spread_96 : decode cX0_spread 96 = .ok (.aload_n 0, 1) := by decide +kernel
theorem dX0_spread_97 : decode cX0_spread 97 = .ok (.getfield 13, 3) := by decide +kernel
theorem dX0_spread_100 : decode cX0_spread 100 = .ok (.iload 6, 2) := by decide +kernel
theorem dX0_spread_102 : decode cX0_spread 102 = .ok (.bipush 6, 2) := by decide +kernel
theorem dX0_spread_104 : decode cX0_spread 104 = .ok (.imul, 1) := by decide +kernel
theorem dX0_spread_105 : decode cX0_spread 105 = .ok (.iload 7, 2) := by decide +kernel
theorem dX0_spread_107 : decode cX0_spread 107 = .ok (.iadd, 1) := by decide +kernel
theorem dX0_spread_108 : decode cX0_spread 108 = .ok (.iaload, 1) := by decide +kernel
theorem dX0_spread_109 : decode cX0_spread 109 = .ok (.ifCond .le 45, 3) := by decide +kernel
theorem dX0_spread_112 : decode cX0_spread 112 = .ok (.iload_n 3, 1) := by decide +kernel
theorem dX0_spread_113 : decode cX0_spread 113 = .ok (.iconst 1, 1) := by decide +kernel
theorem dX0_spread_114 : decode cX0_spread 114 = .ok (.iload 7, 2) := by decide +kernel
theorem dX0_spread_116 : decode cX0_spread 116 = .ok (.ishl, 1) := by decide +kernel
theorem dX0_spread_117 : decode cX0_spread 117 = .ok (.ior, 1) := by decide +kernel
theorem dX0_spread_118 : decode cX0_spread 118 = .ok (.istore_n 3, 1) := by decide +kernel
theorem dX0_spread_119 : decode cX0_spread 119 = .ok (.aload_n 0, 1) := by decide +kernel
theorem dX0_spread_120 : decode cX0_spread 120 = .ok (.getfield 17, 3) := by decide +kernel
theorem dX0_spread_123 : decode cX0_spread 123 = .ok (.iload 7, 2) := by decide +kernel
theorem dX0_spread_125 : decode cX0_spread 125 = .ok (.iload 6, 2) := by decide +kernel
theorem dX0_spread_127 : decode cX0_spread 127 = .ok (.i2b, 1) := by decide +kernel
theorem dX0_spread_128 : decode cX0_spread 128 = .ok (.bastore, 1) := by decide +kernel
theorem dX0_spread_129 : decode cX0_spread 129 = .ok (.iload_n 2, 1) := by decide +kernel
theorem dX0_spread_130 : decode cX0_spread 130 = .ok (.iload 7, 2) := by decide +kernel
theorem dX0_spread_132 : decode cX0_spread 132 = .ok (.invokestatic 35, 3) := by decide +kernel
theorem dX0_spread_135 : decode cX0_spread 135 = .ok (.ifCond .eq 6, 3) := by decide +kernel
theorem dX0_spread_138 : decode cX0_spread 138 = .ok (.iload 7, 2) := by decide +kernel
theorem dX0_spread_140 : decode cX0_spread 140 = .ok (.ireturn, 1) := by decide +kernel
theorem dX0_spread_141 : decode cX0_spread 141 = .ok (.aload_n 0, 1) := by decide +kernel
theorem dX0_spread_142 : decode cX0_spread 142 = .ok (.getfield 20, 3) := by decide +kernel
theorem dX0_spread_145 : decode cX0_spread 145 = .ok (.iload 4, 2) := by decide +kernel
theorem dX0_spread_147 : decode cX0_spread 147 = .ok (.iload 7, 2) := by decide +kernel
theorem dX0_spread_149 : decode cX0_spread 149 = .ok (.i2b, 1) := by decide +kernel
theorem dX0_spread_150 : decode cX0_spread 150 = .ok (.bastore, 1) := by decide +kernel
theorem dX0_spread_151 : decode cX0_spread 151 = .ok (.iinc 4 1, 3) := by decide +kernel
theorem dX0_spread_154 : decode cX0_spread 154 = .ok (.iinc 7 1, 3) := by decide +kernel
theorem dX0_spread_157 : decode cX0_spread 157 = .ok (.goto (-77), 3) := by decide +kernel
theorem dX0_spread_160 : decode cX0_spread 160 = .ok (.iinc 5 1, 3) := by decide +kernel
theorem dX0_spread_163 : decode cX0_spread 163 = .ok (.goto (-109), 3) := by decide +kernel
theorem dX0_spread_166 : decode cX0_spread 166 = .ok (.iconst (-1), 1) := by decide +kernel
theorem dX0_spread_167 : decode cX0_spread 167 = .ok (.ireturn, 1) := by decide +kernel
abbrev cX0_push : ByteArray := prog_1_method_9_code
def yX0_push : MethodName := ⟨RX0, "push", "(I)I"⟩
theorem dX0_push_0 : decode cX0_push 0 = .ok (.ldc 38, 2) := by decide +kernel
theorem dX0_push_2 : decode cX0_push 2 = .ok (.istore_n 2, 1) := by decide +kernel
theorem dX0_push_3 : decode cX0_push 3 = .ok (.iload_n 1, 1) := by decide +kernel
theorem dX0_push_4 : decode cX0_push 4 = .ok (.istore_n 3, 1) := by decide +kernel
theorem dX0_push_5 : decode cX0_push 5 = .ok (.aload_n 0, 1) := by decide +kernel
theorem dX0_push_6 : decode cX0_push 6 = .ok (.getfield 17, 3) := by decide +kernel
theorem dX0_push_9 : decode cX0_push 9 = .ok (.iload_n 3, 1) := by decide +kernel
theorem dX0_push_10 : decode cX0_push 10 = .ok (.baload, 1) := by decide +kernel
theorem dX0_push_11 : decode cX0_push 11 = .ok (.ifCond .lt 44, 3) := by decide +kernel
theorem dX0_push_14 : decode cX0_push 14 = .ok (.aload_n 0, 1) := by decide +kernel
theorem dX0_push_15 : decode cX0_push 15 = .ok (.getfield 13, 3) := by decide +kernel
theorem dX0_push_18 : decode cX0_push 18 = .ok (.aload_n 0, 1) := by decide +kernel
theorem dX0_push_19 : decode cX0_push 19 = .ok (.getfield 17, 3) := by decide +kernel
theorem dX0_push_22 : decode cX0_push 22 = .ok (.iload_n 3, 1) := by decide +kernel
theorem dX0_push_23 : decode cX0_push 23 = .ok (.baload, 1) := by decide +kernel
theorem dX0_push_24 : decode cX0_push 24 = .ok (.bipush 6, 2) := by decide +kernel
theorem dX0_push_26 : decode cX0_push 26 = .ok (.imul, 1) := by decide +kernel
theorem dX0_push_27 : decode cX0_push 27 = .ok (.iload_n 3, 1) := by decide +kernel
theorem dX0_push_28 : decode cX0_push 28 = .ok (.iadd, 1) := by decide +kernel
theorem dX0_push_29 : decode cX0_push 29 = .ok (.iaload, 1) := by decide +kernel
theorem dX0_push_30 : decode cX0_push 30 = .ok (.istore 4, 2) := by decide +kernel
theorem dX0_push_32 : decode cX0_push 32 = .ok (.iload 4, 2) := by decide +kernel
theorem dX0_push_34 : decode cX0_push 34 = .ok (.iload_n 2, 1) := by decide +kernel
theorem dX0_push_35 : decode cX0_push 35 = .ok (.if_icmp .ge 8, 3) := by decide +kernel
theorem dX0_push_38 : decode cX0_push 38 = .ok (.iload 4, 2) := by decide +kernel
theorem dX0_push_40 : decode cX0_push 40 = .ok (.goto 4, 3) := by decide +kernel
theorem dX0_push_43 : decode cX0_push 43 = .ok (.iload_n 2, 1) := by decide +kernel
theorem dX0_push_44 : decode cX0_push 44 = .ok (.istore_n 2, 1) := by decide +kernel
theorem dX0_push_45 : decode cX0_push 45 = .ok (.aload_n 0, 1) := by decide +kernel
theorem dX0_push_46 : decode cX0_push 46 = .ok (.getfield 17, 3) := by decide +kernel
theorem dX0_push_49 : decode cX0_push 49 = .ok (.iload_n 3, 1) := by decide +kernel
theorem dX0_push_50 : decode cX0_push 50 = .ok (.baload, 1) := by decide +kernel
theorem dX0_push_51 : decode cX0_push 51 = .ok (.istore_n 3, 1) := by decide +kernel
theorem dX0_push_52 : decode cX0_push 52 = .ok (.goto (-47), 3) := by decide +kernel
theorem dX0_push_55 : decode cX0_push 55 = .ok (.iload_n 1, 1) := by decide +kernel
theorem dX0_push_56 : decode cX0_push 56 = .ok (.istore_n 3, 1) := by decide +kernel
theorem dX0_push_57 : decode cX0_push 57 = .ok (.aload_n 0, 1) := by decide +kernel
theorem dX0_push_58 : decode cX0_push 58 = .ok (.getfield 17, 3) := by decide +kernel
theorem dX0_push_61 : decode cX0_push 61 = .ok (.iload_n 3, 1) := by decide +kernel
theorem dX0_push_62 : decode cX0_push 62 = .ok (.baload, 1) := by decide +kernel
theorem dX0_push_63 : decode cX0_push 63 = .ok (.ifCond .lt 53, 3) := by decide +kernel
theorem dX0_push_66 : decode cX0_push 66 = .ok (.aload_n 0, 1) := by decide +kernel
theorem dX0_push_67 : decode cX0_push 67 = .ok (.getfield 17, 3) := by decide +kernel
theorem dX0_push_70 : decode cX0_push 70 = .ok (.iload_n 3, 1) := by decide +kernel
theorem dX0_push_71 : decode cX0_push 71 = .ok (.baload, 1) := by decide +kernel
theorem dX0_push_72 : decode cX0_push 72 = .ok (.istore 4, 2) := by decide +kernel
theorem dX0_push_74 : decode cX0_push 74 = .ok (.aload_n 0, 1) := by decide +kernel
theorem dX0_push_75 : decode cX0_push 75 = .ok (.getfield 13, 3) := by decide +kernel
theorem dX0_push_78 : decode cX0_push 78 = .ok (.iload 4, 2) := by decide +kernel
theorem dX0_push_80 : decode cX0_push 80 = .ok (.bipush 6, 2) := by decide +kernel
theorem dX0_push_82 : decode cX0_push 82 = .ok (.imul, 1) := by decide +kernel
theorem dX0_push_83 : decode cX0_push 83 = .ok (.iload_n 3, 1) := by decide +kernel
theorem dX0_push_84 : decode cX0_push 84 = .ok (.iadd, 1) := by decide +kernel
theorem dX0_push_85 : decode cX0_push 85 = .ok (.dup2, 1) := by decide +kernel
theorem dX0_push_86 : decode cX0_push 86 = .ok (.iaload, 1) := by decide +kernel
theorem dX0_push_87 : decode cX0_push 87 = .ok (.iload_n 2, 1) := by decide +kernel
theorem dX0_push_88 : decode cX0_push 88 = .ok (.isub, 1) := by decide +kernel
theorem dX0_push_89 : decode cX0_push 89 = .ok (.iastore, 1) := by decide +kernel
theorem dX0_push_90 : decode cX0_push 90 = .ok (.aload_n 0, 1) := by decide +kernel
theorem dX0_push_91 : decode cX0_push 91 = .ok (.getfield 13, 3) := by decide +kernel
theorem dX0_push_94 : decode cX0_push 94 = .ok (.iload_n 3, 1) := by decide +kernel
theorem dX0_push_95 : decode cX0_push 95 = .ok (.bipush 6, 2) := by decide +kernel
theorem dX0_push_97 : decode cX0_push 97 = .ok (.imul, 1) := by decide +kernel
theorem dX0_push_98 : decode cX0_push 98 = .ok (.iload 4, 2) := by decide +kernel
theorem dX0_push_100 : decode cX0_push 100 = .ok (.iadd, 1) := by decide +kernel
theorem dX0_push_101 : decode cX0_push 101 = .ok (.dup2, 1) := by decide +kernel
theorem dX0_push_102 : decode cX0_push 102 = .ok (.iaload, 1) := by decide +kernel
theorem dX0_push_103 : decode cX0_push 103 = .ok (.iload_n 2, 1) := by decide +kernel
theorem dX0_push_104 : decode cX0_push 104 = .ok (.iadd, 1) := by decide +kernel
theorem dX0_push_105 : decode cX0_push 105 = .ok (.iastore, 1) := by decide +kernel
theorem dX0_push_106 : decode cX0_push 106 = .ok (.aload_n 0, 1) := by decide +kernel
theorem dX0_push_107 : decode cX0_push 107 = .ok (.getfield 17, 3) := by decide +kernel
theorem dX0_push_110 : decode cX0_push 110 = .ok (.iload_n 3, 1) := by decide +kernel
theorem dX0_push_111 : decode cX0_push 111 = .ok (.baload, 1) := by decide +kernel
theorem dX0_push_112 : decode cX0_push 112 = .ok (.istore_n 3, 1) := by decide +kernel
theorem dX0_push_113 : decode cX0_push 113 = .ok (.goto (-56), 3) := by decide +kernel
theorem dX0_push_116 : decode cX0_push 116 = .ok (.iload_n 2, 1) := by decide +kernel
theorem dX0_push_117 : decode cX0_push 117 = .ok (.ireturn, 1) := by decide +kernel
abbrev cX0_alone : ByteArray := prog_1_method_13_code
def yX0_alone : MethodName := ⟨RX0, "alone", "(I)I"⟩
theorem dX0_alone_0 : decode cX0_alone 0 = .ok (.aload_n 0, 1) := by decide +kernel
theorem dX0_alone_1 : decode cX0_alone 1 = .ok (.invokevirtual 60, 3) := by decide +kernel
theorem dX0_alone_4 : decode cX0_alone 4 = .ok (.iload_n 1, 1) := by decide +kernel
theorem dX0_alone_5 : decode cX0_alone 5 = .ok (.ifCond .ne 8, 3) := by decide +kernel
theorem dX0_alone_8 : decode cX0_alone 8 = .ok (.aload_n 0, 1) := by decide +kernel
theorem dX0_alone_9 : decode cX0_alone 9 = .ok (.getfield 50, 3) := by decide +kernel
theorem dX0_alone_12 : decode cX0_alone 12 = .ok (.ireturn, 1) := by decide +kernel
theorem dX0_alone_13 : decode cX0_alone 13 = .ok (.iload_n 1, 1) := by decide +kernel
theorem dX0_alone_14 : decode cX0_alone 14 = .ok (.iconst 1, 1) := by decide +kernel
theorem dX0_alone_15 : decode cX0_alone 15 = .ok (.if_icmp .ne 10, 3) := by decide +kernel
theorem dX0_alone_18 : decode cX0_alone 18 = .ok (.aload_n 0, 1) := by decide +kernel
theorem dX0_alone_19 : decode cX0_alone 19 = .ok (.getfield 54, 3) := by decide +kernel
theorem dX0_alone_22 : decode cX0_alone 22 = .ok (.goto 4, 3) := by decide +kernel
theorem dX0_alone_25 : decode cX0_alone 25 = .ok (.iconst (-1), 1) := by decide +kernel
theorem dX0_alone_26 : decode cX0_alone 26 = .ok (.ireturn, 1) := by decide +kernel
abbrev cX0_most : ByteArray := prog_1_method_14_code
def yX0_most : MethodName := ⟨RX0, "most", "()I"⟩
theorem dX0_most_0 : decode cX0_most 0 = .ok (.aload_n 0, 1) := by decide +kernel
theorem dX0_most_1 : decode cX0_most 1 = .ok (.invokevirtual 60, 3) := by decide +kernel
theorem dX0_most_4 : decode cX0_most 4 = .ok (.aload_n 0, 1) := by decide +kernel
theorem dX0_most_5 : decode cX0_most 5 = .ok (.getfield 50, 3) := by decide +kernel
theorem dX0_most_8 : decode cX0_most 8 = .ok (.aload_n 0, 1) := by decide +kernel
theorem dX0_most_9 : decode cX0_most 9 = .ok (.getfield 54, 3) := by decide +kernel
theorem dX0_most_12 : decode cX0_most 12 = .ok (.iadd, 1) := by decide +kernel
theorem dX0_most_13 : decode cX0_most 13 = .ok (.aload_n 0, 1) := by decide +kernel
theorem dX0_most_14 : decode cX0_most 14 = .ok (.getfield 57, 3) := by decide +kernel
theorem dX0_most_17 : decode cX0_most 17 = .ok (.if_icmp .ge 15, 3) := by decide +kernel
theorem dX0_most_20 : decode cX0_most 20 = .ok (.aload_n 0, 1) := by decide +kernel
theorem dX0_most_21 : decode cX0_most 21 = .ok (.getfield 50, 3) := by decide +kernel
theorem dX0_most_24 : decode cX0_most 24 = .ok (.aload_n 0, 1) := by decide +kernel
theorem dX0_most_25 : decode cX0_most 25 = .ok (.getfield 54, 3) := by decide +kernel
theorem dX0_most_28 : decode cX0_most 28 = .ok (.iadd, 1) := by decide +kernel
theorem dX0_most_29 : decode cX0_most 29 = .ok (.goto 7, 3) := by decide +kernel
theorem dX0_most_32 : decode cX0_most 32 = .ok (.aload_n 0, 1) := by decide +kernel
theorem dX0_most_33 : decode cX0_most 33 = .ok (.getfield 57, 3) := by decide +kernel
theorem dX0_most_36 : decode cX0_most 36 = .ok (.ireturn, 1) := by decide +kernel
abbrev cX0_besides : ByteArray := prog_1_method_15_code
def yX0_besides : MethodName := ⟨RX0, "besides", "(I)I"⟩
theorem dX0_besides_0 : decode cX0_besides 0 = .ok (.aload_n 0, 1) := by decide +kernel
theorem dX0_besides_1 : decode cX0_besides 1 = .ok (.invokevirtual 60, 3) := by decide +kernel
theorem dX0_besides_4 : decode cX0_besides 4 = .ok (.iload_n 1, 1) := by decide +kernel
theorem dX0_besides_5 : decode cX0_besides 5 = .ok (.ifCond .lt 11, 3) := by decide +kernel
theorem dX0_besides_8 : decode cX0_besides 8 = .ok (.iload_n 1, 1) := by decide +kernel
theorem dX0_besides_9 : decode cX0_besides 9 = .ok (.aload_n 0, 1) := by decide +kernel
theorem dX0_besides_10 : decode cX0_besides 10 = .ok (.getfield 50, 3) := by decide +kernel
theorem dX0_besides_13 : decode cX0_besides 13 = .ok (.if_icmp .le 5, 3) := by decide +kernel
theorem dX0_besides_16 : decode cX0_besides 16 = .ok (.iconst (-1), 1) := by decide +kernel
theorem dX0_besides_17 : decode cX0_besides 17 = .ok (.ireturn, 1) := by decide +kernel
theorem dX0_besides_18 : decode cX0_besides 18 = .ok (.aload_n 0, 1) := by decide +kernel
theorem dX0_besides_19 : decode cX0_besides 19 = .ok (.getfield 54, 3) := by decide +kernel
theorem dX0_besides_22 : decode cX0_besides 22 = .ok (.aload_n 0, 1) := by decide +kernel
theorem dX0_besides_23 : decode cX0_besides 23 = .ok (.getfield 57, 3) := by decide +kernel
theorem dX0_besides_26 : decode cX0_besides 26 = .ok (.iload_n 1, 1) := by decide +kernel
theorem dX0_besides_27 : decode cX0_besides 27 = .ok (.isub, 1) := by decide +kernel
theorem dX0_besides_28 : decode cX0_besides 28 = .ok (.if_icmp .ge 10, 3) := by decide +kernel
theorem dX0_besides_31 : decode cX0_besides 31 = .ok (.aload_n 0, 1) := by decide +kernel
theorem dX0_besides_32 : decode cX0_besides 32 = .ok (.getfield 54, 3) := by decide +kernel
theorem dX0_besides_35 : decode cX0_besides 35 = .ok (.goto 9, 3) := by decide +kernel
theorem dX0_besides_38 : decode cX0_besides 38 = .ok (.aload_n 0, 1) := by decide +kernel
theorem dX0_besides_39 : decode cX0_besides 39 = .ok (.getfield 57, 3) := by decide +kernel
theorem dX0_besides_42 : decode cX0_besides 42 = .ok (.iload_n 1, 1) := by decide +kernel
theorem dX0_besides_43 : decode cX0_besides 43 = .ok (.isub, 1) := by decide +kernel
theorem dX0_besides_44 : decode cX0_besides 44 = .ok (.ireturn, 1) := by decide +kernel
abbrev cX0_evenly : ByteArray := prog_1_method_16_code
def yX0_evenly : MethodName := ⟨RX0, "evenly", "()I"⟩
theorem dX0_evenly_0 : decode cX0_evenly 0 = .ok (.aload_n 0, 1) := by decide +kernel
theorem dX0_evenly_1 : decode cX0_evenly 1 = .ok (.invokevirtual 60, 3) := by decide +kernel
theorem dX0_evenly_4 : decode cX0_evenly 4 = .ok (.aload_n 0, 1) := by decide +kernel
theorem dX0_evenly_5 : decode cX0_evenly 5 = .ok (.getfield 57, 3) := by decide +kernel
theorem dX0_evenly_8 : decode cX0_evenly 8 = .ok (.iconst 2, 1) := by decide +kernel
theorem dX0_evenly_9 : decode cX0_evenly 9 = .ok (.idiv, 1) := by decide +kernel
theorem dX0_evenly_10 : decode cX0_evenly 10 = .ok (.istore_n 1, 1) := by decide +kernel
theorem dX0_evenly_11 : decode cX0_evenly 11 = .ok (.aload_n 0, 1) := by decide +kernel
theorem dX0_evenly_12 : decode cX0_evenly 12 = .ok (.getfield 50, 3) := by decide +kernel
theorem dX0_evenly_15 : decode cX0_evenly 15 = .ok (.iload_n 1, 1) := by decide +kernel
theorem dX0_evenly_16 : decode cX0_evenly 16 = .ok (.if_icmp .ge 10, 3) := by decide +kernel
theorem dX0_evenly_19 : decode cX0_evenly 19 = .ok (.aload_n 0, 1) := by decide +kernel
theorem dX0_evenly_20 : decode cX0_evenly 20 = .ok (.getfield 50, 3) := by decide +kernel
theorem dX0_evenly_23 : decode cX0_evenly 23 = .ok (.goto 4, 3) := by decide +kernel
theorem dX0_evenly_26 : decode cX0_evenly 26 = .ok (.iload_n 1, 1) := by decide +kernel
theorem dX0_evenly_27 : decode cX0_evenly 27 = .ok (.istore_n 1, 1) := by decide +kernel
theorem dX0_evenly_28 : decode cX0_evenly 28 = .ok (.aload_n 0, 1) := by decide +kernel
theorem dX0_evenly_29 : decode cX0_evenly 29 = .ok (.getfield 54, 3) := by decide +kernel
theorem dX0_evenly_32 : decode cX0_evenly 32 = .ok (.iload_n 1, 1) := by decide +kernel
theorem dX0_evenly_33 : decode cX0_evenly 33 = .ok (.if_icmp .ge 10, 3) := by decide +kernel
theorem dX0_evenly_36 : decode cX0_evenly 36 = .ok (.aload_n 0, 1) := by decide +kernel
theorem dX0_evenly_37 : decode cX0_evenly 37 = .ok (.getfield 54, 3) := by decide +kernel
theorem dX0_evenly_40 : decode cX0_evenly 40 = .ok (.goto 4, 3) := by decide +kernel
theorem dX0_evenly_43 : decode cX0_evenly 43 = .ok (.iload_n 1, 1) := by decide +kernel
theorem dX0_evenly_44 : decode cX0_evenly 44 = .ok (.ireturn, 1) := by decide +kernel
abbrev cX0_pairs : ByteArray := prog_1_method_17_code
def yX0_pairs : MethodName := ⟨RX0, "pairs", "()I"⟩
theorem dX0_pairs_0 : decode cX0_pairs 0 = .ok (.aload_n 0, 1) := by decide +kernel
theorem dX0_pairs_1 : decode cX0_pairs 1 = .ok (.invokevirtual 60, 3) := by decide +kernel
theorem dX0_pairs_4 : decode cX0_pairs 4 = .ok (.iconst 0, 1) := by decide +kernel
theorem dX0_pairs_5 : decode cX0_pairs 5 = .ok (.istore_n 1, 1) := by decide +kernel
theorem dX0_pairs_6 : decode cX0_pairs 6 = .ok (.iconst 0, 1) := by decide +kernel
theorem dX0_pairs_7 : decode cX0_pairs 7 = .ok (.istore_n 2, 1) := by decide +kernel
theorem dX0_pairs_8 : decode cX0_pairs 8 = .ok (.iload_n 2, 1) := by decide +kernel
theorem dX0_pairs_9 : decode cX0_pairs 9 = .ok (.aload_n 0, 1) := by decide +kernel
theorem dX0_pairs_10 : decode cX0_pairs 10 = .ok (.getfield 50, 3) := by decide +kernel
theorem dX0_pairs_13 : decode cX0_pairs 13 = .ok (.if_icmp .gt 19, 3) := by decide +kernel
theorem dX0_pairs_16 : decode cX0_pairs 16 = .ok (.iload_n 1, 1) := by decide +kernel
theorem dX0_pairs_17 : decode cX0_pairs 17 = .ok (.iconst 1, 1) := by decide +kernel
theorem dX0_pairs_18 : decode cX0_pairs 18 = .ok (.aload_n 0, 1) := by decide +kernel
theorem dX0_pairs_19 : decode cX0_pairs 19 = .ok (.iload_n 2, 1) := by decide +kernel
theorem dX0_pairs_20 : decode cX0_pairs 20 = .ok (.invokevirtual 63, 3) := by decide +kernel
theorem dX0_pairs_23 : decode cX0_pairs 23 = .ok (.iadd, 1) := by decide +kernel
theorem dX0_pairs_24 : decode cX0_pairs 24 = .ok (.iadd, 1) := by decide +kernel
theorem dX0_pairs_25 : decode cX0_pairs 25 = .ok (.istore_n 1, 1) := by decide +kernel
theorem dX0_pairs_26 : decode cX0_pairs 26 = .ok (.iinc 2 1, 3) := by decide +kernel
theorem dX0_pairs_29 : decode cX0_pairs 29 = .ok (.goto (-21), 3) := by decide +kernel
theorem dX0_pairs_32 : decode cX0_pairs 32 = .ok (.iload_n 1, 1) := by decide +kernel
theorem dX0_pairs_33 : decode cX0_pairs 33 = .ok (.ireturn, 1) := by decide +kernel
abbrev cX0_worth : ByteArray := prog_1_method_19_code
def yX0_worth : MethodName := ⟨RX0, "worth", "(II)I"⟩
theorem dX0_worth_0 : decode cX0_worth 0 = .ok (.iload_n 1, 1) := by decide +kernel
theorem dX0_worth_1 : decode cX0_worth 1 = .ok (.iload_n 2, 1) := by decide +kernel
theorem dX0_worth_2 : decode cX0_worth 2 = .ok (.invokestatic 27, 3) := by decide +kernel
theorem dX0_worth_5 : decode cX0_worth 5 = .ok (.ifCond .eq 25, 3) := by decide +kernel
theorem dX0_worth_8 : decode cX0_worth 8 = .ok (.aload_n 0, 1) := by decide +kernel
theorem dX0_worth_9 : decode cX0_worth 9 = .ok (.iload_n 1, 1) := by decide +kernel
theorem dX0_worth_10 : decode cX0_worth 10 = .ok (.iload_n 2, 1) := by decide +kernel
theorem dX0_worth_11 : decode cX0_worth 11 = .ok (.aload_n 0, 1) := by decide +kernel
theorem dX0_worth_12 : decode cX0_worth 12 = .ok (.getfield 7, 3) := by decide +kernel
theorem dX0_worth_15 : decode cX0_worth 15 = .ok (.iload_n 1, 1) := by decide +kernel
theorem dX0_worth_16 : decode cX0_worth 16 = .ok (.bipush 6, 2) := by decide +kernel
theorem dX0_worth_18 : decode cX0_worth 18 = .ok (.imul, 1) := by decide +kernel
theorem dX0_worth_19 : decode cX0_worth 19 = .ok (.iload_n 2, 1) := by decide +kernel
theorem dX0_worth_20 : decode cX0_worth 20 = .ok (.iadd, 1) := by decide +kernel
theorem dX0_worth_21 : decode cX0_worth 21 = .ok (.baload, 1) := by decide +kernel
theorem dX0_worth_22 : decode cX0_worth 22 = .ok (.iconst 1, 1) := by decide +kernel
theorem dX0_worth_23 : decode cX0_worth 23 = .ok (.iadd, 1) := by decide +kernel
theorem dX0_worth_24 : decode cX0_worth 24 = .ok (.invokevirtual 70, 3) := by decide +kernel
theorem dX0_worth_27 : decode cX0_worth 27 = .ok (.goto 4, 3) := by decide +kernel
theorem dX0_worth_30 : decode cX0_worth 30 = .ok (.iconst (-1), 1) := by decide +kernel
theorem dX0_worth_31 : decode cX0_worth 31 = .ok (.ireturn, 1) := by decide +kernel
abbrev cX0_change : ByteArray := prog_1_method_18_code
def yX0_change : MethodName := ⟨RX0, "change", "(III)I"⟩
theorem dX0_change_0 : decode cX0_change 0 = .ok (.aload_n 0, 1) := by decide +kernel
theorem dX0_change_1 : decode cX0_change 1 = .ok (.invokevirtual 66, 3) := by decide +kernel
theorem dX0_change_4 : decode cX0_change 4 = .ok (.istore 4, 2) := by decide +kernel
theorem dX0_change_6 : decode cX0_change 6 = .ok (.aload_n 0, 1) := by decide +kernel
theorem dX0_change_7 : decode cX0_change 7 = .ok (.getfield 7, 3) := by decide +kernel
theorem dX0_change_10 : decode cX0_change 10 = .ok (.iload_n 1, 1) := by decide +kernel
theorem dX0_change_11 : decode cX0_change 11 = .ok (.bipush 6, 2) := by decide +kernel
theorem dX0_change_13 : decode cX0_change 13 = .ok (.imul, 1) := by decide +kernel
theorem dX0_change_14 : decode cX0_change 14 = .ok (.iload_n 2, 1) := by decide +kernel
theorem dX0_change_15 : decode cX0_change 15 = .ok (.iadd, 1) := by decide +kernel
theorem dX0_change_16 : decode cX0_change 16 = .ok (.baload, 1) := by decide +kernel
theorem dX0_change_17 : decode cX0_change 17 = .ok (.istore 5, 2) := by decide +kernel
theorem dX0_change_19 : decode cX0_change 19 = .ok (.aload_n 0, 1) := by decide +kernel
theorem dX0_change_20 : decode cX0_change 20 = .ok (.iload_n 1, 1) := by decide +kernel
theorem dX0_change_21 : decode cX0_change 21 = .ok (.iload_n 2, 1) := by decide +kernel
theorem dX0_change_22 : decode cX0_change 22 = .ok (.iload_n 3, 1) := by decide +kernel
theorem dX0_change_23 : decode cX0_change 23 = .ok (.invokevirtual 31, 3) := by decide +kernel
theorem dX0_change_26 : decode cX0_change 26 = .ok (.aload_n 0, 1) := by decide +kernel
theorem dX0_change_27 : decode cX0_change 27 = .ok (.invokevirtual 66, 3) := by decide +kernel
theorem dX0_change_30 : decode cX0_change 30 = .ok (.istore 6, 2) := by decide +kernel
theorem dX0_change_32 : decode cX0_change 32 = .ok (.aload_n 0, 1) := by decide +kernel
theorem dX0_change_33 : decode cX0_change 33 = .ok (.iload_n 1, 1) := by decide +kernel
theorem dX0_change_34 : decode cX0_change 34 = .ok (.iload_n 2, 1) := by decide +kernel
theorem dX0_change_35 : decode cX0_change 35 = .ok (.iload 5, 2) := by decide +kernel
theorem dX0_change_37 : decode cX0_change 37 = .ok (.invokevirtual 31, 3) := by decide +kernel
theorem dX0_change_40 : decode cX0_change 40 = .ok (.iload 6, 2) := by decide +kernel
theorem dX0_change_42 : decode cX0_change 42 = .ok (.iload 4, 2) := by decide +kernel
theorem dX0_change_44 : decode cX0_change 44 = .ok (.isub, 1) := by decide +kernel
theorem dX0_change_45 : decode cX0_change 45 = .ok (.ireturn, 1) := by decide +kernel
abbrev cX0_loss : ByteArray := prog_1_method_20_code
def yX0_loss : MethodName := ⟨RX0, "loss", "(II)I"⟩
theorem dX0_loss_0 : decode cX0_loss 0 = .ok (.iload_n 1, 1) := by decide +kernel
theorem dX0_loss_1 : decode cX0_loss 1 = .ok (.iload_n 2, 1) := by decide +kernel
theorem dX0_loss_2 : decode cX0_loss 2 = .ok (.invokestatic 27, 3) := by decide +kernel
theorem dX0_loss_5 : decode cX0_loss 5 = .ok (.ifCond .eq 14, 3) := by decide +kernel
theorem dX0_loss_8 : decode cX0_loss 8 = .ok (.aload_n 0, 1) := by decide +kernel
theorem dX0_loss_9 : decode cX0_loss 9 = .ok (.iload_n 1, 1) := by decide +kernel
theorem dX0_loss_10 : decode cX0_loss 10 = .ok (.iload_n 2, 1) := by decide +kernel
theorem dX0_loss_11 : decode cX0_loss 11 = .ok (.iconst 0, 1) := by decide +kernel
theorem dX0_loss_12 : decode cX0_loss 12 = .ok (.invokevirtual 70, 3) := by decide +kernel
theorem dX0_loss_15 : decode cX0_loss 15 = .ok (.ineg, 1) := by decide +kernel
theorem dX0_loss_16 : decode cX0_loss 16 = .ok (.goto 4, 3) := by decide +kernel
theorem dX0_loss_19 : decode cX0_loss 19 = .ok (.iconst (-1), 1) := by decide +kernel
theorem dX0_loss_20 : decode cX0_loss 20 = .ok (.ireturn, 1) := by decide +kernel
abbrev cX0_full : ByteArray := prog_1_method_21_code
def yX0_full : MethodName := ⟨RX0, "full", "(II)Z"⟩
theorem dX0_full_0 : decode cX0_full 0 = .ok (.aload_n 0, 1) := by decide +kernel
theorem dX0_full_1 : decode cX0_full 1 = .ok (.iload_n 1, 1) := by decide +kernel
theorem dX0_full_2 : decode cX0_full 2 = .ok (.iload_n 2, 1) := by decide +kernel
theorem dX0_full_3 : decode cX0_full 3 = .ok (.invokevirtual 74, 3) := by decide +kernel
theorem dX0_full_6 : decode cX0_full 6 = .ok (.ifCond .ne 5, 3) := by decide +kernel
theorem dX0_full_9 : decode cX0_full 9 = .ok (.iconst 0, 1) := by decide +kernel
theorem dX0_full_10 : decode cX0_full 10 = .ok (.ireturn, 1) := by decide +kernel
theorem dX0_full_11 : decode cX0_full 11 = .ok (.iload_n 1, 1) := by decide +kernel
theorem dX0_full_12 : decode cX0_full 12 = .ok (.aload_n 0, 1) := by decide +kernel
theorem dX0_full_13 : decode cX0_full 13 = .ok (.getfield 50, 3) := by decide +kernel
theorem dX0_full_16 : decode cX0_full 16 = .ok (.if_icmp .ge 18, 3) := by decide +kernel
theorem dX0_full_19 : decode cX0_full 19 = .ok (.aload_n 0, 1) := by decide +kernel
theorem dX0_full_20 : decode cX0_full 20 = .ok (.iload_n 1, 1) := by decide +kernel
theorem dX0_full_21 : decode cX0_full 21 = .ok (.iconst 1, 1) := by decide +kernel
theorem dX0_full_22 : decode cX0_full 22 = .ok (.iadd, 1) := by decide +kernel
theorem dX0_full_23 : decode cX0_full 23 = .ok (.iload_n 2, 1) := by decide +kernel
theorem dX0_full_24 : decode cX0_full 24 = .ok (.invokevirtual 74, 3) := by decide +kernel
theorem dX0_full_27 : decode cX0_full 27 = .ok (.ifCond .eq 7, 3) := by decide +kernel
theorem dX0_full_30 : decode cX0_full 30 = .ok (.iconst 1, 1) := by decide +kernel
theorem dX0_full_31 : decode cX0_full 31 = .ok (.goto 4, 3) := by decide +kernel
theorem dX0_full_34 : decode cX0_full 34 = .ok (.iconst 0, 1) := by decide +kernel
theorem dX0_full_35 : decode cX0_full 35 = .ok (.istore_n 3, 1) := by decide +kernel
theorem dX0_full_36 : decode cX0_full 36 = .ok (.iload_n 2, 1) := by decide +kernel
theorem dX0_full_37 : decode cX0_full 37 = .ok (.aload_n 0, 1) := by decide +kernel
theorem dX0_full_38 : decode cX0_full 38 = .ok (.getfield 54, 3) := by decide +kernel
theorem dX0_full_41 : decode cX0_full 41 = .ok (.if_icmp .ge 18, 3) := by decide +kernel
theorem dX0_full_44 : decode cX0_full 44 = .ok (.aload_n 0, 1) := by decide +kernel
theorem dX0_full_45 : decode cX0_full 45 = .ok (.iload_n 1, 1) := by decide +kernel
theorem dX0_full_46 : decode cX0_full 46 = .ok (.iload_n 2, 1) := by decide +kernel
theorem dX0_full_47 : decode cX0_full 47 = .ok (.iconst 1, 1) := by decide +kernel
theorem dX0_full_48 : decode cX0_full 48 = .ok (.iadd, 1) := by decide +kernel
theorem dX0_full_49 : decode cX0_full 49 = .ok (.invokevirtual 74, 3) := by decide +kernel
theorem dX0_full_52 : decode cX0_full 52 = .ok (.ifCond .eq 7, 3) := by decide +kernel
theorem dX0_full_55 : decode cX0_full 55 = .ok (.iconst 1, 1) := by decide +kernel
theorem dX0_full_56 : decode cX0_full 56 = .ok (.goto 4, 3) := by decide +kernel
theorem dX0_full_59 : decode cX0_full 59 = .ok (.iconst 0, 1) := by decide +kernel
theorem dX0_full_60 : decode cX0_full 60 = .ok (.istore 4, 2) := by decide +kernel
theorem dX0_full_62 : decode cX0_full 62 = .ok (.iload_n 3, 1) := by decide +kernel
theorem dX0_full_63 : decode cX0_full 63 = .ok (.ifCond .ne 12, 3) := by decide +kernel
theorem dX0_full_66 : decode cX0_full 66 = .ok (.iload 4, 2) := by decide +kernel
theorem dX0_full_68 : decode cX0_full 68 = .ok (.ifCond .ne 7, 3) := by decide +kernel
theorem dX0_full_71 : decode cX0_full 71 = .ok (.iconst 1, 1) := by decide +kernel
theorem dX0_full_72 : decode cX0_full 72 = .ok (.goto 4, 3) := by decide +kernel
theorem dX0_full_75 : decode cX0_full 75 = .ok (.iconst 0, 1) := by decide +kernel
theorem dX0_full_76 : decode cX0_full 76 = .ok (.ireturn, 1) := by decide +kernel
theorem q12 : (Jvm.Cond.initialized "TwoFlows") ∈ lw_all := lw_g (lw_at lw_m0 1 rfl) rfl
theorem q15 : (Jvm.Cond.instantiable "TwoFlows" (8 : Nat)) ∈ lw_all := lw_g (lw_at lw_m0 4 rfl) rfl
theorem q17 : (Jvm.Cond.instanceMethod ({ cls := "TwoFlows", name := "<init>", desc := "()V" } : Jvm.MethodName)) ∈ lw_all := lw_g (lw_at lw_m0 6 rfl) rfl
theorem q18 : (Jvm.Cond.code ({ cls := "TwoFlows", name := "<init>", desc := "()V" } : Jvm.MethodName) prog_1_method_1_code (1 : Nat) (Option.none : Option Jvm.ClassFile.FieldType)) ∈ lw_all := lw_g (lw_at lw_m0 7 rfl) rfl
theorem q19 : (Jvm.Cond.methodLink "TwoFlows" (1 : Nat) ({ cls := "java/lang/Object", name := "<init>", desc := "()V" } : Jvm.MethodName)) ∈ lw_all := lw_g (lw_at lw_m0 8 rfl) rfl
theorem q22 : (Jvm.Cond.fieldLink "TwoFlows" (7 : Nat) "TwoFlows" "capacities" "[B") ∈ lw_all := lw_g (lw_at lw_m0 11 rfl) rfl
theorem q23 : (Jvm.Cond.fieldLink "TwoFlows" (13 : Nat) "TwoFlows" "room" "[I") ∈ lw_all := lw_g (lw_at lw_m0 12 rfl) rfl
theorem q24 : (Jvm.Cond.fieldLink "TwoFlows" (17 : Nat) "TwoFlows" "cameFrom" "[B") ∈ lw_all := lw_g (lw_at lw_m0 13 rfl) rfl
theorem q25 : (Jvm.Cond.fieldLink "TwoFlows" (20 : Nat) "TwoFlows" "line" "[B") ∈ lw_all := lw_g (lw_at lw_m0 14 rfl) rfl
theorem q26 : (Jvm.Cond.fieldLink "TwoFlows" (23 : Nat) "TwoFlows" "known" "Z") ∈ lw_all := lw_g (lw_at lw_m0 15 rfl) rfl
theorem q27 : (Jvm.Cond.fieldLink "TwoFlows" (50 : Nat) "TwoFlows" "first" "I") ∈ lw_all := lw_g (lw_at lw_m0 16 rfl) rfl
theorem q28 : (Jvm.Cond.fieldLink "TwoFlows" (54 : Nat) "TwoFlows" "second" "I") ∈ lw_all := lw_g (lw_at lw_m0 17 rfl) rfl
theorem q29 : (Jvm.Cond.fieldLink "TwoFlows" (57 : Nat) "TwoFlows" "both" "I") ∈ lw_all := lw_g (lw_at lw_m0 18 rfl) rfl
theorem q30 : (Jvm.Cond.laysFinal "TwoFlows" "TwoFlows" "capacities" "[B") ∈ lw_all := lw_g (lw_at lw_m0 19 rfl) rfl
theorem q31 : (Jvm.Cond.soleField "TwoFlows" "capacities") ∈ lw_all := lw_g (lw_at lw_m0 20 rfl) rfl
theorem q32 : (Jvm.Cond.laysFinal "TwoFlows" "TwoFlows" "room" "[I") ∈ lw_all := lw_g (lw_at lw_m0 21 rfl) rfl
theorem q33 : (Jvm.Cond.soleField "TwoFlows" "room") ∈ lw_all := lw_g (lw_at lw_m0 22 rfl) rfl
theorem q34 : (Jvm.Cond.laysFinal "TwoFlows" "TwoFlows" "cameFrom" "[B") ∈ lw_all := lw_g (lw_at lw_m0 23 rfl) rfl
theorem q35 : (Jvm.Cond.soleField "TwoFlows" "cameFrom") ∈ lw_all := lw_g (lw_at lw_m0 24 rfl) rfl
theorem q36 : (Jvm.Cond.laysFinal "TwoFlows" "TwoFlows" "line" "[B") ∈ lw_all := lw_g (lw_at lw_m0 25 rfl) rfl
theorem q37 : (Jvm.Cond.soleField "TwoFlows" "line") ∈ lw_all := lw_g (lw_at lw_m0 26 rfl) rfl
theorem q38 : (Jvm.Cond.lays "TwoFlows" "TwoFlows" "known" "Z") ∈ lw_all := lw_g (lw_at lw_m0 27 rfl) rfl
theorem q39 : (Jvm.Cond.soleField "TwoFlows" "known") ∈ lw_all := lw_g (lw_at lw_m0 28 rfl) rfl
theorem q40 : (Jvm.Cond.lays "TwoFlows" "TwoFlows" "first" "I") ∈ lw_all := lw_g (lw_at lw_m0 29 rfl) rfl
theorem q41 : (Jvm.Cond.soleField "TwoFlows" "first") ∈ lw_all := lw_g (lw_at lw_m0 30 rfl) rfl
theorem q42 : (Jvm.Cond.lays "TwoFlows" "TwoFlows" "second" "I") ∈ lw_all := lw_g (lw_at lw_m0 31 rfl) rfl
theorem q43 : (Jvm.Cond.soleField "TwoFlows" "second") ∈ lw_all := lw_g (lw_at lw_m0 32 rfl) rfl
theorem q44 : (Jvm.Cond.lays "TwoFlows" "TwoFlows" "both" "I") ∈ lw_all := lw_g (lw_at lw_m0 33 rfl) rfl
theorem q45 : (Jvm.Cond.soleField "TwoFlows" "both") ∈ lw_all := lw_g (lw_at lw_m0 34 rfl) rfl
theorem q46 : (Jvm.Cond.superclass "TwoFlows" "java/lang/Object") ∈ lw_all := lw_g (lw_at lw_m0 35 rfl) rfl
theorem q50 : (Jvm.Cond.instanceMethod ({ cls := "TwoFlows", name := "set", desc := "(III)Z" } : Jvm.MethodName)) ∈ lw_all := lw_g (lw_at lw_m0 39 rfl) rfl
theorem q51 : (Jvm.Cond.selects "TwoFlows" ({ cls := "TwoFlows", name := "set", desc := "(III)Z" } : Jvm.MethodName) ({ cls := "TwoFlows", name := "set", desc := "(III)Z" } : Jvm.MethodName)) ∈ lw_all := lw_g (lw_at lw_m0 40 rfl) rfl
theorem q52 : (Jvm.Cond.code ({ cls := "TwoFlows", name := "set", desc := "(III)Z" } : Jvm.MethodName) prog_1_method_5_code (4 : Nat) (Option.some Jvm.ClassFile.FieldType.boolean)) ∈ lw_all := lw_g (lw_at lw_m0 41 rfl) rfl
theorem q53 : (Jvm.Cond.methodLink "TwoFlows" (27 : Nat) ({ cls := "TwoFlows", name := "isPair", desc := "(II)Z" } : Jvm.MethodName)) ∈ lw_all := lw_g (lw_at lw_m0 42 rfl) rfl
theorem q54 : (Jvm.Cond.static ({ cls := "TwoFlows", name := "isPair", desc := "(II)Z" } : Jvm.MethodName)) ∈ lw_all := lw_g (lw_at lw_m0 43 rfl) rfl
theorem q55 : (Jvm.Cond.code ({ cls := "TwoFlows", name := "isPair", desc := "(II)Z" } : Jvm.MethodName) prog_1_method_2_code (2 : Nat) (Option.some Jvm.ClassFile.FieldType.boolean)) ∈ lw_all := lw_g (lw_at lw_m0 44 rfl) rfl
theorem q56 : (Jvm.Cond.methodLink "TwoFlows" (31 : Nat) ({ cls := "TwoFlows", name := "put", desc := "(III)V" } : Jvm.MethodName)) ∈ lw_all := lw_g (lw_at lw_m0 45 rfl) rfl
theorem q57 : (Jvm.Cond.privateMethod ({ cls := "TwoFlows", name := "put", desc := "(III)V" } : Jvm.MethodName)) ∈ lw_tbl := lw_at lw_m0 46 rfl
theorem q58 : (Jvm.Cond.instanceMethod ({ cls := "TwoFlows", name := "put", desc := "(III)V" } : Jvm.MethodName)) ∈ lw_all := lw_g (lw_at lw_m0 47 rfl) rfl
theorem q59 : (Jvm.Cond.code ({ cls := "TwoFlows", name := "put", desc := "(III)V" } : Jvm.MethodName) prog_1_method_4_code (4 : Nat) (Option.none : Option Jvm.ClassFile.FieldType)) ∈ lw_all := lw_g (lw_at lw_m0 48 rfl) rfl
theorem q61 : (Jvm.Cond.instanceMethod ({ cls := "TwoFlows", name := "capacity", desc := "(II)I" } : Jvm.MethodName)) ∈ lw_all := lw_g (lw_at lw_m0 50 rfl) rfl
theorem q62 : (Jvm.Cond.selects "TwoFlows" ({ cls := "TwoFlows", name := "capacity", desc := "(II)I" } : Jvm.MethodName) ({ cls := "TwoFlows", name := "capacity", desc := "(II)I" } : Jvm.MethodName)) ∈ lw_all := lw_g (lw_at lw_m0 51 rfl) rfl
theorem q63 : (Jvm.Cond.code ({ cls := "TwoFlows", name := "capacity", desc := "(II)I" } : Jvm.MethodName) prog_1_method_6_code (3 : Nat) (Option.some Jvm.ClassFile.FieldType.int)) ∈ lw_all := lw_g (lw_at lw_m0 52 rfl) rfl
theorem q65 : (Jvm.Cond.instanceMethod ({ cls := "TwoFlows", name := "width", desc := "(I)I" } : Jvm.MethodName)) ∈ lw_all := lw_g (lw_at lw_m0 54 rfl) rfl
theorem q66 : (Jvm.Cond.selects "TwoFlows" ({ cls := "TwoFlows", name := "width", desc := "(I)I" } : Jvm.MethodName) ({ cls := "TwoFlows", name := "width", desc := "(I)I" } : Jvm.MethodName)) ∈ lw_all := lw_g (lw_at lw_m0 55 rfl) rfl
theorem q67 : (Jvm.Cond.code ({ cls := "TwoFlows", name := "width", desc := "(I)I" } : Jvm.MethodName) prog_1_method_7_code (5 : Nat) (Option.some Jvm.ClassFile.FieldType.int)) ∈ lw_all := lw_g (lw_at lw_m0 56 rfl) rfl
theorem q68 : (Jvm.Cond.methodLink "TwoFlows" (35 : Nat) ({ cls := "TwoFlows", name := "in", desc := "(II)Z" } : Jvm.MethodName)) ∈ lw_all := lw_g (lw_at lw_m0 57 rfl) rfl
theorem q69 : (Jvm.Cond.static ({ cls := "TwoFlows", name := "in", desc := "(II)Z" } : Jvm.MethodName)) ∈ lw_all := lw_g (lw_at lw_m0 58 rfl) rfl
theorem q70 : (Jvm.Cond.code ({ cls := "TwoFlows", name := "in", desc := "(II)Z" } : Jvm.MethodName) prog_1_method_3_code (2 : Nat) (Option.some Jvm.ClassFile.FieldType.boolean)) ∈ lw_all := lw_g (lw_at lw_m0 59 rfl) rfl
theorem q72 : (Jvm.Cond.instanceMethod ({ cls := "TwoFlows", name := "carries", desc := "(II)Z" } : Jvm.MethodName)) ∈ lw_all := lw_g (lw_at lw_m0 61 rfl) rfl
theorem q73 : (Jvm.Cond.selects "TwoFlows" ({ cls := "TwoFlows", name := "carries", desc := "(II)Z" } : Jvm.MethodName) ({ cls := "TwoFlows", name := "carries", desc := "(II)Z" } : Jvm.MethodName)) ∈ lw_all := lw_g (lw_at lw_m0 62 rfl) rfl
theorem q74 : (Jvm.Cond.code ({ cls := "TwoFlows", name := "carries", desc := "(II)Z" } : Jvm.MethodName) prog_1_method_12_code (3 : Nat) (Option.some Jvm.ClassFile.FieldType.boolean)) ∈ lw_all := lw_g (lw_at lw_m0 63 rfl) rfl
theorem q75 : (Jvm.Cond.methodLink "TwoFlows" (60 : Nat) ({ cls := "TwoFlows", name := "learn", desc := "()V" } : Jvm.MethodName)) ∈ lw_all := lw_g (lw_at lw_m0 64 rfl) rfl
theorem q76 : (Jvm.Cond.privateMethod ({ cls := "TwoFlows", name := "learn", desc := "()V" } : Jvm.MethodName)) ∈ lw_tbl := lw_at lw_m0 65 rfl
theorem q77 : (Jvm.Cond.instanceMethod ({ cls := "TwoFlows", name := "learn", desc := "()V" } : Jvm.MethodName)) ∈ lw_all := lw_g (lw_at lw_m0 66 rfl) rfl
theorem q78 : (Jvm.Cond.code ({ cls := "TwoFlows", name := "learn", desc := "()V" } : Jvm.MethodName) prog_1_method_11_code (3 : Nat) (Option.none : Option Jvm.ClassFile.FieldType)) ∈ lw_all := lw_g (lw_at lw_m0 67 rfl) rfl
theorem q79 : (Jvm.Cond.methodLink "TwoFlows" (47 : Nat) ({ cls := "TwoFlows", name := "flow", desc := "(II)I" } : Jvm.MethodName)) ∈ lw_all := lw_g (lw_at lw_m0 68 rfl) rfl
theorem q80 : (Jvm.Cond.privateMethod ({ cls := "TwoFlows", name := "flow", desc := "(II)I" } : Jvm.MethodName)) ∈ lw_tbl := lw_at lw_m0 69 rfl
theorem q81 : (Jvm.Cond.instanceMethod ({ cls := "TwoFlows", name := "flow", desc := "(II)I" } : Jvm.MethodName)) ∈ lw_all := lw_g (lw_at lw_m0 70 rfl) rfl
theorem q82 : (Jvm.Cond.code ({ cls := "TwoFlows", name := "flow", desc := "(II)I" } : Jvm.MethodName) prog_1_method_10_code (6 : Nat) (Option.some Jvm.ClassFile.FieldType.int)) ∈ lw_all := lw_g (lw_at lw_m0 71 rfl) rfl
theorem q83 : (Jvm.Cond.methodLink "TwoFlows" (39 : Nat) ({ cls := "TwoFlows", name := "spread", desc := "(II)I" } : Jvm.MethodName)) ∈ lw_all := lw_g (lw_at lw_m0 72 rfl) rfl
theorem q84 : (Jvm.Cond.privateMethod ({ cls := "TwoFlows", name := "spread", desc := "(II)I" } : Jvm.MethodName)) ∈ lw_tbl := lw_at lw_m0 73 rfl
theorem q85 : (Jvm.Cond.instanceMethod ({ cls := "TwoFlows", name := "spread", desc := "(II)I" } : Jvm.MethodName)) ∈ lw_all := lw_g (lw_at lw_m0 74 rfl) rfl
theorem q86 : (Jvm.Cond.code ({ cls := "TwoFlows", name := "spread", desc := "(II)I" } : Jvm.MethodName) prog_1_method_8_code (8 : Nat) (Option.some Jvm.ClassFile.FieldType.int)) ∈ lw_all := lw_g (lw_at lw_m0 75 rfl) rfl
theorem q87 : (Jvm.Cond.methodLink "TwoFlows" (43 : Nat) ({ cls := "TwoFlows", name := "push", desc := "(I)I" } : Jvm.MethodName)) ∈ lw_all := lw_g (lw_at lw_m0 76 rfl) rfl
theorem q88 : (Jvm.Cond.privateMethod ({ cls := "TwoFlows", name := "push", desc := "(I)I" } : Jvm.MethodName)) ∈ lw_tbl := lw_at lw_m0 77 rfl
theorem q89 : (Jvm.Cond.instanceMethod ({ cls := "TwoFlows", name := "push", desc := "(I)I" } : Jvm.MethodName)) ∈ lw_all := lw_g (lw_at lw_m0 78 rfl) rfl
theorem q90 : (Jvm.Cond.code ({ cls := "TwoFlows", name := "push", desc := "(I)I" } : Jvm.MethodName) prog_1_method_9_code (5 : Nat) (Option.some Jvm.ClassFile.FieldType.int)) ∈ lw_all := lw_g (lw_at lw_m0 79 rfl) rfl
theorem q91 : (Jvm.Cond.constant "TwoFlows" (38 : Nat) (1048576 : Int32)) ∈ lw_all := lw_g (lw_at lw_m0 80 rfl) rfl
theorem q93 : (Jvm.Cond.instanceMethod ({ cls := "TwoFlows", name := "alone", desc := "(I)I" } : Jvm.MethodName)) ∈ lw_all := lw_g (lw_at lw_m0 82 rfl) rfl
theorem q94 : (Jvm.Cond.selects "TwoFlows" ({ cls := "TwoFlows", name := "alone", desc := "(I)I" } : Jvm.MethodName) ({ cls := "TwoFlows", name := "alone", desc := "(I)I" } : Jvm.MethodName)) ∈ lw_all := lw_g (lw_at lw_m0 83 rfl) rfl
theorem q95 : (Jvm.Cond.code ({ cls := "TwoFlows", name := "alone", desc := "(I)I" } : Jvm.MethodName) prog_1_method_13_code (2 : Nat) (Option.some Jvm.ClassFile.FieldType.int)) ∈ lw_all := lw_g (lw_at lw_m0 84 rfl) rfl
theorem q97 : (Jvm.Cond.instanceMethod ({ cls := "TwoFlows", name := "most", desc := "()I" } : Jvm.MethodName)) ∈ lw_all := lw_g (lw_at lw_m0 86 rfl) rfl
theorem q98 : (Jvm.Cond.selects "TwoFlows" ({ cls := "TwoFlows", name := "most", desc := "()I" } : Jvm.MethodName) ({ cls := "TwoFlows", name := "most", desc := "()I" } : Jvm.MethodName)) ∈ lw_all := lw_g (lw_at lw_m0 87 rfl) rfl
theorem q99 : (Jvm.Cond.code ({ cls := "TwoFlows", name := "most", desc := "()I" } : Jvm.MethodName) prog_1_method_14_code (1 : Nat) (Option.some Jvm.ClassFile.FieldType.int)) ∈ lw_all := lw_g (lw_at lw_m0 88 rfl) rfl
theorem q101 : (Jvm.Cond.instanceMethod ({ cls := "TwoFlows", name := "besides", desc := "(I)I" } : Jvm.MethodName)) ∈ lw_all := lw_g (lw_at lw_m0 90 rfl) rfl
theorem q102 : (Jvm.Cond.selects "TwoFlows" ({ cls := "TwoFlows", name := "besides", desc := "(I)I" } : Jvm.MethodName) ({ cls := "TwoFlows", name := "besides", desc := "(I)I" } : Jvm.MethodName)) ∈ lw_all := lw_g (lw_at lw_m0 91 rfl) rfl
theorem q103 : (Jvm.Cond.code ({ cls := "TwoFlows", name := "besides", desc := "(I)I" } : Jvm.MethodName) prog_1_method_15_code (2 : Nat) (Option.some Jvm.ClassFile.FieldType.int)) ∈ lw_all := lw_g (lw_at lw_m0 92 rfl) rfl
theorem q105 : (Jvm.Cond.instanceMethod ({ cls := "TwoFlows", name := "evenly", desc := "()I" } : Jvm.MethodName)) ∈ lw_all := lw_g (lw_at lw_m0 94 rfl) rfl
theorem q106 : (Jvm.Cond.selects "TwoFlows" ({ cls := "TwoFlows", name := "evenly", desc := "()I" } : Jvm.MethodName) ({ cls := "TwoFlows", name := "evenly", desc := "()I" } : Jvm.MethodName)) ∈ lw_all := lw_g (lw_at lw_m0 95 rfl) rfl
theorem q107 : (Jvm.Cond.code ({ cls := "TwoFlows", name := "evenly", desc := "()I" } : Jvm.MethodName) prog_1_method_16_code (2 : Nat) (Option.some Jvm.ClassFile.FieldType.int)) ∈ lw_all := lw_g (lw_at lw_m0 96 rfl) rfl
theorem q109 : (Jvm.Cond.instanceMethod ({ cls := "TwoFlows", name := "pairs", desc := "()I" } : Jvm.MethodName)) ∈ lw_all := lw_g (lw_at lw_m0 98 rfl) rfl
theorem q110 : (Jvm.Cond.selects "TwoFlows" ({ cls := "TwoFlows", name := "pairs", desc := "()I" } : Jvm.MethodName) ({ cls := "TwoFlows", name := "pairs", desc := "()I" } : Jvm.MethodName)) ∈ lw_all := lw_g (lw_at lw_m0 99 rfl) rfl
theorem q111 : (Jvm.Cond.code ({ cls := "TwoFlows", name := "pairs", desc := "()I" } : Jvm.MethodName) prog_1_method_17_code (3 : Nat) (Option.some Jvm.ClassFile.FieldType.int)) ∈ lw_all := lw_g (lw_at lw_m0 100 rfl) rfl
theorem q112 : (Jvm.Cond.methodLink "TwoFlows" (63 : Nat) ({ cls := "TwoFlows", name := "besides", desc := "(I)I" } : Jvm.MethodName)) ∈ lw_all := lw_g (lw_at lw_m0 101 rfl) rfl
theorem q114 : (Jvm.Cond.instanceMethod ({ cls := "TwoFlows", name := "worth", desc := "(II)I" } : Jvm.MethodName)) ∈ lw_all := lw_g (lw_at lw_m0 103 rfl) rfl
theorem q115 : (Jvm.Cond.selects "TwoFlows" ({ cls := "TwoFlows", name := "worth", desc := "(II)I" } : Jvm.MethodName) ({ cls := "TwoFlows", name := "worth", desc := "(II)I" } : Jvm.MethodName)) ∈ lw_all := lw_g (lw_at lw_m0 104 rfl) rfl
theorem q116 : (Jvm.Cond.code ({ cls := "TwoFlows", name := "worth", desc := "(II)I" } : Jvm.MethodName) prog_1_method_19_code (3 : Nat) (Option.some Jvm.ClassFile.FieldType.int)) ∈ lw_all := lw_g (lw_at lw_m0 105 rfl) rfl
theorem q117 : (Jvm.Cond.methodLink "TwoFlows" (70 : Nat) ({ cls := "TwoFlows", name := "change", desc := "(III)I" } : Jvm.MethodName)) ∈ lw_all := lw_g (lw_at lw_m0 106 rfl) rfl
theorem q118 : (Jvm.Cond.privateMethod ({ cls := "TwoFlows", name := "change", desc := "(III)I" } : Jvm.MethodName)) ∈ lw_tbl := lw_at lw_m0 107 rfl
theorem q119 : (Jvm.Cond.instanceMethod ({ cls := "TwoFlows", name := "change", desc := "(III)I" } : Jvm.MethodName)) ∈ lw_all := lw_g (lw_at lw_m0 108 rfl) rfl
theorem q120 : (Jvm.Cond.code ({ cls := "TwoFlows", name := "change", desc := "(III)I" } : Jvm.MethodName) prog_1_method_18_code (7 : Nat) (Option.some Jvm.ClassFile.FieldType.int)) ∈ lw_all := lw_g (lw_at lw_m0 109 rfl) rfl
theorem q121 : (Jvm.Cond.methodLink "TwoFlows" (66 : Nat) ({ cls := "TwoFlows", name := "most", desc := "()I" } : Jvm.MethodName)) ∈ lw_all := lw_g (lw_at lw_m0 110 rfl) rfl
theorem q123 : (Jvm.Cond.instanceMethod ({ cls := "TwoFlows", name := "loss", desc := "(II)I" } : Jvm.MethodName)) ∈ lw_all := lw_g (lw_at lw_m0 112 rfl) rfl
theorem q124 : (Jvm.Cond.selects "TwoFlows" ({ cls := "TwoFlows", name := "loss", desc := "(II)I" } : Jvm.MethodName) ({ cls := "TwoFlows", name := "loss", desc := "(II)I" } : Jvm.MethodName)) ∈ lw_all := lw_g (lw_at lw_m0 113 rfl) rfl
theorem q125 : (Jvm.Cond.code ({ cls := "TwoFlows", name := "loss", desc := "(II)I" } : Jvm.MethodName) prog_1_method_20_code (3 : Nat) (Option.some Jvm.ClassFile.FieldType.int)) ∈ lw_all := lw_g (lw_at lw_m0 114 rfl) rfl
theorem q127 : (Jvm.Cond.instanceMethod ({ cls := "TwoFlows", name := "full", desc := "(II)Z" } : Jvm.MethodName)) ∈ lw_all := lw_g (lw_at lw_m0 116 rfl) rfl
theorem q128 : (Jvm.Cond.selects "TwoFlows" ({ cls := "TwoFlows", name := "full", desc := "(II)Z" } : Jvm.MethodName) ({ cls := "TwoFlows", name := "full", desc := "(II)Z" } : Jvm.MethodName)) ∈ lw_all := lw_g (lw_at lw_m0 117 rfl) rfl
theorem q129 : (Jvm.Cond.code ({ cls := "TwoFlows", name := "full", desc := "(II)Z" } : Jvm.MethodName) prog_1_method_21_code (5 : Nat) (Option.some Jvm.ClassFile.FieldType.boolean)) ∈ lw_all := lw_g (lw_at lw_m0 118 rfl) rfl
theorem q130 : (Jvm.Cond.methodLink "TwoFlows" (74 : Nat) ({ cls := "TwoFlows", name := "carries", desc := "(II)Z" } : Jvm.MethodName)) ∈ lw_all := lw_g (lw_at lw_m0 119 rfl) rfl
theorem in_X0 : ∀ w ∈ wsX00, w ∈ lw_all := lw_in wsX00 [30, 32, 34, 36, 38, 40, 42, 44] (by decide +kernel) (by decide +kernel)
end
section
/-! TwoFlowsModel -/
set_option maxRecDepth 100000
def RX1 : String := "TwoFlowsModel"
def TX1 : u_T := fun k => match k with
  | 0 => ("TwoFlowsModel", "caps", "[I", false)
  | _ => ("TwoFlowsModel", "limits", "[I", false)
def tyX1 : Nat → FieldType := fun k => match k with
  | 0 => .array .int
  | _ => .array .int
abbrev wsX10 : List Cond := u_ws RX1 TX1 2
theorem nmX1 : ∀ a, a < 2 → ∀ b, b < 2 → a ≠ b → (TX1 a).2.1 ≠ (TX1 b).2.1 := by decide +kernel
theorem tyX1_ok : ∀ k, k < 2 → parseFieldDescriptor (TX1 k).2.2.1 = some (tyX1 k) := by decide +kernel
abbrev cX1_init : ByteArray := prog_3_method_1_code
def yX1_init : MethodName := ⟨RX1, "<init>", "()V"⟩
theorem dX1_init_0 : decode cX1_init 0 = .ok (.aload_n 0, 1) := by decide +kernel
theorem dX1_init_1 : decode cX1_init 1 = .ok (.invokespecial 1, 3) := by decide +kernel
theorem dX1_init_4 : decode cX1_init 4 = .ok (.aload_n 0, 1) := by decide +kernel
theorem dX1_init_5 : decode cX1_init 5 = .ok (.bipush 36, 2) := by decide +kernel
theorem dX1_init_7 : decode cX1_init 7 = .ok (.newarray .int, 2) := by decide +kernel
theorem dX1_init_9 : decode cX1_init 9 = .ok (.putfield 7, 3) := by decide +kernel
theorem dX1_init_12 : decode cX1_init 12 = .ok (.aload_n 0, 1) := by decide +kernel
theorem dX1_init_13 : decode cX1_init 13 = .ok (.iconst 4, 1) := by decide +kernel
theorem dX1_init_14 : decode cX1_init 14 = .ok (.newarray .int, 2) := by decide +kernel
theorem dX1_init_16 : decode cX1_init 16 = .ok (.putfield 13, 3) := by decide +kernel
theorem dX1_init_19 : decode cX1_init 19 = .ok (.return_, 1) := by decide +kernel
abbrev cX1_set : ByteArray := prog_3_method_4_code
def yX1_set : MethodName := ⟨RX1, "set", "(III)Z"⟩
theorem dX1_set_0 : decode cX1_set 0 = .ok (.aload_n 0, 1) := by decide +kernel
theorem dX1_set_1 : decode cX1_set 1 = .ok (.iload_n 1, 1) := by decide +kernel
theorem dX1_set_2 : decode cX1_set 2 = .ok (.iload_n 2, 1) := by decide +kernel
theorem dX1_set_3 : decode cX1_set 3 = .ok (.invokevirtual 16, 3) := by decide +kernel
theorem dX1_set_6 : decode cX1_set 6 = .ok (.ifCond .eq 13, 3) := by decide +kernel
theorem dX1_set_9 : decode cX1_set 9 = .ok (.iload_n 3, 1) := by decide +kernel
theorem dX1_set_10 : decode cX1_set 10 = .ok (.ifCond .lt 9, 3) := by decide +kernel
theorem dX1_set_13 : decode cX1_set 13 = .ok (.iload_n 3, 1) := by decide +kernel
theorem dX1_set_14 : decode cX1_set 14 = .ok (.bipush 20, 2) := by decide +kernel
theorem dX1_set_16 : decode cX1_set 16 = .ok (.if_icmp .le 5, 3) := by decide +kernel
theorem dX1_set_19 : decode cX1_set 19 = .ok (.iconst 0, 1) := by decide +kernel
theorem dX1_set_20 : decode cX1_set 20 = .ok (.ireturn, 1) := by decide +kernel
theorem dX1_set_21 : decode cX1_set 21 = .ok (.aload_n 0, 1) := by decide +kernel
theorem dX1_set_22 : decode cX1_set 22 = .ok (.iload_n 1, 1) := by decide +kernel
theorem dX1_set_23 : decode cX1_set 23 = .ok (.iload_n 2, 1) := by decide +kernel
theorem dX1_set_24 : decode cX1_set 24 = .ok (.iload_n 3, 1) := by decide +kernel
theorem dX1_set_25 : decode cX1_set 25 = .ok (.invokevirtual 20, 3) := by decide +kernel
theorem dX1_set_28 : decode cX1_set 28 = .ok (.iconst 1, 1) := by decide +kernel
theorem dX1_set_29 : decode cX1_set 29 = .ok (.ireturn, 1) := by decide +kernel
abbrev cX1_pair : ByteArray := prog_3_method_2_code
def yX1_pair : MethodName := ⟨RX1, "pair", "(II)Z"⟩
theorem dX1_pair_0 : decode cX1_pair 0 = .ok (.iload_n 1, 1) := by decide +kernel
theorem dX1_pair_1 : decode cX1_pair 1 = .ok (.iload_n 2, 1) := by decide +kernel
theorem dX1_pair_2 : decode cX1_pair 2 = .ok (.if_icmp .eq 25, 3) := by decide +kernel
theorem dX1_pair_5 : decode cX1_pair 5 = .ok (.iload_n 1, 1) := by decide +kernel
theorem dX1_pair_6 : decode cX1_pair 6 = .ok (.ifCond .lt 21, 3) := by decide +kernel
theorem dX1_pair_9 : decode cX1_pair 9 = .ok (.iload_n 1, 1) := by decide +kernel
theorem dX1_pair_10 : decode cX1_pair 10 = .ok (.iconst 5, 1) := by decide +kernel
theorem dX1_pair_11 : decode cX1_pair 11 = .ok (.if_icmp .gt 16, 3) := by decide +kernel
theorem dX1_pair_14 : decode cX1_pair 14 = .ok (.iload_n 2, 1) := by decide +kernel
theorem dX1_pair_15 : decode cX1_pair 15 = .ok (.ifCond .lt 12, 3) := by decide +kernel
theorem dX1_pair_18 : decode cX1_pair 18 = .ok (.iload_n 2, 1) := by decide +kernel
theorem dX1_pair_19 : decode cX1_pair 19 = .ok (.iconst 5, 1) := by decide +kernel
theorem dX1_pair_20 : decode cX1_pair 20 = .ok (.if_icmp .gt 7, 3) := by decide +kernel
theorem dX1_pair_23 : decode cX1_pair 23 = .ok (.iconst 1, 1) := by decide +kernel
theorem dX1_pair_24 : decode cX1_pair 24 = .ok (.goto 4, 3) := by decide +kernel
theorem dX1_pair_27 : decode cX1_pair 27 = .ok (.iconst 0, 1) := by decide +kernel
theorem dX1_pair_28 : decode cX1_pair 28 = .ok (.ireturn, 1) := by decide +kernel
abbrev cX1_put : ByteArray := prog_3_method_3_code
def yX1_put : MethodName := ⟨RX1, "put", "(III)V"⟩
theorem dX1_put_0 : decode cX1_put 0 = .ok (.aload_n 0, 1) := by decide +kernel
theorem dX1_put_1 : decode cX1_put 1 = .ok (.getfield 7, 3) := by decide +kernel
theorem dX1_put_4 : decode cX1_put 4 = .ok (.bipush 6, 2) := by decide +kernel
theorem dX1_put_6 : decode cX1_put 6 = .ok (.iload_n 1, 1) := by decide +kernel
theorem dX1_put_7 : decode cX1_put 7 = .ok (.imul, 1) := by decide +kernel
theorem dX1_put_8 : decode cX1_put 8 = .ok (.iload_n 2, 1) := by decide +kernel
theorem dX1_put_9 : decode cX1_put 9 = .ok (.iadd, 1) := by decide +kernel
theorem dX1_put_10 : decode cX1_put 10 = .ok (.iload_n 3, 1) := by decide +kernel
theorem dX1_put_11 : decode cX1_put 11 = .ok (.iastore, 1) := by decide +kernel
theorem dX1_put_12 : decode cX1_put 12 = .ok (.aload_n 0, 1) := by decide +kernel
theorem dX1_put_13 : decode cX1_put 13 = .ok (.getfield 7, 3) := by decide +kernel
theorem dX1_put_16 : decode cX1_put 16 = .ok (.bipush 6, 2) := by decide +kernel
theorem dX1_put_18 : decode cX1_put 18 = .ok (.iload_n 2, 1) := by decide +kernel
theorem dX1_put_19 : decode cX1_put 19 = .ok (.imul, 1) := by decide +kernel
theorem dX1_put_20 : decode cX1_put 20 = .ok (.iload_n 1, 1) := by decide +kernel
theorem dX1_put_21 : decode cX1_put 21 = .ok (.iadd, 1) := by decide +kernel
theorem dX1_put_22 : decode cX1_put 22 = .ok (.iload_n 3, 1) := by decide +kernel
theorem dX1_put_23 : decode cX1_put 23 = .ok (.iastore, 1) := by decide +kernel
theorem dX1_put_24 : decode cX1_put 24 = .ok (.return_, 1) := by decide +kernel
abbrev cX1_capacity : ByteArray := prog_3_method_5_code
def yX1_capacity : MethodName := ⟨RX1, "capacity", "(II)I"⟩
theorem dX1_capacity_0 : decode cX1_capacity 0 = .ok (.aload_n 0, 1) := by decide +kernel
theorem dX1_capacity_1 : decode cX1_capacity 1 = .ok (.iload_n 1, 1) := by decide +kernel
theorem dX1_capacity_2 : decode cX1_capacity 2 = .ok (.iload_n 2, 1) := by decide +kernel
theorem dX1_capacity_3 : decode cX1_capacity 3 = .ok (.invokevirtual 16, 3) := by decide +kernel
theorem dX1_capacity_6 : decode cX1_capacity 6 = .ok (.ifCond .eq 17, 3) := by decide +kernel
theorem dX1_capacity_9 : decode cX1_capacity 9 = .ok (.aload_n 0, 1) := by decide +kernel
theorem dX1_capacity_10 : decode cX1_capacity 10 = .ok (.getfield 7, 3) := by decide +kernel
theorem dX1_capacity_13 : decode cX1_capacity 13 = .ok (.bipush 6, 2) := by decide +kernel
theorem dX1_capacity_15 : decode cX1_capacity 15 = .ok (.iload_n 1, 1) := by decide +kernel
theorem dX1_capacity_16 : decode cX1_capacity 16 = .ok (.imul, 1) := by decide +kernel
theorem dX1_capacity_17 : decode cX1_capacity 17 = .ok (.iload_n 2, 1) := by decide +kernel
theorem dX1_capacity_18 : decode cX1_capacity 18 = .ok (.iadd, 1) := by decide +kernel
theorem dX1_capacity_19 : decode cX1_capacity 19 = .ok (.iaload, 1) := by decide +kernel
theorem dX1_capacity_20 : decode cX1_capacity 20 = .ok (.goto 4, 3) := by decide +kernel
theorem dX1_capacity_23 : decode cX1_capacity 23 = .ok (.iconst (-1), 1) := by decide +kernel
theorem dX1_capacity_24 : decode cX1_capacity 24 = .ok (.ireturn, 1) := by decide +kernel
abbrev cX1_width : ByteArray := prog_3_method_6_code
def yX1_width : MethodName := ⟨RX1, "width", "(I)I"⟩
theorem dX1_width_0 : decode cX1_width 0 = .ok (.iconst 0, 1) := by decide +kernel
theorem dX1_width_1 : decode cX1_width 1 = .ok (.istore_n 2, 1) := by decide +kernel
theorem dX1_width_2 : decode cX1_width 2 = .ok (.iconst 0, 1) := by decide +kernel
theorem dX1_width_3 : decode cX1_width 3 = .ok (.istore_n 3, 1) := by decide +kernel
theorem dX1_width_4 : decode cX1_width 4 = .ok (.iload_n 3, 1) := by decide +kernel
theorem dX1_width_5 : decode cX1_width 5 = .ok (.bipush 36, 2) := by decide +kernel
theorem dX1_width_7 : decode cX1_width 7 = .ok (.if_icmp .ge 57, 3) := by decide +kernel
theorem dX1_width_10 : decode cX1_width 10 = .ok (.iload_n 1, 1) := by decide +kernel
theorem dX1_width_11 : decode cX1_width 11 = .ok (.iload_n 3, 1) := by decide +kernel
theorem dX1_width_12 : decode cX1_width 12 = .ok (.bipush 6, 2) := by decide +kernel
theorem dX1_width_14 : decode cX1_width 14 = .ok (.idiv, 1) := by decide +kernel
theorem dX1_width_15 : decode cX1_width 15 = .ok (.ishr, 1) := by decide +kernel
theorem dX1_width_16 : decode cX1_width 16 = .ok (.iconst 1, 1) := by decide +kernel
theorem dX1_width_17 : decode cX1_width 17 = .ok (.iand, 1) := by decide +kernel
theorem dX1_width_18 : decode cX1_width 18 = .ok (.iconst 1, 1) := by decide +kernel
theorem dX1_width_19 : decode cX1_width 19 = .ok (.if_icmp .ne 18, 3) := by decide +kernel
theorem dX1_width_22 : decode cX1_width 22 = .ok (.iload_n 1, 1) := by decide +kernel
theorem dX1_width_23 : decode cX1_width 23 = .ok (.iload_n 3, 1) := by decide +kernel
theorem dX1_width_24 : decode cX1_width 24 = .ok (.bipush 6, 2) := by decide +kernel
theorem dX1_width_26 : decode cX1_width 26 = .ok (.irem, 1) := by decide +kernel
theorem dX1_width_27 : decode cX1_width 27 = .ok (.ishr, 1) := by decide +kernel
theorem dX1_width_28 : decode cX1_width 28 = .ok (.iconst 1, 1) := by decide +kernel
theorem dX1_width_29 : decode cX1_width 29 = .ok (.iand, 1) := by decide +kernel
theorem dX1_width_30 : decode cX1_width 30 = .ok (.ifCond .ne 7, 3) := by decide +kernel
theorem dX1_width_33 : decode cX1_width 33 = .ok (.iconst 1, 1) := by decide +kernel
theorem dX1_width_34 : decode cX1_width 34 = .ok (.goto 4, 3) := by decide +kernel
theorem dX1_width_37 : decode cX1_width 37 = .ok (.iconst 0, 1) := by decide +kernel
theorem dX1_width_38 : decode cX1_width 38 = .ok (.istore 4, 2) := by decide +kernel
theorem dX1_width_40 : decode cX1_width 40 = .ok (.iload 4, 2) := by decide +kernel
theorem dX1_width_42 : decode cX1_width 42 = .ok (.ifCond .eq 14, 3) := by decide +kernel
theorem dX1_width_45 : decode cX1_width 45 = .ok (.iload_n 2, 1) := by decide +kernel
theorem dX1_width_46 : decode cX1_width 46 = .ok (.aload_n 0, 1) := by decide +kernel
theorem dX1_width_47 : decode cX1_width 47 = .ok (.getfield 7, 3) := by decide +kernel
theorem dX1_width_50 : decode cX1_width 50 = .ok (.iload_n 3, 1) := by decide +kernel
theorem dX1_width_51 : decode cX1_width 51 = .ok (.iaload, 1) := by decide +kernel
theorem dX1_width_52 : decode cX1_width 52 = .ok (.iadd, 1) := by decide +kernel
theorem dX1_width_53 : decode cX1_width 53 = .ok (.goto 4, 3) := by decide +kernel
theorem dX1_width_56 : decode cX1_width 56 = .ok (.iload_n 2, 1) := by decide +kernel
theorem dX1_width_57 : decode cX1_width 57 = .ok (.istore_n 2, 1) := by decide +kernel
theorem dX1_width_58 : decode cX1_width 58 = .ok (.iinc 3 1, 3) := by decide +kernel
theorem dX1_width_61 : decode cX1_width 61 = .ok (.goto (-57), 3) := by decide +kernel
theorem dX1_width_64 : decode cX1_width 64 = .ok (.iload_n 1, 1) := by decide +kernel
theorem dX1_width_65 : decode cX1_width 65 = .ok (.ifCond .lt 9, 3) := by decide +kernel
theorem dX1_width_68 : decode cX1_width 68 = .ok (.iload_n 1, 1) := by decide +kernel
theorem dX1_width_69 : decode cX1_width 69 = .ok (.bipush 63, 2) := by decide +kernel
theorem dX1_width_71 : decode cX1_width 71 = .ok (.if_icmp .le 7, 3) := by decide +kernel
theorem dX1_width_74 : decode cX1_width 74 = .ok (.iconst (-1), 1) := by decide +kernel
theorem dX1_width_75 : decode cX1_width 75 = .ok (.goto 4, 3) := by decide +kernel
theorem dX1_width_78 : decode cX1_width 78 = .ok (.iload_n 2, 1) := by decide +kernel
theorem dX1_width_79 : decode cX1_width 79 = .ok (.ireturn, 1) := by decide +kernel
abbrev cX1_carries : ByteArray := prog_3_method_9_code
def yX1_carries : MethodName := ⟨RX1, "carries", "(II)Z"⟩
theorem dX1_carries_0 : decode cX1_carries 0 = .ok (.aload_n 0, 1) := by decide +kernel
theorem dX1_carries_1 : decode cX1_carries 1 = .ok (.invokevirtual 28, 3) := by decide +kernel
theorem dX1_carries_4 : decode cX1_carries 4 = .ok (.iload_n 1, 1) := by decide +kernel
theorem dX1_carries_5 : decode cX1_carries 5 = .ok (.ifCond .lt 34, 3) := by decide +kernel
theorem dX1_carries_8 : decode cX1_carries 8 = .ok (.iload_n 1, 1) := by decide +kernel
theorem dX1_carries_9 : decode cX1_carries 9 = .ok (.sipush 1000, 3) := by decide +kernel
theorem dX1_carries_12 : decode cX1_carries 12 = .ok (.if_icmp .gt 27, 3) := by decide +kernel
theorem dX1_carries_15 : decode cX1_carries 15 = .ok (.iload_n 2, 1) := by decide +kernel
theorem dX1_carries_16 : decode cX1_carries 16 = .ok (.ifCond .lt 23, 3) := by decide +kernel
theorem dX1_carries_19 : decode cX1_carries 19 = .ok (.iload_n 2, 1) := by decide +kernel
theorem dX1_carries_20 : decode cX1_carries 20 = .ok (.sipush 1000, 3) := by decide +kernel
theorem dX1_carries_23 : decode cX1_carries 23 = .ok (.if_icmp .gt 16, 3) := by decide +kernel
theorem dX1_carries_26 : decode cX1_carries 26 = .ok (.aload_n 0, 1) := by decide +kernel
theorem dX1_carries_27 : decode cX1_carries 27 = .ok (.iload_n 1, 1) := by decide +kernel
theorem dX1_carries_28 : decode cX1_carries 28 = .ok (.iload_n 2, 1) := by decide +kernel
theorem dX1_carries_29 : decode cX1_carries 29 = .ok (.invokevirtual 31, 3) := by decide +kernel
theorem dX1_carries_32 : decode cX1_carries 32 = .ok (.ifCond .eq 7, 3) := by decide +kernel
theorem dX1_carries_35 : decode cX1_carries 35 = .ok (.iconst 1, 1) := by decide +kernel
theorem dX1_carries_36 : decode cX1_carries 36 = .ok (.goto 4, 3) := by decide +kernel
theorem dX1_carries_39 : decode cX1_carries 39 = .ok (.iconst 0, 1) := by decide +kernel
theorem dX1_carries_40 : decode cX1_carries 40 = .ok (.ireturn, 1) := by decide +kernel
abbrev cX1_work : ByteArray := prog_3_method_7_code
def yX1_work : MethodName := ⟨RX1, "work", "()V"⟩
theorem dX1_work_0 : decode cX1_work 0 = .ok (.iconst 0, 1) := by decide +kernel
theorem dX1_work_1 : decode cX1_work 1 = .ok (.istore_n 1, 1) := by decide +kernel
theorem dX1_work_2 : decode cX1_work 2 = .ok (.iload_n 1, 1) := by decide +kernel
theorem dX1_work_3 : decode cX1_work 3 = .ok (.iconst 4, 1) := by decide +kernel
theorem dX1_work_4 : decode cX1_work 4 = .ok (.if_icmp .ge 18, 3) := by decide +kernel
theorem dX1_work_7 : decode cX1_work 7 = .ok (.aload_n 0, 1) := by decide +kernel
theorem dX1_work_8 : decode cX1_work 8 = .ok (.getfield 13, 3) := by decide +kernel
theorem dX1_work_11 : decode cX1_work 11 = .ok (.iload_n 1, 1) := by decide +kernel
theorem dX1_work_12 : decode cX1_work 12 = .ok (.sipush 1000, 3) := by decide +kernel
theorem dX1_work_15 : decode cX1_work 15 = .ok (.iastore, 1) := by decide +kernel
theorem dX1_work_16 : decode cX1_work 16 = .ok (.iinc 1 1, 3) := by decide +kernel
theorem dX1_work_19 : decode cX1_work 19 = .ok (.goto (-17), 3) := by decide +kernel
theorem dX1_work_22 : decode cX1_work 22 = .ok (.iconst 0, 1) := by decide +kernel
theorem dX1_work_23 : decode cX1_work 23 = .ok (.istore_n 1, 1) := by decide +kernel
theorem dX1_work_24 : decode cX1_work 24 = .ok (.iload_n 1, 1) := by decide +kernel
theorem dX1_work_25 : decode cX1_work 25 = .ok (.bipush 64, 2) := by decide +kernel
theorem dX1_work_27 : decode cX1_work 27 = .ok (.if_icmp .ge 62, 3) := by decide +kernel
theorem dX1_work_30 : decode cX1_work 30 = .ok (.iload_n 1, 1) := by decide +kernel
theorem dX1_work_31 : decode cX1_work 31 = .ok (.iload_n 1, 1) := by decide +kernel
theorem dX1_work_32 : decode cX1_work 32 = .ok (.iconst 1, 1) := by decide +kernel
theorem dX1_work_33 : decode cX1_work 33 = .ok (.ishr, 1) := by decide +kernel
theorem dX1_work_34 : decode cX1_work 34 = .ok (.ixor, 1) := by decide +kernel
theorem dX1_work_35 : decode cX1_work 35 = .ok (.istore_n 2, 1) := by decide +kernel
theorem dX1_work_36 : decode cX1_work 36 = .ok (.iload_n 2, 1) := by decide +kernel
theorem dX1_work_37 : decode cX1_work 37 = .ok (.iconst 1, 1) := by decide +kernel
theorem dX1_work_38 : decode cX1_work 38 = .ok (.iand, 1) := by decide +kernel
theorem dX1_work_39 : decode cX1_work 39 = .ok (.iload_n 2, 1) := by decide +kernel
theorem dX1_work_40 : decode cX1_work 40 = .ok (.iconst 2, 1) := by decide +kernel
theorem dX1_work_41 : decode cX1_work 41 = .ok (.ishr, 1) := by decide +kernel
theorem dX1_work_42 : decode cX1_work 42 = .ok (.iconst 1, 1) := by decide +kernel
theorem dX1_work_43 : decode cX1_work 43 = .ok (.iand, 1) := by decide +kernel
theorem dX1_work_44 : decode cX1_work 44 = .ok (.iconst 1, 1) := by decide +kernel
theorem dX1_work_45 : decode cX1_work 45 = .ok (.ishl, 1) := by decide +kernel
theorem dX1_work_46 : decode cX1_work 46 = .ok (.ior, 1) := by decide +kernel
theorem dX1_work_47 : decode cX1_work 47 = .ok (.istore_n 3, 1) := by decide +kernel
theorem dX1_work_48 : decode cX1_work 48 = .ok (.aload_n 0, 1) := by decide +kernel
theorem dX1_work_49 : decode cX1_work 49 = .ok (.iload_n 1, 1) := by decide +kernel
theorem dX1_work_50 : decode cX1_work 50 = .ok (.invokevirtual 24, 3) := by decide +kernel
theorem dX1_work_53 : decode cX1_work 53 = .ok (.istore 4, 2) := by decide +kernel
theorem dX1_work_55 : decode cX1_work 55 = .ok (.aload_n 0, 1) := by decide +kernel
theorem dX1_work_56 : decode cX1_work 56 = .ok (.getfield 13, 3) := by decide +kernel
theorem dX1_work_59 : decode cX1_work 59 = .ok (.iload_n 3, 1) := by decide +kernel
theorem dX1_work_60 : decode cX1_work 60 = .ok (.iload 4, 2) := by decide +kernel
theorem dX1_work_62 : decode cX1_work 62 = .ok (.aload_n 0, 1) := by decide +kernel
theorem dX1_work_63 : decode cX1_work 63 = .ok (.getfield 13, 3) := by decide +kernel
theorem dX1_work_66 : decode cX1_work 66 = .ok (.iload_n 3, 1) := by decide +kernel
theorem dX1_work_67 : decode cX1_work 67 = .ok (.iaload, 1) := by decide +kernel
theorem dX1_work_68 : decode cX1_work 68 = .ok (.if_icmp .ge 8, 3) := by decide +kernel
theorem dX1_work_71 : decode cX1_work 71 = .ok (.iload 4, 2) := by decide +kernel
theorem dX1_work_73 : decode cX1_work 73 = .ok (.goto 9, 3) := by decide +kernel
theorem dX1_work_76 : decode cX1_work 76 = .ok (.aload_n 0, 1) := by decide +kernel
theorem dX1_work_77 : decode cX1_work 77 = .ok (.getfield 13, 3) := by decide +kernel
theorem dX1_work_80 : decode cX1_work 80 = .ok (.iload_n 3, 1) := by decide +kernel
theorem dX1_work_81 : decode cX1_work 81 = .ok (.iaload, 1) := by decide +kernel
theorem dX1_work_82 : decode cX1_work 82 = .ok (.iastore, 1) := by decide +kernel
theorem dX1_work_83 : decode cX1_work 83 = .ok (.iinc 1 1, 3) := by decide +kernel
theorem dX1_work_86 : decode cX1_work 86 = .ok (.goto (-62), 3) := by decide +kernel
theorem dX1_work_89 : decode cX1_work 89 = .ok (.return_, 1) := by decide +kernel
abbrev cX1_fits : ByteArray := prog_3_method_8_code
def yX1_fits : MethodName := ⟨RX1, "fits", "(II)Z"⟩
theorem dX1_fits_0 : decode cX1_fits 0 = .ok (.iload_n 1, 1) := by decide +kernel
theorem dX1_fits_1 : decode cX1_fits 1 = .ok (.ifCond .lt 43, 3) := by decide +kernel
theorem dX1_fits_4 : decode cX1_fits 4 = .ok (.iload_n 2, 1) := by decide +kernel
theorem dX1_fits_5 : decode cX1_fits 5 = .ok (.ifCond .lt 39, 3) := by decide +kernel
theorem dX1_fits_8 : decode cX1_fits 8 = .ok (.iload_n 1, 1) := by decide +kernel
theorem dX1_fits_9 : decode cX1_fits 9 = .ok (.aload_n 0, 1) := by decide +kernel
theorem dX1_fits_10 : decode cX1_fits 10 = .ok (.getfield 13, 3) := by decide +kernel
theorem dX1_fits_13 : decode cX1_fits 13 = .ok (.iconst 1, 1) := by decide +kernel
theorem dX1_fits_14 : decode cX1_fits 14 = .ok (.iaload, 1) := by decide +kernel
theorem dX1_fits_15 : decode cX1_fits 15 = .ok (.if_icmp .gt 29, 3) := by decide +kernel
theorem dX1_fits_18 : decode cX1_fits 18 = .ok (.iload_n 2, 1) := by decide +kernel
theorem dX1_fits_19 : decode cX1_fits 19 = .ok (.aload_n 0, 1) := by decide +kernel
theorem dX1_fits_20 : decode cX1_fits 20 = .ok (.getfield 13, 3) := by decide +kernel
theorem dX1_fits_23 : decode cX1_fits 23 = .ok (.iconst 2, 1) := by decide +kernel
theorem dX1_fits_24 : decode cX1_fits 24 = .ok (.iaload, 1) := by decide +kernel
theorem dX1_fits_25 : decode cX1_fits 25 = .ok (.if_icmp .gt 19, 3) := by decide +kernel
theorem dX1_fits_28 : decode cX1_fits 28 = .ok (.iload_n 1, 1) := by decide +kernel
theorem dX1_fits_29 : decode cX1_fits 29 = .ok (.iload_n 2, 1) := by decide +kernel
theorem dX1_fits_30 : decode cX1_fits 30 = .ok (.iadd, 1) := by decide +kernel
theorem dX1_fits_31 : decode cX1_fits 31 = .ok (.aload_n 0, 1) := by decide +kernel
theorem dX1_fits_32 : decode cX1_fits 32 = .ok (.getfield 13, 3) := by decide +kernel
theorem dX1_fits_35 : decode cX1_fits 35 = .ok (.iconst 3, 1) := by decide +kernel
theorem dX1_fits_36 : decode cX1_fits 36 = .ok (.iaload, 1) := by decide +kernel
theorem dX1_fits_37 : decode cX1_fits 37 = .ok (.if_icmp .gt 7, 3) := by decide +kernel
theorem dX1_fits_40 : decode cX1_fits 40 = .ok (.iconst 1, 1) := by decide +kernel
theorem dX1_fits_41 : decode cX1_fits 41 = .ok (.goto 4, 3) := by decide +kernel
theorem dX1_fits_44 : decode cX1_fits 44 = .ok (.iconst 0, 1) := by decide +kernel
theorem dX1_fits_45 : decode cX1_fits 45 = .ok (.ireturn, 1) := by decide +kernel
abbrev cX1_alone : ByteArray := prog_3_method_10_code
def yX1_alone : MethodName := ⟨RX1, "alone", "(I)I"⟩
theorem dX1_alone_0 : decode cX1_alone 0 = .ok (.aload_n 0, 1) := by decide +kernel
theorem dX1_alone_1 : decode cX1_alone 1 = .ok (.invokevirtual 28, 3) := by decide +kernel
theorem dX1_alone_4 : decode cX1_alone 4 = .ok (.iconst 0, 1) := by decide +kernel
theorem dX1_alone_5 : decode cX1_alone 5 = .ok (.istore_n 2, 1) := by decide +kernel
theorem dX1_alone_6 : decode cX1_alone 6 = .ok (.iconst 0, 1) := by decide +kernel
theorem dX1_alone_7 : decode cX1_alone 7 = .ok (.istore_n 3, 1) := by decide +kernel
theorem dX1_alone_8 : decode cX1_alone 8 = .ok (.iload_n 3, 1) := by decide +kernel
theorem dX1_alone_9 : decode cX1_alone 9 = .ok (.bipush 100, 2) := by decide +kernel
theorem dX1_alone_11 : decode cX1_alone 11 = .ok (.if_icmp .gt 42, 3) := by decide +kernel
theorem dX1_alone_14 : decode cX1_alone 14 = .ok (.iload_n 1, 1) := by decide +kernel
theorem dX1_alone_15 : decode cX1_alone 15 = .ok (.ifCond .ne 12, 3) := by decide +kernel
theorem dX1_alone_18 : decode cX1_alone 18 = .ok (.aload_n 0, 1) := by decide +kernel
theorem dX1_alone_19 : decode cX1_alone 19 = .ok (.iload_n 3, 1) := by decide +kernel
theorem dX1_alone_20 : decode cX1_alone 20 = .ok (.iconst 0, 1) := by decide +kernel
theorem dX1_alone_21 : decode cX1_alone 21 = .ok (.invokevirtual 31, 3) := by decide +kernel
theorem dX1_alone_24 : decode cX1_alone 24 = .ok (.ifCond .ne 17, 3) := by decide +kernel
theorem dX1_alone_27 : decode cX1_alone 27 = .ok (.iload_n 1, 1) := by decide +kernel
theorem dX1_alone_28 : decode cX1_alone 28 = .ok (.iconst 1, 1) := by decide +kernel
theorem dX1_alone_29 : decode cX1_alone 29 = .ok (.if_icmp .ne 16, 3) := by decide +kernel
theorem dX1_alone_32 : decode cX1_alone 32 = .ok (.aload_n 0, 1) := by decide +kernel
theorem dX1_alone_33 : decode cX1_alone 33 = .ok (.iconst 0, 1) := by decide +kernel
theorem dX1_alone_34 : decode cX1_alone 34 = .ok (.iload_n 3, 1) := by decide +kernel
theorem dX1_alone_35 : decode cX1_alone 35 = .ok (.invokevirtual 31, 3) := by decide +kernel
theorem dX1_alone_38 : decode cX1_alone 38 = .ok (.ifCond .eq 7, 3) := by decide +kernel
theorem dX1_alone_41 : decode cX1_alone 41 = .ok (.iload_n 3, 1) := by decide +kernel
theorem dX1_alone_42 : decode cX1_alone 42 = .ok (.goto 4, 3) := by decide +kernel
theorem dX1_alone_45 : decode cX1_alone 45 = .ok (.iload_n 2, 1) := by decide +kernel
theorem dX1_alone_46 : decode cX1_alone 46 = .ok (.istore_n 2, 1) := by decide +kernel
theorem dX1_alone_47 : decode cX1_alone 47 = .ok (.iinc 3 1, 3) := by decide +kernel
theorem dX1_alone_50 : decode cX1_alone 50 = .ok (.goto (-42), 3) := by decide +kernel
theorem dX1_alone_53 : decode cX1_alone 53 = .ok (.iload_n 1, 1) := by decide +kernel
theorem dX1_alone_54 : decode cX1_alone 54 = .ok (.ifCond .eq 8, 3) := by decide +kernel
theorem dX1_alone_57 : decode cX1_alone 57 = .ok (.iload_n 1, 1) := by decide +kernel
theorem dX1_alone_58 : decode cX1_alone 58 = .ok (.iconst 1, 1) := by decide +kernel
theorem dX1_alone_59 : decode cX1_alone 59 = .ok (.if_icmp .ne 7, 3) := by decide +kernel
theorem dX1_alone_62 : decode cX1_alone 62 = .ok (.iload_n 2, 1) := by decide +kernel
theorem dX1_alone_63 : decode cX1_alone 63 = .ok (.goto 4, 3) := by decide +kernel
theorem dX1_alone_66 : decode cX1_alone 66 = .ok (.iconst (-1), 1) := by decide +kernel
theorem dX1_alone_67 : decode cX1_alone 67 = .ok (.ireturn, 1) := by decide +kernel
abbrev cX1_most : ByteArray := prog_3_method_11_code
def yX1_most : MethodName := ⟨RX1, "most", "()I"⟩
theorem dX1_most_0 : decode cX1_most 0 = .ok (.aload_n 0, 1) := by decide +kernel
theorem dX1_most_1 : decode cX1_most 1 = .ok (.invokevirtual 28, 3) := by decide +kernel
theorem dX1_most_4 : decode cX1_most 4 = .ok (.iconst 0, 1) := by decide +kernel
theorem dX1_most_5 : decode cX1_most 5 = .ok (.istore_n 1, 1) := by decide +kernel
theorem dX1_most_6 : decode cX1_most 6 = .ok (.iconst 0, 1) := by decide +kernel
theorem dX1_most_7 : decode cX1_most 7 = .ok (.istore_n 2, 1) := by decide +kernel
theorem dX1_most_8 : decode cX1_most 8 = .ok (.iload_n 2, 1) := by decide +kernel
theorem dX1_most_9 : decode cX1_most 9 = .ok (.bipush 100, 2) := by decide +kernel
theorem dX1_most_11 : decode cX1_most 11 = .ok (.if_icmp .gt 47, 3) := by decide +kernel
theorem dX1_most_14 : decode cX1_most 14 = .ok (.iconst 0, 1) := by decide +kernel
theorem dX1_most_15 : decode cX1_most 15 = .ok (.istore_n 3, 1) := by decide +kernel
theorem dX1_most_16 : decode cX1_most 16 = .ok (.iload_n 3, 1) := by decide +kernel
theorem dX1_most_17 : decode cX1_most 17 = .ok (.bipush 100, 2) := by decide +kernel
theorem dX1_most_19 : decode cX1_most 19 = .ok (.if_icmp .gt 33, 3) := by decide +kernel
theorem dX1_most_22 : decode cX1_most 22 = .ok (.iload_n 2, 1) := by decide +kernel
theorem dX1_most_23 : decode cX1_most 23 = .ok (.iload_n 3, 1) := by decide +kernel
theorem dX1_most_24 : decode cX1_most 24 = .ok (.iadd, 1) := by decide +kernel
theorem dX1_most_25 : decode cX1_most 25 = .ok (.iload_n 1, 1) := by decide +kernel
theorem dX1_most_26 : decode cX1_most 26 = .ok (.if_icmp .le 18, 3) := by decide +kernel
theorem dX1_most_29 : decode cX1_most 29 = .ok (.aload_n 0, 1) := by decide +kernel
theorem dX1_most_30 : decode cX1_most 30 = .ok (.iload_n 2, 1) := by decide +kernel
theorem dX1_most_31 : decode cX1_most 31 = .ok (.iload_n 3, 1) := by decide +kernel
theorem dX1_most_32 : decode cX1_most 32 = .ok (.invokevirtual 31, 3) := by decide +kernel
theorem dX1_most_35 : decode cX1_most 35 = .ok (.ifCond .eq 9, 3) := by decide +kernel
theorem dX1_most_38 : decode cX1_most 38 = .ok (.iload_n 2, 1) := by decide +kernel
theorem dX1_most_39 : decode cX1_most 39 = .ok (.iload_n 3, 1) := by decide +kernel
theorem dX1_most_40 : decode cX1_most 40 = .ok (.iadd, 1) := by decide +kernel
theorem dX1_most_41 : decode cX1_most 41 = .ok (.goto 4, 3) := by decide +kernel
theorem dX1_most_44 : decode cX1_most 44 = .ok (.iload_n 1, 1) := by decide +kernel
theorem dX1_most_45 : decode cX1_most 45 = .ok (.istore_n 1, 1) := by decide +kernel
theorem dX1_most_46 : decode cX1_most 46 = .ok (.iinc 3 1, 3) := by decide +kernel
theorem dX1_most_49 : decode cX1_most 49 = .ok (.goto (-33), 3) := by decide +kernel
theorem dX1_most_52 : decode cX1_most 52 = .ok (.iinc 2 1, 3) := by decide +kernel
theorem dX1_most_55 : decode cX1_most 55 = .ok (.goto (-47), 3) := by decide +kernel
theorem dX1_most_58 : decode cX1_most 58 = .ok (.iload_n 1, 1) := by decide +kernel
theorem dX1_most_59 : decode cX1_most 59 = .ok (.ireturn, 1) := by decide +kernel
abbrev cX1_besides : ByteArray := prog_3_method_12_code
def yX1_besides : MethodName := ⟨RX1, "besides", "(I)I"⟩
theorem dX1_besides_0 : decode cX1_besides 0 = .ok (.aload_n 0, 1) := by decide +kernel
theorem dX1_besides_1 : decode cX1_besides 1 = .ok (.invokevirtual 28, 3) := by decide +kernel
theorem dX1_besides_4 : decode cX1_besides 4 = .ok (.iconst (-1), 1) := by decide +kernel
theorem dX1_besides_5 : decode cX1_besides 5 = .ok (.istore_n 2, 1) := by decide +kernel
theorem dX1_besides_6 : decode cX1_besides 6 = .ok (.iconst 0, 1) := by decide +kernel
theorem dX1_besides_7 : decode cX1_besides 7 = .ok (.istore_n 3, 1) := by decide +kernel
theorem dX1_besides_8 : decode cX1_besides 8 = .ok (.iload_n 3, 1) := by decide +kernel
theorem dX1_besides_9 : decode cX1_besides 9 = .ok (.bipush 100, 2) := by decide +kernel
theorem dX1_besides_11 : decode cX1_besides 11 = .ok (.if_icmp .gt 34, 3) := by decide +kernel
theorem dX1_besides_14 : decode cX1_besides 14 = .ok (.iload_n 1, 1) := by decide +kernel
theorem dX1_besides_15 : decode cX1_besides 15 = .ok (.ifCond .lt 30, 3) := by decide +kernel
theorem dX1_besides_18 : decode cX1_besides 18 = .ok (.iload_n 1, 1) := by decide +kernel
theorem dX1_besides_19 : decode cX1_besides 19 = .ok (.bipush 100, 2) := by decide +kernel
theorem dX1_besides_21 : decode cX1_besides 21 = .ok (.if_icmp .gt 24, 3) := by decide +kernel
theorem dX1_besides_24 : decode cX1_besides 24 = .ok (.aload_n 0, 1) := by decide +kernel
theorem dX1_besides_25 : decode cX1_besides 25 = .ok (.iload_n 1, 1) := by decide +kernel
theorem dX1_besides_26 : decode cX1_besides 26 = .ok (.iload_n 3, 1) := by decide +kernel
theorem dX1_besides_27 : decode cX1_besides 27 = .ok (.invokevirtual 31, 3) := by decide +kernel
theorem dX1_besides_30 : decode cX1_besides 30 = .ok (.ifCond .eq 7, 3) := by decide +kernel
theorem dX1_besides_33 : decode cX1_besides 33 = .ok (.iload_n 3, 1) := by decide +kernel
theorem dX1_besides_34 : decode cX1_besides 34 = .ok (.goto 4, 3) := by decide +kernel
theorem dX1_besides_37 : decode cX1_besides 37 = .ok (.iload_n 2, 1) := by decide +kernel
theorem dX1_besides_38 : decode cX1_besides 38 = .ok (.istore_n 2, 1) := by decide +kernel
theorem dX1_besides_39 : decode cX1_besides 39 = .ok (.iinc 3 1, 3) := by decide +kernel
theorem dX1_besides_42 : decode cX1_besides 42 = .ok (.goto (-34), 3) := by decide +kernel
theorem dX1_besides_45 : decode cX1_besides 45 = .ok (.iload_n 2, 1) := by decide +kernel
theorem dX1_besides_46 : decode cX1_besides 46 = .ok (.ireturn, 1) := by decide +kernel
abbrev cX1_evenly : ByteArray := prog_3_method_13_code
def yX1_evenly : MethodName := ⟨RX1, "evenly", "()I"⟩
theorem dX1_evenly_0 : decode cX1_evenly 0 = .ok (.aload_n 0, 1) := by decide +kernel
theorem dX1_evenly_1 : decode cX1_evenly 1 = .ok (.invokevirtual 28, 3) := by decide +kernel
theorem dX1_evenly_4 : decode cX1_evenly 4 = .ok (.iconst 0, 1) := by decide +kernel
theorem dX1_evenly_5 : decode cX1_evenly 5 = .ok (.istore_n 1, 1) := by decide +kernel
theorem dX1_evenly_6 : decode cX1_evenly 6 = .ok (.iconst 0, 1) := by decide +kernel
theorem dX1_evenly_7 : decode cX1_evenly 7 = .ok (.istore_n 2, 1) := by decide +kernel
theorem dX1_evenly_8 : decode cX1_evenly 8 = .ok (.iload_n 2, 1) := by decide +kernel
theorem dX1_evenly_9 : decode cX1_evenly 9 = .ok (.bipush 100, 2) := by decide +kernel
theorem dX1_evenly_11 : decode cX1_evenly 11 = .ok (.if_icmp .gt 24, 3) := by decide +kernel
theorem dX1_evenly_14 : decode cX1_evenly 14 = .ok (.aload_n 0, 1) := by decide +kernel
theorem dX1_evenly_15 : decode cX1_evenly 15 = .ok (.iload_n 2, 1) := by decide +kernel
theorem dX1_evenly_16 : decode cX1_evenly 16 = .ok (.iload_n 2, 1) := by decide +kernel
theorem dX1_evenly_17 : decode cX1_evenly 17 = .ok (.invokevirtual 31, 3) := by decide +kernel
theorem dX1_evenly_20 : decode cX1_evenly 20 = .ok (.ifCond .eq 7, 3) := by decide +kernel
theorem dX1_evenly_23 : decode cX1_evenly 23 = .ok (.iload_n 2, 1) := by decide +kernel
theorem dX1_evenly_24 : decode cX1_evenly 24 = .ok (.goto 4, 3) := by decide +kernel
theorem dX1_evenly_27 : decode cX1_evenly 27 = .ok (.iload_n 1, 1) := by decide +kernel
theorem dX1_evenly_28 : decode cX1_evenly 28 = .ok (.istore_n 1, 1) := by decide +kernel
theorem dX1_evenly_29 : decode cX1_evenly 29 = .ok (.iinc 2 1, 3) := by decide +kernel
theorem dX1_evenly_32 : decode cX1_evenly 32 = .ok (.goto (-24), 3) := by decide +kernel
theorem dX1_evenly_35 : decode cX1_evenly 35 = .ok (.iload_n 1, 1) := by decide +kernel
theorem dX1_evenly_36 : decode cX1_evenly 36 = .ok (.ireturn, 1) := by decide +kernel
abbrev cX1_pairs : ByteArray := prog_3_method_14_code
def yX1_pairs : MethodName := ⟨RX1, "pairs", "()I"⟩
theorem dX1_pairs_0 : decode cX1_pairs 0 = .ok (.aload_n 0, 1) := by decide +kernel
theorem dX1_pairs_1 : decode cX1_pairs 1 = .ok (.invokevirtual 28, 3) := by decide +kernel
theorem dX1_pairs_4 : decode cX1_pairs 4 = .ok (.iconst 0, 1) := by decide +kernel
theorem dX1_pairs_5 : decode cX1_pairs 5 = .ok (.istore_n 1, 1) := by decide +kernel
theorem dX1_pairs_6 : decode cX1_pairs 6 = .ok (.iconst 0, 1) := by decide +kernel
theorem dX1_pairs_7 : decode cX1_pairs 7 = .ok (.istore_n 2, 1) := by decide +kernel
theorem dX1_pairs_8 : decode cX1_pairs 8 = .ok (.iload_n 2, 1) := by decide +kernel
theorem dX1_pairs_9 : decode cX1_pairs 9 = .ok (.bipush 100, 2) := by decide +kernel
theorem dX1_pairs_11 : decode cX1_pairs 11 = .ok (.if_icmp .gt 40, 3) := by decide +kernel
theorem dX1_pairs_14 : decode cX1_pairs 14 = .ok (.iconst 0, 1) := by decide +kernel
theorem dX1_pairs_15 : decode cX1_pairs 15 = .ok (.istore_n 3, 1) := by decide +kernel
theorem dX1_pairs_16 : decode cX1_pairs 16 = .ok (.iload_n 3, 1) := by decide +kernel
theorem dX1_pairs_17 : decode cX1_pairs 17 = .ok (.bipush 100, 2) := by decide +kernel
theorem dX1_pairs_19 : decode cX1_pairs 19 = .ok (.if_icmp .gt 26, 3) := by decide +kernel
theorem dX1_pairs_22 : decode cX1_pairs 22 = .ok (.aload_n 0, 1) := by decide +kernel
theorem dX1_pairs_23 : decode cX1_pairs 23 = .ok (.iload_n 2, 1) := by decide +kernel
theorem dX1_pairs_24 : decode cX1_pairs 24 = .ok (.iload_n 3, 1) := by decide +kernel
theorem dX1_pairs_25 : decode cX1_pairs 25 = .ok (.invokevirtual 31, 3) := by decide +kernel
theorem dX1_pairs_28 : decode cX1_pairs 28 = .ok (.ifCond .eq 9, 3) := by decide +kernel
theorem dX1_pairs_31 : decode cX1_pairs 31 = .ok (.iload_n 1, 1) := by decide +kernel
theorem dX1_pairs_32 : decode cX1_pairs 32 = .ok (.iconst 1, 1) := by decide +kernel
theorem dX1_pairs_33 : decode cX1_pairs 33 = .ok (.iadd, 1) := by decide +kernel
theorem dX1_pairs_34 : decode cX1_pairs 34 = .ok (.goto 4, 3) := by decide +kernel
theorem dX1_pairs_37 : decode cX1_pairs 37 = .ok (.iload_n 1, 1) := by decide +kernel
theorem dX1_pairs_38 : decode cX1_pairs 38 = .ok (.istore_n 1, 1) := by decide +kernel
theorem dX1_pairs_39 : decode cX1_pairs 39 = .ok (.iinc 3 1, 3) := by decide +kernel
theorem dX1_pairs_42 : decode cX1_pairs 42 = .ok (.goto (-26), 3) := by decide +kernel
theorem dX1_pairs_45 : decode cX1_pairs 45 = .ok (.iinc 2 1, 3) := by decide +kernel
theorem dX1_pairs_48 : decode cX1_pairs 48 = .ok (.goto (-40), 3) := by decide +kernel
theorem dX1_pairs_51 : decode cX1_pairs 51 = .ok (.iload_n 1, 1) := by decide +kernel
theorem dX1_pairs_52 : decode cX1_pairs 52 = .ok (.ireturn, 1) := by decide +kernel
abbrev cX1_worth : ByteArray := prog_3_method_16_code
def yX1_worth : MethodName := ⟨RX1, "worth", "(II)I"⟩
theorem dX1_worth_0 : decode cX1_worth 0 = .ok (.aload_n 0, 1) := by decide +kernel
theorem dX1_worth_1 : decode cX1_worth 1 = .ok (.iload_n 1, 1) := by decide +kernel
theorem dX1_worth_2 : decode cX1_worth 2 = .ok (.iload_n 2, 1) := by decide +kernel
theorem dX1_worth_3 : decode cX1_worth 3 = .ok (.invokevirtual 16, 3) := by decide +kernel
theorem dX1_worth_6 : decode cX1_worth 6 = .ok (.ifCond .eq 30, 3) := by decide +kernel
theorem dX1_worth_9 : decode cX1_worth 9 = .ok (.aload_n 0, 1) := by decide +kernel
theorem dX1_worth_10 : decode cX1_worth 10 = .ok (.iload_n 1, 1) := by decide +kernel
theorem dX1_worth_11 : decode cX1_worth 11 = .ok (.iload_n 2, 1) := by decide +kernel
theorem dX1_worth_12 : decode cX1_worth 12 = .ok (.aload_n 0, 1) := by decide +kernel
theorem dX1_worth_13 : decode cX1_worth 13 = .ok (.getfield 7, 3) := by decide +kernel
theorem dX1_worth_16 : decode cX1_worth 16 = .ok (.bipush 6, 2) := by decide +kernel
theorem dX1_worth_18 : decode cX1_worth 18 = .ok (.iload_n 1, 1) := by decide +kernel
theorem dX1_worth_19 : decode cX1_worth 19 = .ok (.imul, 1) := by decide +kernel
theorem dX1_worth_20 : decode cX1_worth 20 = .ok (.iload_n 2, 1) := by decide +kernel
theorem dX1_worth_21 : decode cX1_worth 21 = .ok (.iadd, 1) := by decide +kernel
theorem dX1_worth_22 : decode cX1_worth 22 = .ok (.iaload, 1) := by decide +kernel
theorem dX1_worth_23 : decode cX1_worth 23 = .ok (.iconst 1, 1) := by decide +kernel
theorem dX1_worth_24 : decode cX1_worth 24 = .ok (.iadd, 1) := by decide +kernel
theorem dX1_worth_25 : decode cX1_worth 25 = .ok (.invokevirtual 38, 3) := by decide +kernel
theorem dX1_worth_28 : decode cX1_worth 28 = .ok (.aload_n 0, 1) := by decide +kernel
theorem dX1_worth_29 : decode cX1_worth 29 = .ok (.invokevirtual 34, 3) := by decide +kernel
theorem dX1_worth_32 : decode cX1_worth 32 = .ok (.isub, 1) := by decide +kernel
theorem dX1_worth_33 : decode cX1_worth 33 = .ok (.goto 4, 3) := by decide +kernel
theorem dX1_worth_36 : decode cX1_worth 36 = .ok (.iconst (-1), 1) := by decide +kernel
theorem dX1_worth_37 : decode cX1_worth 37 = .ok (.ireturn, 1) := by decide +kernel
abbrev cX1_mostWith : ByteArray := prog_3_method_15_code
def yX1_mostWith : MethodName := ⟨RX1, "mostWith", "(III)I"⟩
theorem dX1_mostWith_0 : decode cX1_mostWith 0 = .ok (.aload_n 0, 1) := by decide +kernel
theorem dX1_mostWith_1 : decode cX1_mostWith 1 = .ok (.getfield 7, 3) := by decide +kernel
theorem dX1_mostWith_4 : decode cX1_mostWith 4 = .ok (.bipush 6, 2) := by decide +kernel
theorem dX1_mostWith_6 : decode cX1_mostWith 6 = .ok (.iload_n 1, 1) := by decide +kernel
theorem dX1_mostWith_7 : decode cX1_mostWith 7 = .ok (.imul, 1) := by decide +kernel
theorem dX1_mostWith_8 : decode cX1_mostWith 8 = .ok (.iload_n 2, 1) := by decide +kernel
theorem dX1_mostWith_9 : decode cX1_mostWith 9 = .ok (.iadd, 1) := by decide +kernel
theorem dX1_mostWith_10 : decode cX1_mostWith 10 = .ok (.iaload, 1) := by decide +kernel
theorem dX1_mostWith_11 : decode cX1_mostWith 11 = .ok (.istore 4, 2) := by decide +kernel
theorem dX1_mostWith_13 : decode cX1_mostWith 13 = .ok (.aload_n 0, 1) := by decide +kernel
theorem dX1_mostWith_14 : decode cX1_mostWith 14 = .ok (.iload_n 1, 1) := by decide +kernel
theorem dX1_mostWith_15 : decode cX1_mostWith 15 = .ok (.iload_n 2, 1) := by decide +kernel
theorem dX1_mostWith_16 : decode cX1_mostWith 16 = .ok (.iload_n 3, 1) := by decide +kernel
theorem dX1_mostWith_17 : decode cX1_mostWith 17 = .ok (.invokevirtual 20, 3) := by decide +kernel
theorem dX1_mostWith_20 : decode cX1_mostWith 20 = .ok (.aload_n 0, 1) := by decide +kernel
theorem dX1_mostWith_21 : decode cX1_mostWith 21 = .ok (.invokevirtual 34, 3) := by decide +kernel
theorem dX1_mostWith_24 : decode cX1_mostWith 24 = .ok (.istore 5, 2) := by decide +kernel
theorem dX1_mostWith_26 : decode cX1_mostWith 26 = .ok (.aload_n 0, 1) := by decide +kernel
theorem dX1_mostWith_27 : decode cX1_mostWith 27 = .ok (.iload_n 1, 1) := by decide +kernel
theorem dX1_mostWith_28 : decode cX1_mostWith 28 = .ok (.iload_n 2, 1) := by decide +kernel
theorem dX1_mostWith_29 : decode cX1_mostWith 29 = .ok (.iload 4, 2) := by decide +kernel
theorem dX1_mostWith_31 : decode cX1_mostWith 31 = .ok (.invokevirtual 20, 3) := by decide +kernel
theorem dX1_mostWith_34 : decode cX1_mostWith 34 = .ok (.iload 5, 2) := by decide +kernel
theorem dX1_mostWith_36 : decode cX1_mostWith 36 = .ok (.ireturn, 1) := by decide +kernel
abbrev cX1_loss : ByteArray := prog_3_method_17_code
def yX1_loss : MethodName := ⟨RX1, "loss", "(II)I"⟩
theorem dX1_loss_0 : decode cX1_loss 0 = .ok (.aload_n 0, 1) := by decide +kernel
theorem dX1_loss_1 : decode cX1_loss 1 = .ok (.iload_n 1, 1) := by decide +kernel
theorem dX1_loss_2 : decode cX1_loss 2 = .ok (.iload_n 2, 1) := by decide +kernel
theorem dX1_loss_3 : decode cX1_loss 3 = .ok (.invokevirtual 16, 3) := by decide +kernel
theorem dX1_loss_6 : decode cX1_loss 6 = .ok (.ifCond .eq 18, 3) := by decide +kernel
theorem dX1_loss_9 : decode cX1_loss 9 = .ok (.aload_n 0, 1) := by decide +kernel
theorem dX1_loss_10 : decode cX1_loss 10 = .ok (.invokevirtual 34, 3) := by decide +kernel
theorem dX1_loss_13 : decode cX1_loss 13 = .ok (.aload_n 0, 1) := by decide +kernel
theorem dX1_loss_14 : decode cX1_loss 14 = .ok (.iload_n 1, 1) := by decide +kernel
theorem dX1_loss_15 : decode cX1_loss 15 = .ok (.iload_n 2, 1) := by decide +kernel
theorem dX1_loss_16 : decode cX1_loss 16 = .ok (.iconst 0, 1) := by decide +kernel
theorem dX1_loss_17 : decode cX1_loss 17 = .ok (.invokevirtual 38, 3) := by decide +kernel
theorem dX1_loss_20 : decode cX1_loss 20 = .ok (.isub, 1) := by decide +kernel
theorem dX1_loss_21 : decode cX1_loss 21 = .ok (.goto 4, 3) := by decide +kernel
theorem dX1_loss_24 : decode cX1_loss 24 = .ok (.iconst (-1), 1) := by decide +kernel
theorem dX1_loss_25 : decode cX1_loss 25 = .ok (.ireturn, 1) := by decide +kernel
abbrev cX1_full : ByteArray := prog_3_method_18_code
def yX1_full : MethodName := ⟨RX1, "full", "(II)Z"⟩
theorem dX1_full_0 : decode cX1_full 0 = .ok (.aload_n 0, 1) := by decide +kernel
theorem dX1_full_1 : decode cX1_full 1 = .ok (.iload_n 1, 1) := by decide +kernel
theorem dX1_full_2 : decode cX1_full 2 = .ok (.iload_n 2, 1) := by decide +kernel
theorem dX1_full_3 : decode cX1_full 3 = .ok (.invokevirtual 42, 3) := by decide +kernel
theorem dX1_full_6 : decode cX1_full 6 = .ok (.ifCond .eq 29, 3) := by decide +kernel
theorem dX1_full_9 : decode cX1_full 9 = .ok (.aload_n 0, 1) := by decide +kernel
theorem dX1_full_10 : decode cX1_full 10 = .ok (.iload_n 1, 1) := by decide +kernel
theorem dX1_full_11 : decode cX1_full 11 = .ok (.iconst 1, 1) := by decide +kernel
theorem dX1_full_12 : decode cX1_full 12 = .ok (.iadd, 1) := by decide +kernel
theorem dX1_full_13 : decode cX1_full 13 = .ok (.iload_n 2, 1) := by decide +kernel
theorem dX1_full_14 : decode cX1_full 14 = .ok (.invokevirtual 42, 3) := by decide +kernel
theorem dX1_full_17 : decode cX1_full 17 = .ok (.ifCond .ne 18, 3) := by decide +kernel
theorem dX1_full_20 : decode cX1_full 20 = .ok (.aload_n 0, 1) := by decide +kernel
theorem dX1_full_21 : decode cX1_full 21 = .ok (.iload_n 1, 1) := by decide +kernel
theorem dX1_full_22 : decode cX1_full 22 = .ok (.iload_n 2, 1) := by decide +kernel
theorem dX1_full_23 : decode cX1_full 23 = .ok (.iconst 1, 1) := by decide +kernel
theorem dX1_full_24 : decode cX1_full 24 = .ok (.iadd, 1) := by decide +kernel
theorem dX1_full_25 : decode cX1_full 25 = .ok (.invokevirtual 42, 3) := by decide +kernel
theorem dX1_full_28 : decode cX1_full 28 = .ok (.ifCond .ne 7, 3) := by decide +kernel
theorem dX1_full_31 : decode cX1_full 31 = .ok (.iconst 1, 1) := by decide +kernel
theorem dX1_full_32 : decode cX1_full 32 = .ok (.goto 4, 3) := by decide +kernel
theorem dX1_full_35 : decode cX1_full 35 = .ok (.iconst 0, 1) := by decide +kernel
theorem dX1_full_36 : decode cX1_full 36 = .ok (.ireturn, 1) := by decide +kernel
theorem q13 : (Jvm.Cond.initialized "TwoFlowsModel") ∈ lw_all := lw_g (lw_at lw_m0 2 rfl) rfl
theorem q132 : (Jvm.Cond.instantiable "TwoFlowsModel" (2 : Nat)) ∈ lw_all := lw_g (lw_at lw_m0 121 rfl) rfl
theorem q134 : (Jvm.Cond.instanceMethod ({ cls := "TwoFlowsModel", name := "<init>", desc := "()V" } : Jvm.MethodName)) ∈ lw_all := lw_g (lw_at lw_m0 123 rfl) rfl
theorem q135 : (Jvm.Cond.code ({ cls := "TwoFlowsModel", name := "<init>", desc := "()V" } : Jvm.MethodName) prog_3_method_1_code (1 : Nat) (Option.none : Option Jvm.ClassFile.FieldType)) ∈ lw_all := lw_g (lw_at lw_m0 124 rfl) rfl
theorem q136 : (Jvm.Cond.methodLink "TwoFlowsModel" (1 : Nat) ({ cls := "java/lang/Object", name := "<init>", desc := "()V" } : Jvm.MethodName)) ∈ lw_all := lw_g (lw_at lw_m0 125 rfl) rfl
theorem q137 : (Jvm.Cond.fieldLink "TwoFlowsModel" (7 : Nat) "TwoFlowsModel" "caps" "[I") ∈ lw_all := lw_g (lw_at lw_m0 126 rfl) rfl
theorem q138 : (Jvm.Cond.fieldLink "TwoFlowsModel" (13 : Nat) "TwoFlowsModel" "limits" "[I") ∈ lw_all := lw_g (lw_at lw_m0 127 rfl) rfl
theorem q139 : (Jvm.Cond.lays "TwoFlowsModel" "TwoFlowsModel" "caps" "[I") ∈ lw_all := lw_g (lw_at lw_m0 128 rfl) rfl
theorem q140 : (Jvm.Cond.soleField "TwoFlowsModel" "caps") ∈ lw_all := lw_g (lw_at lw_m0 129 rfl) rfl
theorem q141 : (Jvm.Cond.lays "TwoFlowsModel" "TwoFlowsModel" "limits" "[I") ∈ lw_all := lw_g (lw_at lw_m0 130 rfl) rfl
theorem q142 : (Jvm.Cond.soleField "TwoFlowsModel" "limits") ∈ lw_all := lw_g (lw_at lw_m0 131 rfl) rfl
theorem q143 : (Jvm.Cond.superclass "TwoFlowsModel" "java/lang/Object") ∈ lw_all := lw_g (lw_at lw_m0 132 rfl) rfl
theorem q145 : (Jvm.Cond.instanceMethod ({ cls := "TwoFlowsModel", name := "set", desc := "(III)Z" } : Jvm.MethodName)) ∈ lw_all := lw_g (lw_at lw_m0 134 rfl) rfl
theorem q146 : (Jvm.Cond.selects "TwoFlowsModel" ({ cls := "TwoFlowsModel", name := "set", desc := "(III)Z" } : Jvm.MethodName) ({ cls := "TwoFlowsModel", name := "set", desc := "(III)Z" } : Jvm.MethodName)) ∈ lw_all := lw_g (lw_at lw_m0 135 rfl) rfl
theorem q147 : (Jvm.Cond.code ({ cls := "TwoFlowsModel", name := "set", desc := "(III)Z" } : Jvm.MethodName) prog_3_method_4_code (4 : Nat) (Option.some Jvm.ClassFile.FieldType.boolean)) ∈ lw_all := lw_g (lw_at lw_m0 136 rfl) rfl
theorem q148 : (Jvm.Cond.methodLink "TwoFlowsModel" (16 : Nat) ({ cls := "TwoFlowsModel", name := "pair", desc := "(II)Z" } : Jvm.MethodName)) ∈ lw_all := lw_g (lw_at lw_m0 137 rfl) rfl
theorem q149 : (Jvm.Cond.privateMethod ({ cls := "TwoFlowsModel", name := "pair", desc := "(II)Z" } : Jvm.MethodName)) ∈ lw_tbl := lw_at lw_m0 138 rfl
theorem q150 : (Jvm.Cond.instanceMethod ({ cls := "TwoFlowsModel", name := "pair", desc := "(II)Z" } : Jvm.MethodName)) ∈ lw_all := lw_g (lw_at lw_m0 139 rfl) rfl
theorem q151 : (Jvm.Cond.code ({ cls := "TwoFlowsModel", name := "pair", desc := "(II)Z" } : Jvm.MethodName) prog_3_method_2_code (3 : Nat) (Option.some Jvm.ClassFile.FieldType.boolean)) ∈ lw_all := lw_g (lw_at lw_m0 140 rfl) rfl
theorem q152 : (Jvm.Cond.methodLink "TwoFlowsModel" (20 : Nat) ({ cls := "TwoFlowsModel", name := "put", desc := "(III)V" } : Jvm.MethodName)) ∈ lw_all := lw_g (lw_at lw_m0 141 rfl) rfl
theorem q153 : (Jvm.Cond.privateMethod ({ cls := "TwoFlowsModel", name := "put", desc := "(III)V" } : Jvm.MethodName)) ∈ lw_tbl := lw_at lw_m0 142 rfl
theorem q154 : (Jvm.Cond.instanceMethod ({ cls := "TwoFlowsModel", name := "put", desc := "(III)V" } : Jvm.MethodName)) ∈ lw_all := lw_g (lw_at lw_m0 143 rfl) rfl
theorem q155 : (Jvm.Cond.code ({ cls := "TwoFlowsModel", name := "put", desc := "(III)V" } : Jvm.MethodName) prog_3_method_3_code (4 : Nat) (Option.none : Option Jvm.ClassFile.FieldType)) ∈ lw_all := lw_g (lw_at lw_m0 144 rfl) rfl
theorem q157 : (Jvm.Cond.instanceMethod ({ cls := "TwoFlowsModel", name := "capacity", desc := "(II)I" } : Jvm.MethodName)) ∈ lw_all := lw_g (lw_at lw_m0 146 rfl) rfl
theorem q158 : (Jvm.Cond.selects "TwoFlowsModel" ({ cls := "TwoFlowsModel", name := "capacity", desc := "(II)I" } : Jvm.MethodName) ({ cls := "TwoFlowsModel", name := "capacity", desc := "(II)I" } : Jvm.MethodName)) ∈ lw_all := lw_g (lw_at lw_m0 147 rfl) rfl
theorem q159 : (Jvm.Cond.code ({ cls := "TwoFlowsModel", name := "capacity", desc := "(II)I" } : Jvm.MethodName) prog_3_method_5_code (3 : Nat) (Option.some Jvm.ClassFile.FieldType.int)) ∈ lw_all := lw_g (lw_at lw_m0 148 rfl) rfl
theorem q161 : (Jvm.Cond.instanceMethod ({ cls := "TwoFlowsModel", name := "width", desc := "(I)I" } : Jvm.MethodName)) ∈ lw_all := lw_g (lw_at lw_m0 150 rfl) rfl
theorem q162 : (Jvm.Cond.selects "TwoFlowsModel" ({ cls := "TwoFlowsModel", name := "width", desc := "(I)I" } : Jvm.MethodName) ({ cls := "TwoFlowsModel", name := "width", desc := "(I)I" } : Jvm.MethodName)) ∈ lw_all := lw_g (lw_at lw_m0 151 rfl) rfl
theorem q163 : (Jvm.Cond.code ({ cls := "TwoFlowsModel", name := "width", desc := "(I)I" } : Jvm.MethodName) prog_3_method_6_code (5 : Nat) (Option.some Jvm.ClassFile.FieldType.int)) ∈ lw_all := lw_g (lw_at lw_m0 152 rfl) rfl
theorem q165 : (Jvm.Cond.instanceMethod ({ cls := "TwoFlowsModel", name := "carries", desc := "(II)Z" } : Jvm.MethodName)) ∈ lw_all := lw_g (lw_at lw_m0 154 rfl) rfl
theorem q166 : (Jvm.Cond.selects "TwoFlowsModel" ({ cls := "TwoFlowsModel", name := "carries", desc := "(II)Z" } : Jvm.MethodName) ({ cls := "TwoFlowsModel", name := "carries", desc := "(II)Z" } : Jvm.MethodName)) ∈ lw_all := lw_g (lw_at lw_m0 155 rfl) rfl
theorem q167 : (Jvm.Cond.code ({ cls := "TwoFlowsModel", name := "carries", desc := "(II)Z" } : Jvm.MethodName) prog_3_method_9_code (3 : Nat) (Option.some Jvm.ClassFile.FieldType.boolean)) ∈ lw_all := lw_g (lw_at lw_m0 156 rfl) rfl
theorem q168 : (Jvm.Cond.methodLink "TwoFlowsModel" (28 : Nat) ({ cls := "TwoFlowsModel", name := "work", desc := "()V" } : Jvm.MethodName)) ∈ lw_all := lw_g (lw_at lw_m0 157 rfl) rfl
theorem q169 : (Jvm.Cond.privateMethod ({ cls := "TwoFlowsModel", name := "work", desc := "()V" } : Jvm.MethodName)) ∈ lw_tbl := lw_at lw_m0 158 rfl
theorem q170 : (Jvm.Cond.instanceMethod ({ cls := "TwoFlowsModel", name := "work", desc := "()V" } : Jvm.MethodName)) ∈ lw_all := lw_g (lw_at lw_m0 159 rfl) rfl
theorem q171 : (Jvm.Cond.code ({ cls := "TwoFlowsModel", name := "work", desc := "()V" } : Jvm.MethodName) prog_3_method_7_code (5 : Nat) (Option.none : Option Jvm.ClassFile.FieldType)) ∈ lw_all := lw_g (lw_at lw_m0 160 rfl) rfl
theorem q172 : (Jvm.Cond.methodLink "TwoFlowsModel" (24 : Nat) ({ cls := "TwoFlowsModel", name := "width", desc := "(I)I" } : Jvm.MethodName)) ∈ lw_all := lw_g (lw_at lw_m0 161 rfl) rfl
theorem q173 : (Jvm.Cond.methodLink "TwoFlowsModel" (31 : Nat) ({ cls := "TwoFlowsModel", name := "fits", desc := "(II)Z" } : Jvm.MethodName)) ∈ lw_all := lw_g (lw_at lw_m0 162 rfl) rfl
theorem q174 : (Jvm.Cond.privateMethod ({ cls := "TwoFlowsModel", name := "fits", desc := "(II)Z" } : Jvm.MethodName)) ∈ lw_tbl := lw_at lw_m0 163 rfl
theorem q175 : (Jvm.Cond.instanceMethod ({ cls := "TwoFlowsModel", name := "fits", desc := "(II)Z" } : Jvm.MethodName)) ∈ lw_all := lw_g (lw_at lw_m0 164 rfl) rfl
theorem q176 : (Jvm.Cond.code ({ cls := "TwoFlowsModel", name := "fits", desc := "(II)Z" } : Jvm.MethodName) prog_3_method_8_code (3 : Nat) (Option.some Jvm.ClassFile.FieldType.boolean)) ∈ lw_all := lw_g (lw_at lw_m0 165 rfl) rfl
theorem q178 : (Jvm.Cond.instanceMethod ({ cls := "TwoFlowsModel", name := "alone", desc := "(I)I" } : Jvm.MethodName)) ∈ lw_all := lw_g (lw_at lw_m0 167 rfl) rfl
theorem q179 : (Jvm.Cond.selects "TwoFlowsModel" ({ cls := "TwoFlowsModel", name := "alone", desc := "(I)I" } : Jvm.MethodName) ({ cls := "TwoFlowsModel", name := "alone", desc := "(I)I" } : Jvm.MethodName)) ∈ lw_all := lw_g (lw_at lw_m0 168 rfl) rfl
theorem q180 : (Jvm.Cond.code ({ cls := "TwoFlowsModel", name := "alone", desc := "(I)I" } : Jvm.MethodName) prog_3_method_10_code (4 : Nat) (Option.some Jvm.ClassFile.FieldType.int)) ∈ lw_all := lw_g (lw_at lw_m0 169 rfl) rfl
theorem q182 : (Jvm.Cond.instanceMethod ({ cls := "TwoFlowsModel", name := "most", desc := "()I" } : Jvm.MethodName)) ∈ lw_all := lw_g (lw_at lw_m0 171 rfl) rfl
theorem q183 : (Jvm.Cond.selects "TwoFlowsModel" ({ cls := "TwoFlowsModel", name := "most", desc := "()I" } : Jvm.MethodName) ({ cls := "TwoFlowsModel", name := "most", desc := "()I" } : Jvm.MethodName)) ∈ lw_all := lw_g (lw_at lw_m0 172 rfl) rfl
theorem q184 : (Jvm.Cond.code ({ cls := "TwoFlowsModel", name := "most", desc := "()I" } : Jvm.MethodName) prog_3_method_11_code (4 : Nat) (Option.some Jvm.ClassFile.FieldType.int)) ∈ lw_all := lw_g (lw_at lw_m0 173 rfl) rfl
theorem q186 : (Jvm.Cond.instanceMethod ({ cls := "TwoFlowsModel", name := "besides", desc := "(I)I" } : Jvm.MethodName)) ∈ lw_all := lw_g (lw_at lw_m0 175 rfl) rfl
theorem q187 : (Jvm.Cond.selects "TwoFlowsModel" ({ cls := "TwoFlowsModel", name := "besides", desc := "(I)I" } : Jvm.MethodName) ({ cls := "TwoFlowsModel", name := "besides", desc := "(I)I" } : Jvm.MethodName)) ∈ lw_all := lw_g (lw_at lw_m0 176 rfl) rfl
theorem q188 : (Jvm.Cond.code ({ cls := "TwoFlowsModel", name := "besides", desc := "(I)I" } : Jvm.MethodName) prog_3_method_12_code (4 : Nat) (Option.some Jvm.ClassFile.FieldType.int)) ∈ lw_all := lw_g (lw_at lw_m0 177 rfl) rfl
theorem q190 : (Jvm.Cond.instanceMethod ({ cls := "TwoFlowsModel", name := "evenly", desc := "()I" } : Jvm.MethodName)) ∈ lw_all := lw_g (lw_at lw_m0 179 rfl) rfl
theorem q191 : (Jvm.Cond.selects "TwoFlowsModel" ({ cls := "TwoFlowsModel", name := "evenly", desc := "()I" } : Jvm.MethodName) ({ cls := "TwoFlowsModel", name := "evenly", desc := "()I" } : Jvm.MethodName)) ∈ lw_all := lw_g (lw_at lw_m0 180 rfl) rfl
theorem q192 : (Jvm.Cond.code ({ cls := "TwoFlowsModel", name := "evenly", desc := "()I" } : Jvm.MethodName) prog_3_method_13_code (3 : Nat) (Option.some Jvm.ClassFile.FieldType.int)) ∈ lw_all := lw_g (lw_at lw_m0 181 rfl) rfl
theorem q194 : (Jvm.Cond.instanceMethod ({ cls := "TwoFlowsModel", name := "pairs", desc := "()I" } : Jvm.MethodName)) ∈ lw_all := lw_g (lw_at lw_m0 183 rfl) rfl
theorem q195 : (Jvm.Cond.selects "TwoFlowsModel" ({ cls := "TwoFlowsModel", name := "pairs", desc := "()I" } : Jvm.MethodName) ({ cls := "TwoFlowsModel", name := "pairs", desc := "()I" } : Jvm.MethodName)) ∈ lw_all := lw_g (lw_at lw_m0 184 rfl) rfl
theorem q196 : (Jvm.Cond.code ({ cls := "TwoFlowsModel", name := "pairs", desc := "()I" } : Jvm.MethodName) prog_3_method_14_code (4 : Nat) (Option.some Jvm.ClassFile.FieldType.int)) ∈ lw_all := lw_g (lw_at lw_m0 185 rfl) rfl
theorem q198 : (Jvm.Cond.instanceMethod ({ cls := "TwoFlowsModel", name := "worth", desc := "(II)I" } : Jvm.MethodName)) ∈ lw_all := lw_g (lw_at lw_m0 187 rfl) rfl
theorem q199 : (Jvm.Cond.selects "TwoFlowsModel" ({ cls := "TwoFlowsModel", name := "worth", desc := "(II)I" } : Jvm.MethodName) ({ cls := "TwoFlowsModel", name := "worth", desc := "(II)I" } : Jvm.MethodName)) ∈ lw_all := lw_g (lw_at lw_m0 188 rfl) rfl
theorem q200 : (Jvm.Cond.code ({ cls := "TwoFlowsModel", name := "worth", desc := "(II)I" } : Jvm.MethodName) prog_3_method_16_code (3 : Nat) (Option.some Jvm.ClassFile.FieldType.int)) ∈ lw_all := lw_g (lw_at lw_m0 189 rfl) rfl
theorem q201 : (Jvm.Cond.methodLink "TwoFlowsModel" (38 : Nat) ({ cls := "TwoFlowsModel", name := "mostWith", desc := "(III)I" } : Jvm.MethodName)) ∈ lw_all := lw_g (lw_at lw_m0 190 rfl) rfl
theorem q202 : (Jvm.Cond.privateMethod ({ cls := "TwoFlowsModel", name := "mostWith", desc := "(III)I" } : Jvm.MethodName)) ∈ lw_tbl := lw_at lw_m0 191 rfl
theorem q203 : (Jvm.Cond.instanceMethod ({ cls := "TwoFlowsModel", name := "mostWith", desc := "(III)I" } : Jvm.MethodName)) ∈ lw_all := lw_g (lw_at lw_m0 192 rfl) rfl
theorem q204 : (Jvm.Cond.code ({ cls := "TwoFlowsModel", name := "mostWith", desc := "(III)I" } : Jvm.MethodName) prog_3_method_15_code (6 : Nat) (Option.some Jvm.ClassFile.FieldType.int)) ∈ lw_all := lw_g (lw_at lw_m0 193 rfl) rfl
theorem q205 : (Jvm.Cond.methodLink "TwoFlowsModel" (34 : Nat) ({ cls := "TwoFlowsModel", name := "most", desc := "()I" } : Jvm.MethodName)) ∈ lw_all := lw_g (lw_at lw_m0 194 rfl) rfl
theorem q207 : (Jvm.Cond.instanceMethod ({ cls := "TwoFlowsModel", name := "loss", desc := "(II)I" } : Jvm.MethodName)) ∈ lw_all := lw_g (lw_at lw_m0 196 rfl) rfl
theorem q208 : (Jvm.Cond.selects "TwoFlowsModel" ({ cls := "TwoFlowsModel", name := "loss", desc := "(II)I" } : Jvm.MethodName) ({ cls := "TwoFlowsModel", name := "loss", desc := "(II)I" } : Jvm.MethodName)) ∈ lw_all := lw_g (lw_at lw_m0 197 rfl) rfl
theorem q209 : (Jvm.Cond.code ({ cls := "TwoFlowsModel", name := "loss", desc := "(II)I" } : Jvm.MethodName) prog_3_method_17_code (3 : Nat) (Option.some Jvm.ClassFile.FieldType.int)) ∈ lw_all := lw_g (lw_at lw_m0 198 rfl) rfl
theorem q211 : (Jvm.Cond.instanceMethod ({ cls := "TwoFlowsModel", name := "full", desc := "(II)Z" } : Jvm.MethodName)) ∈ lw_all := lw_g (lw_at lw_m0 200 rfl) rfl
theorem q212 : (Jvm.Cond.selects "TwoFlowsModel" ({ cls := "TwoFlowsModel", name := "full", desc := "(II)Z" } : Jvm.MethodName) ({ cls := "TwoFlowsModel", name := "full", desc := "(II)Z" } : Jvm.MethodName)) ∈ lw_all := lw_g (lw_at lw_m0 201 rfl) rfl
theorem q213 : (Jvm.Cond.code ({ cls := "TwoFlowsModel", name := "full", desc := "(II)Z" } : Jvm.MethodName) prog_3_method_18_code (3 : Nat) (Option.some Jvm.ClassFile.FieldType.boolean)) ∈ lw_all := lw_g (lw_at lw_m0 202 rfl) rfl
theorem q214 : (Jvm.Cond.methodLink "TwoFlowsModel" (42 : Nat) ({ cls := "TwoFlowsModel", name := "carries", desc := "(II)Z" } : Jvm.MethodName)) ∈ lw_all := lw_g (lw_at lw_m0 203 rfl) rfl
theorem in_X1 : ∀ w ∈ wsX10, w ∈ lw_all := lw_in wsX10 [139, 141] (by decide +kernel) (by decide +kernel)
end
section
/-! the law's own entry -/
set_option maxRecDepth 100000
abbrev cL_law : ByteArray := code
theorem dL_law_0 : decode cL_law 0 = .ok (.new 7, 3) := by decide +kernel
theorem dL_law_3 : decode cL_law 3 = .ok (.dup, 1) := by decide +kernel
theorem dL_law_4 : decode cL_law 4 = .ok (.invokespecial 9, 3) := by decide +kernel
theorem dL_law_7 : decode cL_law 7 = .ok (.astore_n 1, 1) := by decide +kernel
theorem dL_law_8 : decode cL_law 8 = .ok (.new 10, 3) := by decide +kernel
theorem dL_law_11 : decode cL_law 11 = .ok (.dup, 1) := by decide +kernel
theorem dL_law_12 : decode cL_law 12 = .ok (.invokespecial 12, 3) := by decide +kernel
theorem dL_law_15 : decode cL_law 15 = .ok (.astore_n 2, 1) := by decide +kernel
theorem dL_law_16 : decode cL_law 16 = .ok (.iconst 0, 1) := by decide +kernel
theorem dL_law_17 : decode cL_law 17 = .ok (.istore_n 3, 1) := by decide +kernel
theorem dL_law_18 : decode cL_law 18 = .ok (.iload_n 3, 1) := by decide +kernel
theorem dL_law_19 : decode cL_law 19 = .ok (.aload_n 0, 1) := by decide +kernel
theorem dL_law_20 : decode cL_law 20 = .ok (.arraylength, 1) := by decide +kernel
theorem dL_law_21 : decode cL_law 21 = .ok (.iconst 4, 1) := by decide +kernel
theorem dL_law_22 : decode cL_law 22 = .ok (.isub, 1) := by decide +kernel
theorem dL_law_23 : decode cL_law 23 = .ok (.if_icmp .gt 395, 3) := by decide +kernel
theorem dL_law_26 : decode cL_law 26 = .ok (.aload_n 0, 1) := by decide +kernel
theorem dL_law_27 : decode cL_law 27 = .ok (.iload_n 3, 1) := by decide +kernel
theorem dL_law_28 : decode cL_law 28 = .ok (.iaload, 1) := by decide +kernel
theorem dL_law_29 : decode cL_law 29 = .ok (.bipush 15, 2) := by decide +kernel
theorem dL_law_31 : decode cL_law 31 = .ok (.iand, 1) := by decide +kernel
theorem dL_law_32 : decode cL_law 32 = .ok (.tableswitch 380 0 11 #[64, 107, 140, 163, 196, 219, 232, 255, 268, 281, 314, 347], 64) := by decide +kernel
theorem dL_law_96 : decode cL_law 96 = .ok (.aload_n 1, 1) := by decide +kernel
theorem dL_law_97 : decode cL_law 97 = .ok (.aload_n 0, 1) := by decide +kernel
theorem dL_law_98 : decode cL_law 98 = .ok (.iload_n 3, 1) := by decide +kernel
theorem dL_law_99 : decode cL_law 99 = .ok (.iconst 1, 1) := by decide +kernel
theorem dL_law_100 : decode cL_law 100 = .ok (.iadd, 1) := by decide +kernel
theorem dL_law_101 : decode cL_law 101 = .ok (.iaload, 1) := by decide +kernel
theorem dL_law_102 : decode cL_law 102 = .ok (.aload_n 0, 1) := by decide +kernel
theorem dL_law_103 : decode cL_law 103 = .ok (.iload_n 3, 1) := by decide +kernel
theorem dL_law_104 : decode cL_law 104 = .ok (.iconst 2, 1) := by decide +kernel
theorem dL_law_105 : decode cL_law 105 = .ok (.iadd, 1) := by decide +kernel
theorem dL_law_106 : decode cL_law 106 = .ok (.iaload, 1) := by decide +kernel
theorem dL_law_107 : decode cL_law 107 = .ok (.aload_n 0, 1) := by decide +kernel
theorem dL_law_108 : decode cL_law 108 = .ok (.iload_n 3, 1) := by decide +kernel
theorem dL_law_109 : decode cL_law 109 = .ok (.iconst 3, 1) := by decide +kernel
theorem dL_law_110 : decode cL_law 110 = .ok (.iadd, 1) := by decide +kernel
theorem dL_law_111 : decode cL_law 111 = .ok (.iaload, 1) := by decide +kernel
theorem dL_law_112 : decode cL_law 112 = .ok (.invokevirtual 13, 3) := by decide +kernel
theorem dL_law_115 : decode cL_law 115 = .ok (.aload_n 2, 1) := by decide +kernel
theorem dL_law_116 : decode cL_law 116 = .ok (.aload_n 0, 1) := by decide +kernel
theorem dL_law_117 : decode cL_law 117 = .ok (.iload_n 3, 1) := by decide +kernel
theorem dL_law_118 : decode cL_law 118 = .ok (.iconst 1, 1) := by decide +kernel
theorem dL_law_119 : decode cL_law 119 = .ok (.iadd, 1) := by decide +kernel
theorem dL_law_120 : decode cL_law 120 = .ok (.iaload, 1) := by decide +kernel
theorem dL_law_121 : decode cL_law 121 = .ok (.aload_n 0, 1) := by decide +kernel
theorem dL_law_122 : decode cL_law 122 = .ok (.iload_n 3, 1) := by decide +kernel
theorem dL_law_123 : decode cL_law 123 = .ok (.iconst 2, 1) := by decide +kernel
theorem dL_law_124 : decode cL_law 124 = .ok (.iadd, 1) := by decide +kernel
theorem dL_law_125 : decode cL_law 125 = .ok (.iaload, 1) := by decide +kernel
theorem dL_law_126 : decode cL_law 126 = .ok (.aload_n 0, 1) := by decide +kernel
theorem dL_law_127 : decode cL_law 127 = .ok (.iload_n 3, 1) := by decide +kernel
theorem dL_law_128 : decode cL_law 128 = .ok (.iconst 3, 1) := by decide +kernel
theorem dL_law_129 : decode cL_law 129 = .ok (.iadd, 1) := by decide +kernel
theorem dL_law_130 : decode cL_law 130 = .ok (.iaload, 1) := by decide +kernel
theorem dL_law_131 : decode cL_law 131 = .ok (.invokevirtual 17, 3) := by decide +kernel
theorem dL_law_134 : decode cL_law 134 = .ok (.if_icmp .eq 278, 3) := by decide +kernel
theorem dL_law_137 : decode cL_law 137 = .ok (.iconst 0, 1) := by decide +kernel
theorem dL_law_138 : decode cL_law 138 = .ok (.ireturn, 1) := by decide +kernel
theorem dL_law_139 : decode cL_law 139 = .ok (.aload_n 1, 1) := by decide +kernel
theorem dL_law_140 : decode cL_law 140 = .ok (.aload_n 0, 1) := by decide +kernel
theorem dL_law_141 : decode cL_law 141 = .ok (.iload_n 3, 1) := by decide +kernel
theorem dL_law_142 : decode cL_law 142 = .ok (.iconst 1, 1) := by decide +kernel
theorem dL_law_143 : decode cL_law 143 = .ok (.iadd, 1) := by decide +kernel
theorem dL_law_144 : decode cL_law 144 = .ok (.iaload, 1) := by decide +kernel
theorem dL_law_145 : decode cL_law 145 = .ok (.aload_n 0, 1) := by decide +kernel
theorem dL_law_146 : decode cL_law 146 = .ok (.iload_n 3, 1) := by decide +kernel
theorem dL_law_147 : decode cL_law 147 = .ok (.iconst 2, 1) := by decide +kernel
theorem dL_law_148 : decode cL_law 148 = .ok (.iadd, 1) := by decide +kernel
theorem dL_law_149 : decode cL_law 149 = .ok (.iaload, 1) := by decide +kernel
theorem dL_law_150 : decode cL_law 150 = .ok (.invokevirtual 18, 3) := by decide +kernel
theorem dL_law_153 : decode cL_law 153 = .ok (.aload_n 2, 1) := by decide +kernel
theorem dL_law_154 : decode cL_law 154 = .ok (.aload_n 0, 1) := by decide +kernel
theorem dL_law_155 : decode cL_law 155 = .ok (.iload_n 3, 1) := by decide +kernel
theorem dL_law_156 : decode cL_law 156 = .ok (.iconst 1, 1) := by decide +kernel
theorem dL_law_157 : decode cL_law 157 = .ok (.iadd, 1) := by decide +kernel
theorem dL_law_158 : decode cL_law 158 = .ok (.iaload, 1) := by decide +kernel
theorem dL_law_159 : decode cL_law 159 = .ok (.aload_n 0, 1) := by decide +kernel
theorem dL_law_160 : decode cL_law 160 = .ok (.iload_n 3, 1) := by decide +kernel
theorem dL_law_161 : decode cL_law 161 = .ok (.iconst 2, 1) := by decide +kernel
theorem dL_law_162 : decode cL_law 162 = .ok (.iadd, 1) := by decide +kernel
theorem dL_law_163 : decode cL_law 163 = .ok (.iaload, 1) := by decide +kernel
theorem dL_law_164 : decode cL_law 164 = .ok (.invokevirtual 22, 3) := by decide +kernel
theorem dL_law_167 : decode cL_law 167 = .ok (.if_icmp .eq 245, 3) := by decide +kernel
theorem dL_law_170 : decode cL_law 170 = .ok (.iconst 0, 1) := by decide +kernel
theorem dL_law_171 : decode cL_law 171 = .ok (.ireturn, 1) := by decide +kernel
theorem dL_law_172 : decode cL_law 172 = .ok (.aload_n 1, 1) := by decide +kernel
theorem dL_law_173 : decode cL_law 173 = .ok (.aload_n 0, 1) := by decide +kernel
theorem dL_law_174 : decode cL_law 174 = .ok (.iload_n 3, 1) := by decide +kernel
theorem dL_law_175 : decode cL_law 175 = .ok (.iconst 1, 1) := by decide +kernel
theorem dL_law_176 : decode cL_law 176 = .ok (.iadd, 1) := by decide +kernel
theorem dL_law_177 : decode cL_law 177 = .ok (.iaload, 1) := by decide +kernel
theorem dL_law_178 : decode cL_law 178 = .ok (.invokevirtual 23, 3) := by decide +kernel
theorem dL_law_181 : decode cL_law 181 = .ok (.aload_n 2, 1) := by decide +kernel
theorem dL_law_182 : decode cL_law 182 = .ok (.aload_n 0, 1) := by decide +kernel
theorem dL_law_183 : decode cL_law 183 = .ok (.iload_n 3, 1) := by decide +kernel
theorem dL_law_184 : decode cL_law 184 = .ok (.iconst 1, 1) := by decide +kernel
theorem dL_law_185 : decode cL_law 185 = .ok (.iadd, 1) := by decide +kernel
theorem dL_law_186 : decode cL_law 186 = .ok (.iaload, 1) := by decide +kernel
theorem dL_law_187 : decode cL_law 187 = .ok (.invokevirtual 27, 3) := by decide +kernel
theorem dL_law_190 : decode cL_law 190 = .ok (.if_icmp .eq 222, 3) := by decide +kernel
theorem dL_law_193 : decode cL_law 193 = .ok (.iconst 0, 1) := by decide +kernel
theorem dL_law_194 : decode cL_law 194 = .ok (.ireturn, 1) := by decide +kernel
theorem dL_law_195 : decode cL_law 195 = .ok (.aload_n 1, 1) := by decide +kernel
theorem dL_law_196 : decode cL_law 196 = .ok (.aload_n 0, 1) := by decide +kernel
theorem dL_law_197 : decode cL_law 197 = .ok (.iload_n 3, 1) := by decide +kernel
theorem dL_law_198 : decode cL_law 198 = .ok (.iconst 1, 1) := by decide +kernel
theorem dL_law_199 : decode cL_law 199 = .ok (.iadd, 1) := by decide +kernel
theorem dL_law_200 : decode cL_law 200 = .ok (.iaload, 1) := by decide +kernel
theorem dL_law_201 : decode cL_law 201 = .ok (.aload_n 0, 1) := by decide +kernel
theorem dL_law_202 : decode cL_law 202 = .ok (.iload_n 3, 1) := by decide +kernel
theorem dL_law_203 : decode cL_law 203 = .ok (.iconst 2, 1) := by decide +kernel
theorem dL_law_204 : decode cL_law 204 = .ok (.iadd, 1) := by decide +kernel
theorem dL_law_205 : decode cL_law 205 = .ok (.iaload, 1) := by decide +kernel
theorem dL_law_206 : decode cL_law 206 = .ok (.invokevirtual 28, 3) := by decide +kernel
theorem dL_law_209 : decode cL_law 209 = .ok (.aload_n 2, 1) := by decide +kernel
theorem dL_law_210 : decode cL_law 210 = .ok (.aload_n 0, 1) := by decide +kernel
theorem dL_law_211 : decode cL_law 211 = .ok (.iload_n 3, 1) := by decide +kernel
theorem dL_law_212 : decode cL_law 212 = .ok (.iconst 1, 1) := by decide +kernel
theorem dL_law_213 : decode cL_law 213 = .ok (.iadd, 1) := by decide +kernel
theorem dL_law_214 : decode cL_law 214 = .ok (.iaload, 1) := by decide +kernel
theorem dL_law_215 : decode cL_law 215 = .ok (.aload_n 0, 1) := by decide +kernel
theorem dL_law_216 : decode cL_law 216 = .ok (.iload_n 3, 1) := by decide +kernel
theorem dL_law_217 : decode cL_law 217 = .ok (.iconst 2, 1) := by decide +kernel
theorem dL_law_218 : decode cL_law 218 = .ok (.iadd, 1) := by decide +kernel
theorem dL_law_219 : decode cL_law 219 = .ok (.iaload, 1) := by decide +kernel
theorem dL_law_220 : decode cL_law 220 = .ok (.invokevirtual 32, 3) := by decide +kernel
theorem dL_law_223 : decode cL_law 223 = .ok (.if_icmp .eq 189, 3) := by decide +kernel
theorem dL_law_226 : decode cL_law 226 = .ok (.iconst 0, 1) := by decide +kernel
theorem dL_law_227 : decode cL_law 227 = .ok (.ireturn, 1) := by decide +kernel
theorem dL_law_228 : decode cL_law 228 = .ok (.aload_n 1, 1) := by decide +kernel
theorem dL_law_229 : decode cL_law 229 = .ok (.aload_n 0, 1) := by decide +kernel
theorem dL_law_230 : decode cL_law 230 = .ok (.iload_n 3, 1) := by decide +kernel
theorem dL_law_231 : decode cL_law 231 = .ok (.iconst 1, 1) := by decide +kernel
theorem dL_law_232 : decode cL_law 232 = .ok (.iadd, 1) := by decide +kernel
theorem dL_law_233 : decode cL_law 233 = .ok (.iaload, 1) := by decide +kernel
theorem dL_law_234 : decode cL_law 234 = .ok (.invokevirtual 33, 3) := by decide +kernel
theorem dL_law_237 : decode cL_law 237 = .ok (.aload_n 2, 1) := by decide +kernel
theorem dL_law_238 : decode cL_law 238 = .ok (.aload_n 0, 1) := by decide +kernel
theorem dL_law_239 : decode cL_law 239 = .ok (.iload_n 3, 1) := by decide +kernel
theorem dL_law_240 : decode cL_law 240 = .ok (.iconst 1, 1) := by decide +kernel
theorem dL_law_241 : decode cL_law 241 = .ok (.iadd, 1) := by decide +kernel
theorem dL_law_242 : decode cL_law 242 = .ok (.iaload, 1) := by decide +kernel
theorem dL_law_243 : decode cL_law 243 = .ok (.invokevirtual 36, 3) := by decide +kernel
theorem dL_law_246 : decode cL_law 246 = .ok (.if_icmp .eq 166, 3) := by decide +kernel
theorem dL_law_249 : decode cL_law 249 = .ok (.iconst 0, 1) := by decide +kernel
theorem dL_law_250 : decode cL_law 250 = .ok (.ireturn, 1) := by decide +kernel
theorem dL_law_251 : decode cL_law 251 = .ok (.aload_n 1, 1) := by decide +kernel
theorem dL_law_252 : decode cL_law 252 = .ok (.invokevirtual 37, 3) := by decide +kernel
theorem dL_law_255 : decode cL_law 255 = .ok (.aload_n 2, 1) := by decide +kernel
theorem dL_law_256 : decode cL_law 256 = .ok (.invokevirtual 41, 3) := by decide +kernel
theorem dL_law_259 : decode cL_law 259 = .ok (.if_icmp .eq 153, 3) := by decide +kernel
theorem dL_law_262 : decode cL_law 262 = .ok (.iconst 0, 1) := by decide +kernel
theorem dL_law_263 : decode cL_law 263 = .ok (.ireturn, 1) := by decide +kernel
theorem dL_law_264 : decode cL_law 264 = .ok (.aload_n 1, 1) := by decide +kernel
theorem dL_law_265 : decode cL_law 265 = .ok (.aload_n 0, 1) := by decide +kernel
theorem dL_law_266 : decode cL_law 266 = .ok (.iload_n 3, 1) := by decide +kernel
theorem dL_law_267 : decode cL_law 267 = .ok (.iconst 1, 1) := by decide +kernel
theorem dL_law_268 : decode cL_law 268 = .ok (.iadd, 1) := by decide +kernel
theorem dL_law_269 : decode cL_law 269 = .ok (.iaload, 1) := by decide +kernel
theorem dL_law_270 : decode cL_law 270 = .ok (.invokevirtual 42, 3) := by decide +kernel
theorem dL_law_273 : decode cL_law 273 = .ok (.aload_n 2, 1) := by decide +kernel
theorem dL_law_274 : decode cL_law 274 = .ok (.aload_n 0, 1) := by decide +kernel
theorem dL_law_275 : decode cL_law 275 = .ok (.iload_n 3, 1) := by decide +kernel
theorem dL_law_276 : decode cL_law 276 = .ok (.iconst 1, 1) := by decide +kernel
theorem dL_law_277 : decode cL_law 277 = .ok (.iadd, 1) := by decide +kernel
theorem dL_law_278 : decode cL_law 278 = .ok (.iaload, 1) := by decide +kernel
theorem dL_law_279 : decode cL_law 279 = .ok (.invokevirtual 45, 3) := by decide +kernel
theorem dL_law_282 : decode cL_law 282 = .ok (.if_icmp .eq 130, 3) := by decide +kernel
theorem dL_law_285 : decode cL_law 285 = .ok (.iconst 0, 1) := by decide +kernel
theorem dL_law_286 : decode cL_law 286 = .ok (.ireturn, 1) := by decide +kernel
theorem dL_law_287 : decode cL_law 287 = .ok (.aload_n 1, 1) := by decide +kernel
theorem dL_law_288 : decode cL_law 288 = .ok (.invokevirtual 46, 3) := by decide +kernel
theorem dL_law_291 : decode cL_law 291 = .ok (.aload_n 2, 1) := by decide +kernel
theorem dL_law_292 : decode cL_law 292 = .ok (.invokevirtual 49, 3) := by decide +kernel
theorem dL_law_295 : decode cL_law 295 = .ok (.if_icmp .eq 117, 3) := by decide +kernel
theorem dL_law_298 : decode cL_law 298 = .ok (.iconst 0, 1) := by decide +kernel
theorem dL_law_299 : decode cL_law 299 = .ok (.ireturn, 1) := by decide +kernel
theorem dL_law_300 : decode cL_law 300 = .ok (.aload_n 1, 1) := by decide +kernel
theorem dL_law_301 : decode cL_law 301 = .ok (.invokevirtual 50, 3) := by decide +kernel
theorem dL_law_304 : decode cL_law 304 = .ok (.aload_n 2, 1) := by decide +kernel
theorem dL_law_305 : decode cL_law 305 = .ok (.invokevirtual 53, 3) := by decide +kernel
theorem dL_law_308 : decode cL_law 308 = .ok (.if_icmp .eq 104, 3) := by decide +kernel
theorem dL_law_311 : decode cL_law 311 = .ok (.iconst 0, 1) := by decide +kernel
theorem dL_law_312 : decode cL_law 312 = .ok (.ireturn, 1) := by decide +kernel
theorem dL_law_313 : decode cL_law 313 = .ok (.aload_n 1, 1) := by decide +kernel
theorem dL_law_314 : decode cL_law 314 = .ok (.aload_n 0, 1) := by decide +kernel
theorem dL_law_315 : decode cL_law 315 = .ok (.iload_n 3, 1) := by decide +kernel
theorem dL_law_316 : decode cL_law 316 = .ok (.iconst 1, 1) := by decide +kernel
theorem dL_law_317 : decode cL_law 317 = .ok (.iadd, 1) := by decide +kernel
theorem dL_law_318 : decode cL_law 318 = .ok (.iaload, 1) := by decide +kernel
theorem dL_law_319 : decode cL_law 319 = .ok (.aload_n 0, 1) := by decide +kernel
theorem dL_law_320 : decode cL_law 320 = .ok (.iload_n 3, 1) := by decide +kernel
theorem dL_law_321 : decode cL_law 321 = .ok (.iconst 2, 1) := by decide +kernel
theorem dL_law_322 : decode cL_law 322 = .ok (.iadd, 1) := by decide +kernel
theorem dL_law_323 : decode cL_law 323 = .ok (.iaload, 1) := by decide +kernel
theorem dL_law_324 : decode cL_law 324 = .ok (.invokevirtual 54, 3) := by decide +kernel
theorem dL_law_327 : decode cL_law 327 = .ok (.aload_n 2, 1) := by decide +kernel
theorem dL_law_328 : decode cL_law 328 = .ok (.aload_n 0, 1) := by decide +kernel
theorem dL_law_329 : decode cL_law 329 = .ok (.iload_n 3, 1) := by decide +kernel
theorem dL_law_330 : decode cL_law 330 = .ok (.iconst 1, 1) := by decide +kernel
theorem dL_law_331 : decode cL_law 331 = .ok (.iadd, 1) := by decide +kernel
theorem dL_law_332 : decode cL_law 332 = .ok (.iaload, 1) := by decide +kernel
theorem dL_law_333 : decode cL_law 333 = .ok (.aload_n 0, 1) := by decide +kernel
theorem dL_law_334 : decode cL_law 334 = .ok (.iload_n 3, 1) := by decide +kernel
theorem dL_law_335 : decode cL_law 335 = .ok (.iconst 2, 1) := by decide +kernel
theorem dL_law_336 : decode cL_law 336 = .ok (.iadd, 1) := by decide +kernel
theorem dL_law_337 : decode cL_law 337 = .ok (.iaload, 1) := by decide +kernel
theorem dL_law_338 : decode cL_law 338 = .ok (.invokevirtual 57, 3) := by decide +kernel
theorem dL_law_341 : decode cL_law 341 = .ok (.if_icmp .eq 71, 3) := by decide +kernel
theorem dL_law_344 : decode cL_law 344 = .ok (.iconst 0, 1) := by decide +kernel
theorem dL_law_345 : decode cL_law 345 = .ok (.ireturn, 1) := by decide +kernel
theorem dL_law_346 : decode cL_law 346 = .ok (.aload_n 1, 1) := by decide +kernel
theorem dL_law_347 : decode cL_law 347 = .ok (.aload_n 0, 1) := by decide +kernel
theorem dL_law_348 : decode cL_law 348 = .ok (.iload_n 3, 1) := by decide +kernel
theorem dL_law_349 : decode cL_law 349 = .ok (.iconst 1, 1) := by decide +kernel
theorem dL_law_350 : decode cL_law 350 = .ok (.iadd, 1) := by decide +kernel
theorem dL_law_351 : decode cL_law 351 = .ok (.iaload, 1) := by decide +kernel
theorem dL_law_352 : decode cL_law 352 = .ok (.aload_n 0, 1) := by decide +kernel
theorem dL_law_353 : decode cL_law 353 = .ok (.iload_n 3, 1) := by decide +kernel
theorem dL_law_354 : decode cL_law 354 = .ok (.iconst 2, 1) := by decide +kernel
theorem dL_law_355 : decode cL_law 355 = .ok (.iadd, 1) := by decide +kernel
theorem dL_law_356 : decode cL_law 356 = .ok (.iaload, 1) := by decide +kernel
theorem dL_law_357 : decode cL_law 357 = .ok (.invokevirtual 58, 3) := by decide +kernel
theorem dL_law_360 : decode cL_law 360 = .ok (.aload_n 2, 1) := by decide +kernel
theorem dL_law_361 : decode cL_law 361 = .ok (.aload_n 0, 1) := by decide +kernel
theorem dL_law_362 : decode cL_law 362 = .ok (.iload_n 3, 1) := by decide +kernel
theorem dL_law_363 : decode cL_law 363 = .ok (.iconst 1, 1) := by decide +kernel
theorem dL_law_364 : decode cL_law 364 = .ok (.iadd, 1) := by decide +kernel
theorem dL_law_365 : decode cL_law 365 = .ok (.iaload, 1) := by decide +kernel
theorem dL_law_366 : decode cL_law 366 = .ok (.aload_n 0, 1) := by decide +kernel
theorem dL_law_367 : decode cL_law 367 = .ok (.iload_n 3, 1) := by decide +kernel
theorem dL_law_368 : decode cL_law 368 = .ok (.iconst 2, 1) := by decide +kernel
theorem dL_law_369 : decode cL_law 369 = .ok (.iadd, 1) := by decide +kernel
theorem dL_law_370 : decode cL_law 370 = .ok (.iaload, 1) := by decide +kernel
theorem dL_law_371 : decode cL_law 371 = .ok (.invokevirtual 61, 3) := by decide +kernel
theorem dL_law_374 : decode cL_law 374 = .ok (.if_icmp .eq 38, 3) := by decide +kernel
theorem dL_law_377 : decode cL_law 377 = .ok (.iconst 0, 1) := by decide +kernel
theorem dL_law_378 : decode cL_law 378 = .ok (.ireturn, 1) := by decide +kernel
theorem dL_law_379 : decode cL_law 379 = .ok (.aload_n 1, 1) := by decide +kernel
theorem dL_law_380 : decode cL_law 380 = .ok (.aload_n 0, 1) := by decide +kernel
theorem dL_law_381 : decode cL_law 381 = .ok (.iload_n 3, 1) := by decide +kernel
theorem dL_law_382 : decode cL_law 382 = .ok (.iconst 1, 1) := by decide +kernel
theorem dL_law_383 : decode cL_law 383 = .ok (.iadd, 1) := by decide +kernel
theorem dL_law_384 : decode cL_law 384 = .ok (.iaload, 1) := by decide +kernel
theorem dL_law_385 : decode cL_law 385 = .ok (.aload_n 0, 1) := by decide +kernel
theorem dL_law_386 : decode cL_law 386 = .ok (.iload_n 3, 1) := by decide +kernel
theorem dL_law_387 : decode cL_law 387 = .ok (.iconst 2, 1) := by decide +kernel
theorem dL_law_388 : decode cL_law 388 = .ok (.iadd, 1) := by decide +kernel
theorem dL_law_389 : decode cL_law 389 = .ok (.iaload, 1) := by decide +kernel
theorem dL_law_390 : decode cL_law 390 = .ok (.invokevirtual 62, 3) := by decide +kernel
theorem dL_law_393 : decode cL_law 393 = .ok (.aload_n 2, 1) := by decide +kernel
theorem dL_law_394 : decode cL_law 394 = .ok (.aload_n 0, 1) := by decide +kernel
theorem dL_law_395 : decode cL_law 395 = .ok (.iload_n 3, 1) := by decide +kernel
theorem dL_law_396 : decode cL_law 396 = .ok (.iconst 1, 1) := by decide +kernel
theorem dL_law_397 : decode cL_law 397 = .ok (.iadd, 1) := by decide +kernel
theorem dL_law_398 : decode cL_law 398 = .ok (.iaload, 1) := by decide +kernel
theorem dL_law_399 : decode cL_law 399 = .ok (.aload_n 0, 1) := by decide +kernel
theorem dL_law_400 : decode cL_law 400 = .ok (.iload_n 3, 1) := by decide +kernel
theorem dL_law_401 : decode cL_law 401 = .ok (.iconst 2, 1) := by decide +kernel
theorem dL_law_402 : decode cL_law 402 = .ok (.iadd, 1) := by decide +kernel
theorem dL_law_403 : decode cL_law 403 = .ok (.iaload, 1) := by decide +kernel
theorem dL_law_404 : decode cL_law 404 = .ok (.invokevirtual 65, 3) := by decide +kernel
theorem dL_law_407 : decode cL_law 407 = .ok (.if_icmp .eq 5, 3) := by decide +kernel
theorem dL_law_410 : decode cL_law 410 = .ok (.iconst 0, 1) := by decide +kernel
theorem dL_law_411 : decode cL_law 411 = .ok (.ireturn, 1) := by decide +kernel
theorem dL_law_412 : decode cL_law 412 = .ok (.iinc 3 4, 3) := by decide +kernel
theorem dL_law_415 : decode cL_law 415 = .ok (.goto (-397), 3) := by decide +kernel
theorem dL_law_418 : decode cL_law 418 = .ok (.iconst 1, 1) := by decide +kernel
theorem dL_law_419 : decode cL_law 419 = .ok (.ireturn, 1) := by decide +kernel
end
section
/-! pure: sums, widths of sides, limits -/
def tf_sum (f : Nat → Nat) : Nat → Nat
  | 0 => 0
  | n + 1 => tf_sum f n + f n
theorem tf_sum_congr {f h : Nat → Nat} : ∀ {n : Nat}, (∀ k, k < n → f k = h k) → tf_sum f n = tf_sum h n := by
  intro n
  induction n with
  | zero => intro _; rfl
  | succ n ih =>
    intro H
    show tf_sum f n + f n = tf_sum h n + h n
    rw [ih (fun k hk => H k (Nat.lt_succ_of_lt hk)), H n (Nat.lt_succ_self n)]
theorem tf_sum_le {f h : Nat → Nat} : ∀ {n : Nat}, (∀ k, k < n → f k ≤ h k) → tf_sum f n ≤ tf_sum h n := by
  intro n
  induction n with
  | zero => intro _; exact Nat.le_refl _
  | succ n ih =>
    intro H
    show tf_sum f n + f n ≤ tf_sum h n + h n
    have h1 := ih (fun k hk => H k (Nat.lt_succ_of_lt hk))
    have h2 := H n (Nat.lt_succ_self n)
    omega
theorem tf_sum_add (f h : Nat → Nat) : ∀ n : Nat, tf_sum (fun k => f k + h k) n = tf_sum f n + tf_sum h n := by
  intro n
  induction n with
  | zero => rfl
  | succ n ih =>
    show tf_sum (fun k => f k + h k) n + (f n + h n) = tf_sum f n + f n + (tf_sum h n + h n)
    rw [ih]; omega
theorem tf_sum_0 : ∀ n : Nat, tf_sum (fun _ => 0) n = 0 := by
  intro n
  induction n with
  | zero => rfl
  | succ n ih => show tf_sum (fun _ => 0) n + 0 = 0; rw [ih]
theorem tf_sum_z {f : Nat → Nat} {n : Nat} (h : ∀ k, k < n → f k = 0) : tf_sum f n = 0 := by
  rw [tf_sum_congr (h := fun _ => 0) h, tf_sum_0]
theorem tf_sum_c (c : Nat) : ∀ n : Nat, tf_sum (fun _ => c) n = n * c := by
  intro n
  induction n with
  | zero => simp [tf_sum]
  | succ n ih => show tf_sum (fun _ => c) n + c = (n + 1) * c; rw [ih, Nat.succ_mul]
theorem tf_sum_comm (f : Nat → Nat → Nat) (m : Nat) : ∀ n : Nat, tf_sum (fun a => tf_sum (fun b => f a b) m) n = tf_sum (fun b => tf_sum (fun a => f a b) n) m := by
  intro n
  induction n with
  | zero => exact (tf_sum_z (fun _ _ => rfl)).symm
  | succ n ih =>
    show tf_sum (fun a => tf_sum (fun b => f a b) m) n + tf_sum (fun b => f n b) m = tf_sum (fun b => tf_sum (fun a => f a b) n + f n b) m
    rw [ih, tf_sum_add]
theorem tf_sum_at {f h : Nat → Nat} {i : Nat} : ∀ {n : Nat}, i < n → (∀ k, k < n → k ≠ i → f k = h k) → tf_sum f n + h i = tf_sum h n + f i := by
  intro n
  induction n with
  | zero => intro hi; omega
  | succ n ih =>
    intro hi H
    show tf_sum f n + f n + h i = tf_sum h n + h n + f i
    by_cases e : i = n
    · subst e
      rw [tf_sum_congr (h := h) (fun k hk => H k (Nat.lt_succ_of_lt hk) (Nat.ne_of_lt hk))]
      omega
    · have h1 := ih (by omega) (fun k hk hne => H k (Nat.lt_succ_of_lt hk) hne)
      have h2 := H n (Nat.lt_succ_self n) (fun q => e q.symm)
      omega
theorem tf_sum_drop {f h : Nat → Nat} {i : Nat} : ∀ {n : Nat}, i < n → (∀ k, k < n → f k ≤ h k) → f i + 1 ≤ h i → tf_sum f n + 1 ≤ tf_sum h n := by
  intro n
  induction n with
  | zero => intro hi; omega
  | succ n ih =>
    intro hi H hd
    show tf_sum f n + f n + 1 ≤ tf_sum h n + h n
    by_cases e : i = n
    · subst e
      have h1 := tf_sum_le (fun k hk => H k (Nat.lt_succ_of_lt hk))
      omega
    · have h1 := ih (by omega) (fun k hk => H k (Nat.lt_succ_of_lt hk)) hd
      have h2 := H n (Nat.lt_succ_self n)
      omega
/-- one term of a side's width -/
def tf_t (g : Nat → Nat) (S a b : Nat) : Nat := if S.testBit a = true ∧ S.testBit b = false then g (6 * a + b) else 0
def tf_row (g : Nat → Nat) (S a : Nat) (n : Nat) : Nat := tf_sum (fun b => tf_t g S a b) n
def tf_wid (g : Nat → Nat) (S : Nat) : Nat := tf_sum (fun a => tf_row g S a 6) 6
/-- the same width as the model adds it up: cell by cell -/
def tf_lin (g : Nat → Nat) (S : Nat) (n : Nat) : Nat := tf_sum (fun k => tf_t g S (k / 6) (k % 6)) n
theorem tf_lin_wid (g : Nat → Nat) (S : Nat) : tf_lin g S 36 = tf_wid g S := by
  show tf_sum (fun k => tf_t g S (k / 6) (k % 6)) 36 = tf_sum (fun a => tf_sum (fun b => tf_t g S a b) 6) 6
  simp only [tf_sum, Nat.reduceDiv, Nat.reduceMod]
  omega
def tf_ok (N : Nat) (g : Nat → Nat) : Prop := (∀ i, i < 6 → ∀ j, j < 6 → g (6 * i + j) = g (6 * j + i)) ∧ ∀ k, k < 36 → g k ≤ N
theorem tf_ok_mono {N M : Nat} {g : Nat → Nat} (h : tf_ok N g) (hm : N ≤ M) : tf_ok M g := ⟨h.1, fun k hk => Nat.le_trans (h.2 k hk) hm⟩
theorem tf_flip : ∀ S, S < 64 → ∀ a, a < 6 → (63 - S).testBit a = !(S.testBit a) := by decide +kernel
theorem tf_wid_flip {N : Nat} {g : Nat → Nat} (hg : tf_ok N g) {S : Nat} (hS : S < 64) : tf_wid g (63 - S) = tf_wid g S := by
  have h1 : tf_wid g (63 - S) = tf_sum (fun a => tf_sum (fun b => tf_t g S b a) 6) 6 := by
    refine tf_sum_congr (fun a ha => tf_sum_congr (fun b hb => ?_))
    unfold tf_t
    rw [tf_flip S hS a ha, tf_flip S hS b hb, hg.1 a ha b hb]
    cases S.testBit a <;> cases S.testBit b <;> rfl
  rw [h1, tf_sum_comm]
  rfl
theorem tf_wid_le {N : Nat} {g : Nat → Nat} (hg : ∀ k, k < 36 → g k ≤ N) (S : Nat) : tf_wid g S ≤ tf_wid (fun _ => N) S := by
  refine tf_sum_le (fun a ha => tf_sum_le (fun b hb => ?_))
  unfold tf_t
  by_cases h : S.testBit a = true ∧ S.testBit b = false
  · rw [if_pos h, if_pos h]
    exact hg _ (by omega)
  · rw [if_neg h, if_neg h]
    exact Nat.le_refl _
theorem tf_row_le {N : Nat} {g : Nat → Nat} (hg : ∀ k, k < 36 → g k ≤ N) (S : Nat) {a : Nat} (ha : a < 6) {n : Nat} (hn : n ≤ 6) : tf_row g S a n ≤ n * N := by
  rw [← tf_sum_c]
  refine tf_sum_le (fun b hb => ?_)
  unfold tf_t
  by_cases h : S.testBit a = true ∧ S.testBit b = false
  · rw [if_pos h]
    exact hg _ (by omega)
  · rw [if_neg h]
    exact Nat.zero_le _
theorem tf_wid_bd {N : Nat} {g : Nat → Nat} (hg : ∀ k, k < 36 → g k ≤ N) (S : Nat) : tf_wid g S ≤ 36 * N := by
  have h : tf_wid g S ≤ tf_sum (fun _ => 6 * N) 6 := tf_sum_le (fun a ha => tf_row_le hg S ha (Nat.le_refl 6))
  rw [tf_sum_c] at h
  omega
/-- one cell changed -/
def tf_u1 (g : Nat → Nat) (k x : Nat) : Nat → Nat := fun j => if j = k then x else g j
theorem tf_u1_s (g : Nat → Nat) (k x : Nat) : tf_u1 g k x k = x := if_pos rfl
theorem tf_u1_n {g : Nat → Nat} {k x j : Nat} (h : j ≠ k) : tf_u1 g k x j = g j := if_neg h
theorem tf_wid_u1 (g : Nat → Nat) {a b : Nat} (ha : a < 6) (hb : b < 6) (x S : Nat) : tf_wid (tf_u1 g (6 * a + b) x) S + tf_t g S a b = tf_wid g S + (if S.testBit a = true ∧ S.testBit b = false then x else 0) := by
  have h1 : tf_wid (tf_u1 g (6 * a + b) x) S + tf_row g S a 6 = tf_wid g S + tf_row (tf_u1 g (6 * a + b) x) S a 6 := by
    refine tf_sum_at (f := fun a' => tf_row (tf_u1 g (6 * a + b) x) S a' 6) (h := fun a' => tf_row g S a' 6) ha (fun k hk hne => ?_)
    refine tf_sum_congr (fun j hj => ?_)
    unfold tf_t
    rw [tf_u1_n (by omega)]
  have h2 : tf_row (tf_u1 g (6 * a + b) x) S a 6 + tf_t g S a b = tf_row g S a 6 + tf_t (tf_u1 g (6 * a + b) x) S a b := by
    refine tf_sum_at (f := fun b' => tf_t (tf_u1 g (6 * a + b) x) S a b') (h := fun b' => tf_t g S a b') hb (fun k hk hne => ?_)
    show tf_t (tf_u1 g (6 * a + b) x) S a k = tf_t g S a k
    unfold tf_t
    rw [tf_u1_n (by omega)]
  have h3 : tf_t (tf_u1 g (6 * a + b) x) S a b = (if S.testBit a = true ∧ S.testBit b = false then x else 0) := by
    unfold tf_t
    rw [tf_u1_s]
  omega
/-- which goods a side separates: 1 the first, 2 the second, 3 both -/
def tf_kind (S : Nat) : Nat := ((S ^^^ (S >>> 1)) &&& 1) ||| ((((S ^^^ (S >>> 1)) >>> 2) &&& 1) <<< 1)
theorem tf_kind_lt : ∀ S, S < 64 → tf_kind S < 4 := by decide +kernel
def tf_lm (g : Nat → Nat) : Nat → Nat → Nat
  | 0, _ => 1000
  | n + 1, k => if tf_kind n = k then (if tf_wid g n < tf_lm g n k then tf_wid g n else tf_lm g n k) else tf_lm g n k
def tf_lim (g : Nat → Nat) (k : Nat) : Nat := tf_lm g 64 k
theorem tf_lm_s (g : Nat → Nat) (n k : Nat) : tf_lm g (n + 1) k = if tf_kind n = k then (if tf_wid g n < tf_lm g n k then tf_wid g n else tf_lm g n k) else tf_lm g n k := rfl
theorem tf_lm_le (g : Nat → Nat) : ∀ n S : Nat, S < n → tf_lm g n (tf_kind S) ≤ tf_wid g S := by
  intro n
  induction n with
  | zero => intro S h; omega
  | succ n ih =>
    intro S h
    rw [tf_lm_s]
    by_cases e : S = n
    · subst e
      rw [if_pos rfl]
      split <;> omega
    · have h1 := ih S (by omega)
      by_cases c : tf_kind n = tf_kind S
      · rw [if_pos c]
        split <;> omega
      · rw [if_neg c]; exact h1
theorem tf_lm_at (g : Nat → Nat) : ∀ n k : Nat, tf_lm g n k = 1000 ∨ ∃ S, S < n ∧ tf_kind S = k ∧ tf_wid g S = tf_lm g n k := by
  intro n
  induction n with
  | zero => intro k; exact Or.inl rfl
  | succ n ih =>
    intro k
    rw [tf_lm_s]
    have keep : tf_lm g n k = 1000 ∨ ∃ S, S < n + 1 ∧ tf_kind S = k ∧ tf_wid g S = tf_lm g n k := by
      rcases ih k with h | ⟨S, h1, h2, h3⟩
      · exact Or.inl h
      · exact Or.inr ⟨S, by omega, h2, h3⟩
    by_cases c : tf_kind n = k
    · rw [if_pos c]
      by_cases d : tf_wid g n < tf_lm g n k
      · rw [if_pos d]
        exact Or.inr ⟨n, by omega, c, rfl⟩
      · rw [if_neg d]; exact keep
    · rw [if_neg c]; exact keep
theorem tf_lm_bd (g : Nat → Nat) : ∀ n k : Nat, tf_lm g n k ≤ 1000 := by
  intro n
  induction n with
  | zero => intro k; exact Nat.le_refl _
  | succ n ih =>
    intro k
    have h := ih k
    rw [tf_lm_s]
    split
    · split <;> omega
    · exact h
theorem tf_lim_le (g : Nat → Nat) {S : Nat} (h : S < 64) : tf_lim g (tf_kind S) ≤ tf_wid g S := tf_lm_le g 64 S h
theorem tf_rep : ∀ k, k < 4 → ∃ S, S < 64 ∧ tf_kind S = k := by
  intro k hk
  have h : k = 0 ∨ k = 1 ∨ k = 2 ∨ k = 3 := by omega
  rcases h with rfl | rfl | rfl | rfl
  · exact ⟨0, by decide, by decide +kernel⟩
  · exact ⟨1, by decide, by decide +kernel⟩
  · exact ⟨4, by decide, by decide +kernel⟩
  · exact ⟨5, by decide, by decide +kernel⟩
theorem tf_lim_bd {g : Nat → Nat} (hg : tf_ok 21 g) {k : Nat} (hk : k < 4) : tf_lim g k ≤ 756 := by
  obtain ⟨S, h1, h2⟩ := tf_rep k hk
  have h3 := tf_lim_le g h1
  have h4 := tf_wid_bd hg.2 S
  rw [h2] at h3
  omega
theorem tf_lim_at {g : Nat → Nat} (hg : tf_ok 21 g) {k : Nat} (hk : k < 4) : ∃ S, S < 64 ∧ tf_kind S = k ∧ tf_wid g S = tf_lim g k := by
  rcases tf_lm_at g 64 k with h | h
  · have h2 := tf_lim_bd hg hk
    rw [tf_lim, h] at h2
    omega
  · exact h
/-- S has all of src and nothing of goal -/
abbrev tf_sep (src goal S : Nat) : Prop := ∀ a, a < 6 → (src.testBit a = true → S.testBit a = true) ∧ (goal.testBit a = true → S.testBit a = false)
/-- v is the least width of the sides between src and goal -/
def tf_mc (g : Nat → Nat) (src goal v : Nat) : Prop := (∃ S, S < 64 ∧ tf_sep src goal S ∧ tf_wid g S = v) ∧ ∀ S, S < 64 → tf_sep src goal S → v ≤ tf_wid g S
def tf_sepB (src goal S : Nat) : Bool := (List.range 6).all (fun a => (!(src.testBit a) || S.testBit a) && (!(goal.testBit a) || !(S.testBit a)))
theorem tf_sepB_of {src goal S : Nat} (h : tf_sepB src goal S = true) : tf_sep src goal S := by
  intro a ha
  have h1 := List.all_eq_true.mp h a (List.mem_range.mpr ha)
  cases e1 : src.testBit a <;> cases e2 : S.testBit a <;> cases e3 : goal.testBit a <;> simp [e1, e2, e3] at h1 ⊢
theorem tf_k1c : ∀ S, S < 64 → tf_kind S = 1 ∨ tf_kind S = 3 → (tf_sepB 1 2 S || tf_sepB 1 2 (63 - S)) = true := by decide +kernel
theorem tf_k2c : ∀ S, S < 64 → tf_kind S = 2 ∨ tf_kind S = 3 → (tf_sepB 4 8 S || tf_sepB 4 8 (63 - S)) = true := by decide +kernel
theorem tf_k3c : ∀ S, S < 64 → tf_kind S = 3 → ((tf_sepB 5 10 S || tf_sepB 5 10 (63 - S)) || (tf_sepB 9 6 S || tf_sepB 9 6 (63 - S))) = true := by decide +kernel
theorem tf_sepB_or {src goal S T : Nat} (h : (tf_sepB src goal S || tf_sepB src goal T) = true) : tf_sep src goal S ∨ tf_sep src goal T := by
  rcases (Bool.or_eq_true _ _).mp h with q | q
  · exact Or.inl (tf_sepB_of q)
  · exact Or.inr (tf_sepB_of q)
theorem tf_k1a : ∀ S, S < 64 → tf_sep 1 2 S → tf_kind S = 1 ∨ tf_kind S = 3 := by decide +kernel
theorem tf_k1b : ∀ S, S < 64 → tf_kind S = 1 ∨ tf_kind S = 3 → tf_sep 1 2 S ∨ tf_sep 1 2 (63 - S) := fun S h k => tf_sepB_or (tf_k1c S h k)
theorem tf_k2a : ∀ S, S < 64 → tf_sep 4 8 S → tf_kind S = 2 ∨ tf_kind S = 3 := by decide +kernel
theorem tf_k2b : ∀ S, S < 64 → tf_kind S = 2 ∨ tf_kind S = 3 → tf_sep 4 8 S ∨ tf_sep 4 8 (63 - S) := fun S h k => tf_sepB_or (tf_k2c S h k)
theorem tf_k3a : ∀ S, S < 64 → tf_sep 5 10 S ∨ tf_sep 9 6 S → tf_kind S = 3 := by decide +kernel
theorem tf_k3b : ∀ S, S < 64 → tf_kind S = 3 → (tf_sep 5 10 S ∨ tf_sep 5 10 (63 - S)) ∨ (tf_sep 9 6 S ∨ tf_sep 9 6 (63 - S)) := by
  intro S h k
  rcases (Bool.or_eq_true _ _).mp (tf_k3c S h k) with q | q
  · exact Or.inl (tf_sepB_or q)
  · exact Or.inr (tf_sepB_or q)
theorem tf_mc_le {g : Nat → Nat} (hg : tf_ok 21 g) {src goal v S : Nat} (h : tf_mc g src goal v) (hS : S < 64) (hs : tf_sep src goal S ∨ tf_sep src goal (63 - S)) : v ≤ tf_wid g S := by
  rcases hs with q | q
  · exact h.2 S hS q
  · rw [← tf_wid_flip hg hS]
    exact h.2 (63 - S) (by omega) q
def tf_F1 (g : Nat → Nat) : Nat := min (tf_lim g 1) (tf_lim g 3)
def tf_F2 (g : Nat → Nat) : Nat := min (tf_lim g 2) (tf_lim g 3)
def tf_F3 (g : Nat → Nat) : Nat := tf_lim g 3
theorem tf_F1_of {g : Nat → Nat} (hg : tf_ok 21 g) {v : Nat} (h : tf_mc g 1 2 v) : v = tf_F1 g := by
  obtain ⟨S1, a1, a2, a3⟩ := tf_lim_at hg (k := 1) (by decide)
  obtain ⟨S3, b1, b2, b3⟩ := tf_lim_at hg (k := 3) (by decide)
  have e1 := tf_mc_le hg h a1 (tf_k1b S1 a1 (Or.inl a2))
  have e3 := tf_mc_le hg h b1 (tf_k1b S3 b1 (Or.inr b2))
  obtain ⟨⟨S, c1, c2, c3⟩, -⟩ := h
  have d := tf_lim_le g c1
  unfold tf_F1
  rcases tf_k1a S c1 c2 with q | q <;> rw [q] at d <;> omega
theorem tf_F2_of {g : Nat → Nat} (hg : tf_ok 21 g) {v : Nat} (h : tf_mc g 4 8 v) : v = tf_F2 g := by
  obtain ⟨S1, a1, a2, a3⟩ := tf_lim_at hg (k := 2) (by decide)
  obtain ⟨S3, b1, b2, b3⟩ := tf_lim_at hg (k := 3) (by decide)
  have e1 := tf_mc_le hg h a1 (tf_k2b S1 a1 (Or.inl a2))
  have e3 := tf_mc_le hg h b1 (tf_k2b S3 b1 (Or.inr b2))
  obtain ⟨⟨S, c1, c2, c3⟩, -⟩ := h
  have d := tf_lim_le g c1
  unfold tf_F2
  rcases tf_k2a S c1 c2 with q | q <;> rw [q] at d <;> omega
theorem tf_F3_of {g : Nat → Nat} (hg : tf_ok 21 g) {v w : Nat} (h : tf_mc g 5 10 v) (h' : tf_mc g 9 6 w) : min v w = tf_F3 g := by
  obtain ⟨S3, b1, b2, b3⟩ := tf_lim_at hg (k := 3) (by decide)
  have e3 : min v w ≤ tf_wid g S3 := by
    rcases tf_k3b S3 b1 b2 with q | q
    · exact Nat.le_trans (Nat.min_le_left _ _) (tf_mc_le hg h b1 q)
    · exact Nat.le_trans (Nat.min_le_right _ _) (tf_mc_le hg h' b1 q)
  obtain ⟨⟨S, c1, c2, c3⟩, -⟩ := h
  obtain ⟨⟨S', d1, d2, d3⟩, -⟩ := h'
  have x1 := tf_lim_le g c1
  have x2 := tf_lim_le g d1
  rw [tf_k3a S c1 (Or.inl c2)] at x1
  rw [tf_k3a S' d1 (Or.inr d2)] at x2
  unfold tf_F3
  omega
theorem tf_F_bd {g : Nat → Nat} (hg : tf_ok 21 g) : tf_F1 g ≤ 756 ∧ tf_F2 g ≤ 756 ∧ tf_F3 g ≤ 756 ∧ tf_F1 g ≤ tf_F3 g ∧ tf_F2 g ≤ tf_F3 g := by
  have h1 := tf_lim_bd hg (k := 1) (by decide)
  have h2 := tf_lim_bd hg (k := 2) (by decide)
  have h3 := tf_lim_bd hg (k := 3) (by decide)
  unfold tf_F1 tf_F2 tf_F3
  omega
/-- a capacity put between i and j -/
def tf_up (g : Nat → Nat) (i j v : Nat) : Nat → Nat := fun k => if k = 6 * i + j ∨ k = 6 * j + i then v else g k
theorem tf_ok_up {N : Nat} {g : Nat → Nat} (hg : tf_ok N g) {i j v : Nat} (hi : i < 6) (hj : j < 6) (hv : v ≤ N) : tf_ok N (tf_up g i j v) := by
  refine ⟨fun a ha b hb => ?_, fun k hk => ?_⟩
  · unfold tf_up
    by_cases c : 6 * a + b = 6 * i + j ∨ 6 * a + b = 6 * j + i
    · rw [if_pos c, if_pos (by omega)]
    · rw [if_neg c, if_neg (by omega)]
      exact hg.1 a ha b hb
  · unfold tf_up
    split
    · exact hv
    · exact hg.2 k hk
theorem tf_up_back {N : Nat} {g : Nat → Nat} (hg : tf_ok N g) {i j v : Nat} (hi : i < 6) (hj : j < 6) : tf_up (tf_up g i j v) i j (g (6 * i + j)) = g := by
  funext k
  unfold tf_up
  by_cases c : k = 6 * i + j ∨ k = 6 * j + i
  · rw [if_pos c]
    rcases c with rfl | rfl
    · rfl
    · exact hg.1 i hi j hj
  · rw [if_neg c, if_neg c]
end
section
/-! pure: paths, augmenting, the greatest flow -/
def tf_Rr (r : Nat → Int32) (ρ : Nat → Nat) : Prop := ∀ k, k < 36 → r k = nI (ρ k)
theorem tf_Rr_upd {r : Nat → Int32} {ρ : Nat → Nat} (h : tf_Rr r ρ) (k x : Nat) : tf_Rr (upd r k (nI x)) (tf_u1 ρ k x) := by
  intro j hj
  by_cases e : j = k
  · subst e; rw [pk_us, tf_u1_s]
  · rw [pk_un e, tf_u1_n e]; exact h j hj
/-- the way back from a place to a source: along 'cameFrom', each arc with room -/
def tf_ch (f : Nat → Int32) (ρ : Nat → Nat) (src goal : Nat) : List Nat → Prop
  | [] => False
  | [a] => a < 6 ∧ src.testBit a = true ∧ f a = -1
  | b :: a :: t => (b < 6 ∧ src.testBit b = false ∧ goal.testBit a = false ∧ f b = nI a ∧ 0 < ρ (6 * a + b) ∧ b ∉ a :: t) ∧ tf_ch f ρ src goal (a :: t)
theorem tf_ch_1 {f : Nat → Int32} {ρ : Nat → Nat} {src goal a : Nat} : tf_ch f ρ src goal [a] ↔ (a < 6 ∧ src.testBit a = true ∧ f a = -1) := Iff.rfl
theorem tf_ch_2 {f : Nat → Int32} {ρ : Nat → Nat} {src goal b a : Nat} {t : List Nat} : tf_ch f ρ src goal (b :: a :: t) ↔ ((b < 6 ∧ src.testBit b = false ∧ goal.testBit a = false ∧ f b = nI a ∧ 0 < ρ (6 * a + b) ∧ b ∉ a :: t) ∧ tf_ch f ρ src goal (a :: t)) := Iff.rfl
theorem tf_ch_upd {f : Nat → Int32} {ρ : Nat → Nat} {src goal x : Nat} {v : Int32} : ∀ {L : List Nat}, tf_ch f ρ src goal L → x ∉ L → tf_ch (upd f x v) ρ src goal L
  | [], h, _ => h
  | [a], h, hx => by
    obtain ⟨h1, h2, h3⟩ := tf_ch_1.mp h
    exact tf_ch_1.mpr ⟨h1, h2, by rw [pk_un (fun e => hx (by rw [e]; exact List.mem_cons_self))]; exact h3⟩
  | b :: a :: t, h, hx => by
    obtain ⟨⟨h1, h2, h3, h4, h5, h6⟩, h7⟩ := tf_ch_2.mp h
    exact tf_ch_2.mpr ⟨⟨h1, h2, h3, by rw [pk_un (fun e => hx (by rw [e]; exact List.mem_cons_self))]; exact h4, h5, h6⟩, tf_ch_upd h7 (fun q => hx (List.mem_cons_of_mem _ q))⟩
theorem tf_ch_hd {f : Nat → Int32} {ρ : Nat → Nat} {src goal b : Nat} {t : List Nat} (h : tf_ch f ρ src goal (b :: t)) : b < 6 := by
  cases t with
  | nil => exact (tf_ch_1.mp h).1
  | cons a t => exact (tf_ch_2.mp h).1.1
/-- how many places a set has -/
def tf_cnt (F : Nat) : Nat := tf_sum (fun a => if F.testBit a = true then 1 else 0) 6
theorem tf_cnt_6 : ∀ F, F < 64 → tf_cnt F ≤ 6 := by decide +kernel
theorem tf_add_a : ∀ F, F < 64 → ∀ b, b < 6 → F.testBit b = false → (F ||| (1 <<< b)) < 64 ∧ tf_cnt (F ||| (1 <<< b)) = tf_cnt F + 1 := by decide +kernel
theorem tf_add_b : ∀ F, F < 64 → ∀ b, b < 6 → ∀ v, v < 6 → (F ||| (1 <<< b)).testBit v = (decide (v = b) || F.testBit v) := by decide +kernel
/-- the search at work: F the places found, e how many, all on the line, each with a way back -/
def tf_sp (f l : Nat → Int32) (ρ : Nat → Nat) (src goal F e : Nat) : Prop :=
  F < 64 ∧ e = tf_cnt F ∧ (∀ j, j < e → ∃ v, v < 6 ∧ F.testBit v = true ∧ l j = nI v) ∧ (∀ v, v < 6 → F.testBit v = true → ∃ j, j < e ∧ l j = nI v) ∧ tf_sep src goal F ∧
  (∀ v, v < 6 → F.testBit v = true → ∃ L, tf_ch f ρ src goal (v :: L) ∧ ∀ x ∈ v :: L, F.testBit x = true)
/-- the first k places of the line are done with -/
def tf_cl (l : Nat → Int32) (ρ : Nat → Nat) (F k : Nat) : Prop := ∀ j, j < k → ∀ a, a < 6 → l j = nI a → ∀ b, b < 6 → 0 < ρ (6 * a + b) → F.testBit b = true
theorem tf_sp_e {f l : Nat → Int32} {ρ : Nat → Nat} {src goal F e : Nat} (h : tf_sp f l ρ src goal F e) : e ≤ 6 := by
  rw [h.2.1]; exact tf_cnt_6 F h.1
theorem tf_sp_e5 {f l : Nat → Int32} {ρ : Nat → Nat} {src goal F e b : Nat} (h : tf_sp f l ρ src goal F e) (hb : b < 6) (hF : F.testBit b = false) : e < 6 := by
  have h1 := tf_add_a F h.1 b hb hF
  have h2 := tf_cnt_6 _ h1.1
  have h3 := h.2.1
  omega
theorem tf_nI6 {a b : Nat} (ha : a < 6) (hb : b < 6) (h : nI a = nI b) : a = b := (nI_eq (by omega) (by omega)).mp h
theorem tf_sp_goal {f l : Nat → Int32} {ρ : Nat → Nat} {src goal F e a b : Nat} (h : tf_sp f l ρ src goal F e) (ha : a < 6) (haF : F.testBit a = true) (hb : b < 6) (hF : F.testBit b = false) (hr : 0 < ρ (6 * a + b)) :
    ∃ t, tf_ch (upd f b (nI a)) ρ src goal (b :: a :: t) ∧ ∀ x ∈ a :: t, F.testBit x = true := by
  obtain ⟨h1, h2, h3, h4, h5, h6⟩ := h
  obtain ⟨L, c1, c2⟩ := h6 a ha haF
  have hn : b ∉ a :: L := fun q => by rw [c2 b q] at hF; cases hF
  refine ⟨L, tf_ch_2.mpr ⟨⟨hb, ?_, ?_, pk_us, hr, hn⟩, tf_ch_upd c1 hn⟩, c2⟩
  · cases e1 : src.testBit b with
    | false => rfl
    | true => rw [(h5 b hb).1 e1] at hF; cases hF
  · cases e1 : goal.testBit a with
    | false => rfl
    | true => rw [(h5 a ha).2 e1] at haF; cases haF
theorem tf_sp_add {f l : Nat → Int32} {ρ : Nat → Nat} {src goal F e a b : Nat} (h : tf_sp f l ρ src goal F e) (ha : a < 6) (haF : F.testBit a = true) (hb : b < 6) (hF : F.testBit b = false) (hr : 0 < ρ (6 * a + b)) (hgb : goal.testBit b = false) :
    tf_sp (upd f b (nI a)) (upd l e (nI b)) ρ src goal (F ||| (1 <<< b)) (e + 1) := by
  obtain ⟨t, hc, ht⟩ := tf_sp_goal h ha haF hb hF hr
  obtain ⟨h1, h2, h3, h4, h5, h6⟩ := h
  obtain ⟨q1, q2⟩ := tf_add_a F h1 b hb hF
  have qb : ∀ v, v < 6 → F.testBit v = true → (F ||| (1 <<< b)).testBit v = true := fun v hv hF' => by
    rw [tf_add_b F h1 b hb v hv, hF', Bool.or_true]
  have qs : (F ||| (1 <<< b)).testBit b = true := by rw [tf_add_b F h1 b hb b hb]; simp
  have lt6 : ∀ x, F.testBit x = true → x < 6 := fun x hx => by
    rcases Nat.lt_or_ge x 6 with q | q
    · exact q
    · have : F.testBit x = false := Nat.testBit_lt_two_pow (Nat.lt_of_lt_of_le h1 (show 2 ^ 6 ≤ 2 ^ x from Nat.pow_le_pow_right (by decide) q))
      rw [this] at hx; cases hx
  refine ⟨q1, by omega, fun j hj => ?_, fun v hv hv2 => ?_, fun v hv => ⟨fun q => qb v hv ((h5 v hv).1 q), fun q => ?_⟩, fun v hv hv2 => ?_⟩
  · by_cases c : j = e
    · subst c
      exact ⟨b, hb, qs, pk_us⟩
    · obtain ⟨v, v1, v2, v3⟩ := h3 j (by omega)
      exact ⟨v, v1, qb v v1 v2, by rw [pk_un c]; exact v3⟩
  · rw [tf_add_b F h1 b hb v hv] at hv2
    by_cases c : v = b
    · subst c
      exact ⟨e, by omega, pk_us⟩
    · have hv3 : F.testBit v = true := by simpa [c] using hv2
      obtain ⟨j, j1, j2⟩ := h4 v hv hv3
      exact ⟨j, by omega, by rw [pk_un (by omega)]; exact j2⟩
  · rw [tf_add_b F h1 b hb v hv, (h5 v hv).2 q, Bool.or_false]
    by_cases c : v = b
    · subst c; rw [hgb] at q; cases q
    · simp [c]
  · rw [tf_add_b F h1 b hb v hv] at hv2
    by_cases c : v = b
    · subst c
      refine ⟨a :: t, hc, fun x hx => ?_⟩
      rcases List.mem_cons.mp hx with rfl | hx
      · exact qs
      · exact qb x (lt6 x (ht x hx)) (ht x hx)
    · have hv3 : F.testBit v = true := by simpa [c] using hv2
      obtain ⟨L, c1, c2⟩ := h6 v hv hv3
      refine ⟨L, tf_ch_upd c1 (fun q => ?_), fun x hx => qb x (lt6 x (c2 x hx)) (c2 x hx)⟩
      rw [c2 b q] at hF; cases hF
theorem tf_cl_add {l : Nat → Int32} {ρ : Nat → Nat} {F e k b : Nat} {v : Int32} (hF : F < 64) (hb : b < 6) (hk : k ≤ e) (h : tf_cl l ρ F k) : tf_cl (upd l e v) ρ (F ||| (1 <<< b)) k := by
  intro j hj a ha hl x hx hr
  rw [pk_un (by omega)] at hl
  rw [tf_add_b F hF b hb x hx, h j hj a ha hl x hx hr, Bool.or_true]
theorem tf_cl_s {l : Nat → Int32} {ρ : Nat → Nat} {F k a : Nat} (ha : a < 6) (hl : l k = nI a) (h : tf_cl l ρ F k) (hc : ∀ b, b < 6 → 0 < ρ (6 * a + b) → F.testBit b = true) : tf_cl l ρ F (k + 1) := by
  intro j hj a' ha' hl' x hx hr
  by_cases c : j = k
  · subst c
    rw [hl] at hl'
    have := tf_nI6 ha ha' hl'
    subst this
    exact hc x hx hr
  · exact h j (by omega) a' ha' hl' x hx hr
theorem tf_sp_end {f l : Nat → Int32} {ρ : Nat → Nat} {src goal F e : Nat} (h : tf_sp f l ρ src goal F e) (hc : tf_cl l ρ F e) : F < 64 ∧ tf_sep src goal F ∧ tf_wid ρ F = 0 := by
  obtain ⟨h1, h2, h3, h4, h5, h6⟩ := h
  refine ⟨h1, h5, tf_sum_z (fun a ha => tf_sum_z (fun b hb => ?_))⟩
  unfold tf_t
  by_cases c : F.testBit a = true ∧ F.testBit b = false
  · rw [if_pos c]
    obtain ⟨j, j1, j2⟩ := h4 a ha c.1
    rcases Nat.eq_zero_or_pos (ρ (6 * a + b)) with q | q
    · exact q
    · have := hc j j1 a ha j2 b hb q
      rw [this] at c
      exact absurd c.2 (by decide)
  · rw [if_neg c]
/-- the sources going on the line -/
def tf_s1 (f l : Nat → Int32) (src a e : Nat) : Prop := e = tf_sum (fun x => if src.testBit x = true then 1 else 0) a ∧ (∀ x, x < a → src.testBit x = true → f x = -1 ∧ ∃ j, j < e ∧ l j = nI x) ∧ ∀ j, j < e → ∃ v, v < 6 ∧ src.testBit v = true ∧ l j = nI v
theorem tf_s1_0 (f l : Nat → Int32) (src : Nat) : tf_s1 f l src 0 0 := ⟨rfl, fun x hx => by omega, fun j hj => by omega⟩
theorem tf_s1_e {f l : Nat → Int32} {src a e : Nat} (h : tf_s1 f l src a e) : e ≤ a := by
  rw [h.1]
  have h2 : tf_sum (fun x => if src.testBit x = true then 1 else 0) a ≤ tf_sum (fun _ => 1) a := tf_sum_le (fun k _ => by split <;> omega)
  rw [tf_sum_c] at h2
  omega
theorem tf_s1_in {f l : Nat → Int32} {src a e : Nat} (h : tf_s1 f l src a e) (ha : a < 6) (hs : src.testBit a = true) : tf_s1 (upd f a (-1)) (upd l e (nI a)) src (a + 1) (e + 1) := by
  obtain ⟨h1, h2, h3⟩ := h
  refine ⟨?_, fun x hx hx2 => ?_, fun j hj => ?_⟩
  · show e + 1 = tf_sum _ a + (if src.testBit a = true then 1 else 0)
    rw [if_pos hs, ← h1]
  · by_cases c : x = a
    · subst c
      exact ⟨pk_us, e, by omega, pk_us⟩
    · obtain ⟨q1, j, q2, q3⟩ := h2 x (by omega) hx2
      exact ⟨by rw [pk_un c]; exact q1, j, by omega, by rw [pk_un (by omega)]; exact q3⟩
  · by_cases c : j = e
    · subst c
      exact ⟨a, ha, hs, pk_us⟩
    · obtain ⟨v, q1, q2, q3⟩ := h3 j (by omega)
      exact ⟨v, q1, q2, by rw [pk_un c]; exact q3⟩
theorem tf_s1_out {f l : Nat → Int32} {src a e : Nat} (h : tf_s1 f l src a e) (hs : src.testBit a = false) : tf_s1 f l src (a + 1) e := by
  obtain ⟨h1, h2, h3⟩ := h
  refine ⟨?_, fun x hx hx2 => ?_, h3⟩
  · show e = tf_sum _ a + (if src.testBit a = true then 1 else 0)
    rw [if_neg (by rw [hs]; decide), ← h1]; rfl
  · by_cases c : x = a
    · subst c; rw [hs] at hx2; cases hx2
    · exact h2 x (by omega) hx2
theorem tf_s1_end {f l : Nat → Int32} {ρ : Nat → Nat} {src goal e : Nat} (h : tf_s1 f l src 6 e) (h64 : src < 64) (hd : tf_sep src goal src) : tf_sp f l ρ src goal src e := by
  obtain ⟨h1, h2, h3⟩ := h
  refine ⟨h64, h1, h3, fun v hv hv2 => (h2 v hv hv2).2, hd, fun v hv hv2 => ⟨[], tf_ch_1.mpr ⟨hv, hv2, (h2 v hv hv2).1⟩, fun x hx => ?_⟩⟩
  rw [List.mem_singleton.mp hx]; exact hv2
/-- one arc of a way: d goes over it -/
def tf_arc (ρ : Nat → Nat) (a b d : Nat) : Nat → Nat := tf_u1 (tf_u1 ρ (6 * a + b) (ρ (6 * a + b) - d)) (6 * b + a) (ρ (6 * b + a) + d)
def tf_xi (S b : Nat) : Nat := if S.testBit b = true then 1 else 0
theorem tf_arc_wid (ρ : Nat → Nat) {a b d : Nat} (ha : a < 6) (hb : b < 6) (hab : a ≠ b) (hd : d ≤ ρ (6 * a + b)) (S : Nat) : tf_wid (tf_arc ρ a b d) S + d * tf_xi S a = tf_wid ρ S + d * tf_xi S b := by
  have h1 := tf_wid_u1 ρ ha hb (ρ (6 * a + b) - d) S
  have h2 := tf_wid_u1 (tf_u1 ρ (6 * a + b) (ρ (6 * a + b) - d)) hb ha (ρ (6 * b + a) + d) S
  have h3 : tf_t (tf_u1 ρ (6 * a + b) (ρ (6 * a + b) - d)) S b a = tf_t ρ S b a := by
    unfold tf_t
    rw [tf_u1_n (by omega)]
  rw [h3] at h2
  unfold tf_arc tf_xi
  unfold tf_t at h1 h2
  cases ea : S.testBit a <;> cases eb : S.testBit b <;> simp [ea, eb] at h1 h2 ⊢ <;> omega
theorem tf_arc_sum (ρ : Nat → Nat) {a b d : Nat} (ha : a < 6) (hb : b < 6) (hab : a ≠ b) (hd : d ≤ ρ (6 * a + b)) {x y : Nat} (hx : x < 6) (hy : y < 6) : tf_arc ρ a b d (6 * x + y) + tf_arc ρ a b d (6 * y + x) = ρ (6 * x + y) + ρ (6 * y + x) := by
  unfold tf_arc
  by_cases c1 : x = a ∧ y = b
  · obtain ⟨rfl, rfl⟩ := c1
    rw [tf_u1_n (show 6 * x + y ≠ 6 * y + x by omega), tf_u1_s, tf_u1_s]
    omega
  · by_cases c2 : x = b ∧ y = a
    · obtain ⟨rfl, rfl⟩ := c2
      rw [tf_u1_s, tf_u1_n (show 6 * y + x ≠ 6 * x + y by omega), tf_u1_s]
      omega
    · rw [tf_u1_n (by omega), tf_u1_n (by omega), tf_u1_n (by omega), tf_u1_n (by omega)]
theorem tf_arc_o (ρ : Nat → Nat) {a b d k : Nat} (h1 : k ≠ 6 * a + b) (h2 : k ≠ 6 * b + a) : tf_arc ρ a b d k = ρ k := by
  unfold tf_arc
  rw [tf_u1_n h2, tf_u1_n h1]
theorem tf_arc_f (ρ : Nat → Nat) {a b d : Nat} (ha : a < 6) (hb : b < 6) (hab : a ≠ b) : tf_arc ρ a b d (6 * a + b) = ρ (6 * a + b) - d := by
  unfold tf_arc
  rw [tf_u1_n (by omega), tf_u1_s]
theorem tf_Rr_arc {r : Nat → Int32} {ρ : Nat → Nat} (h : tf_Rr r ρ) {a b d : Nat} (ha : a < 6) (hb : b < 6) (hab : a ≠ b) : tf_Rr (upd (upd r (6 * a + b) (nI (ρ (6 * a + b) - d))) (6 * b + a) (nI (ρ (6 * b + a) + d))) (tf_arc ρ a b d) :=
  tf_Rr_upd (tf_Rr_upd h _ _) _ _
/-- d goes over every arc of the way -/
def tf_le (ρ : Nat → Nat) (d : Nat) : List Nat → Prop
  | [] => True
  | [_] => True
  | b :: a :: t => d ≤ ρ (6 * a + b) ∧ tf_le ρ d (a :: t)
theorem tf_le_2 {ρ : Nat → Nat} {d b a : Nat} {t : List Nat} : tf_le ρ d (b :: a :: t) ↔ (d ≤ ρ (6 * a + b) ∧ tf_le ρ d (a :: t)) := Iff.rfl
/-- what the first loop of push finds -/
def tf_dl (ρ : Nat → Nat) : Nat → List Nat → Nat
  | m, [] => m
  | m, [_] => m
  | m, b :: a :: t => tf_dl ρ (if ρ (6 * a + b) < m then ρ (6 * a + b) else m) (a :: t)
theorem tf_dl_2 (ρ : Nat → Nat) (m b a : Nat) (t : List Nat) : tf_dl ρ m (b :: a :: t) = tf_dl ρ (if ρ (6 * a + b) < m then ρ (6 * a + b) else m) (a :: t) := rfl
theorem tf_dl_le (ρ : Nat → Nat) : ∀ (L : List Nat) (m : Nat), tf_dl ρ m L ≤ m
  | [], m => Nat.le_refl m
  | [_], m => Nat.le_refl m
  | b :: a :: t, m => by
    rw [tf_dl_2]
    have h := tf_dl_le ρ (a :: t) (if ρ (6 * a + b) < m then ρ (6 * a + b) else m)
    have h' : (if ρ (6 * a + b) < m then ρ (6 * a + b) else m) ≤ m ∧ (if ρ (6 * a + b) < m then ρ (6 * a + b) else m) ≤ ρ (6 * a + b) := by
      split <;> omega
    omega
theorem tf_dl_ok (ρ : Nat → Nat) : ∀ (L : List Nat) (m : Nat), tf_le ρ (tf_dl ρ m L) L
  | [], _ => trivial
  | [_], _ => trivial
  | b :: a :: t, m => by
    rw [tf_dl_2]
    refine tf_le_2.mpr ⟨?_, tf_dl_ok ρ (a :: t) _⟩
    have h := tf_dl_le ρ (a :: t) (if ρ (6 * a + b) < m then ρ (6 * a + b) else m)
    have h' : (if ρ (6 * a + b) < m then ρ (6 * a + b) else m) ≤ m ∧ (if ρ (6 * a + b) < m then ρ (6 * a + b) else m) ≤ ρ (6 * a + b) := by
      split <;> omega
    omega
theorem tf_dl_pos {f : Nat → Int32} {ρ : Nat → Nat} {src goal : Nat} : ∀ {L : List Nat} {m : Nat}, tf_ch f ρ src goal L → 0 < m → 0 < tf_dl ρ m L
  | [], _, h, _ => h.elim
  | [_], _, _, h => h
  | b :: a :: t, m, h, hm => by
    rw [tf_dl_2]
    obtain ⟨⟨-, -, -, -, h5, -⟩, h7⟩ := tf_ch_2.mp h
    exact tf_dl_pos h7 (by split <;> omega)
/-- the second loop of push, the rest L of the way before it; ρ0 the rooms it began with, G the goal's place -/
def tf_AG (ρ0 ρ : Nat → Nat) (src goal d G : Nat) : List Nat → Prop
  | [] => False
  | [a] => a < 6 ∧ src.testBit a = true ∧ (∀ S, tf_wid ρ S + d * tf_xi S a = tf_wid ρ0 S + d * tf_xi S G) ∧ (∀ x, x < 6 → ∀ y, y < 6 → ρ (6 * x + y) + ρ (6 * y + x) = ρ0 (6 * x + y) + ρ0 (6 * y + x)) ∧
      ∃ w, w < 6 ∧ src.testBit w = false ∧ ρ (6 * a + w) + d = ρ0 (6 * a + w) ∧ (∀ x, x < 6 → ∀ y, y < 6 → src.testBit x = true → (x ≠ a ∨ y ≠ w) → ρ (6 * x + y) = ρ0 (6 * x + y)) ∧ (goal.testBit w = true → ρ (6 * a + w) = 0)
  | b :: a :: t => (∀ S, tf_wid ρ S + d * tf_xi S b = tf_wid ρ0 S + d * tf_xi S G) ∧ (∀ x, x < 6 → ∀ y, y < 6 → ρ (6 * x + y) + ρ (6 * y + x) = ρ0 (6 * x + y) + ρ0 (6 * y + x)) ∧
      (∀ x ∈ b :: a :: t, ∀ y ∈ b :: a :: t, ρ (6 * x + y) = ρ0 (6 * x + y)) ∧ (∀ x, x < 6 → ∀ y, y < 6 → src.testBit x = true → ρ (6 * x + y) = ρ0 (6 * x + y)) ∧ (goal.testBit b = true → t = [] → d = ρ0 (6 * a + b))
theorem tf_AG_0 {ρ : Nat → Nat} {src goal b a : Nat} {t : List Nat} (hr : ρ (6 * a + b) < 1048576) : tf_AG ρ ρ src goal (tf_dl ρ 1048576 (b :: a :: t)) b (b :: a :: t) := by
  refine ⟨fun _ => rfl, fun _ _ _ _ => rfl, fun _ _ _ _ => rfl, fun _ _ _ _ _ => rfl, fun _ ht => ?_⟩
  subst ht
  rw [tf_dl_2, if_pos hr]
  rfl
theorem tf_ch_src {f : Nat → Int32} {ρ : Nat → Nat} {src goal : Nat} {a c : Nat} {t : List Nat} (h : tf_ch f ρ src goal (a :: c :: t)) : src.testBit a = false := (tf_ch_2.mp h).1.2.1
theorem tf_ch_lt {f : Nat → Int32} {ρ : Nat → Nat} {src goal : Nat} : ∀ {L : List Nat}, tf_ch f ρ src goal L → ∀ x ∈ L, x < 6
  | [], h, _, _ => h.elim
  | [a], h, x, hx => by rw [List.mem_singleton.mp hx]; exact (tf_ch_1.mp h).1
  | b :: a :: t, h, x, hx => by
    rcases List.mem_cons.mp hx with rfl | hx
    · exact tf_ch_hd h
    · exact tf_ch_lt (tf_ch_2.mp h).2 x hx
theorem tf_AG_d {f : Nat → Int32} {ρ0 ρ : Nat → Nat} {src goal d G b a : Nat} {t : List Nat} (hl : tf_le ρ0 d (b :: a :: t)) (h : tf_AG ρ0 ρ src goal d G (b :: a :: t)) : d ≤ ρ (6 * a + b) := by
  obtain ⟨-, -, h3, -, -⟩ := h
  rw [h3 a (List.mem_cons_of_mem _ List.mem_cons_self) b List.mem_cons_self]
  exact (tf_le_2.mp hl).1
theorem tf_AG_s {f : Nat → Int32} {ρ0 ρ : Nat → Nat} {src goal d G b a : Nat} {t : List Nat} (hc : tf_ch f ρ0 src goal (b :: a :: t)) (hl : tf_le ρ0 d (b :: a :: t)) (h : tf_AG ρ0 ρ src goal d G (b :: a :: t)) : tf_AG ρ0 (tf_arc ρ a b d) src goal d G (a :: t) := by
  have hd := tf_AG_d (f := f) hl h
  obtain ⟨h1, h2, h3, h4, h5⟩ := h
  obtain ⟨⟨c1, c2, c3, c4, c5, c6⟩, c7⟩ := tf_ch_2.mp hc
  have ha : a < 6 := tf_ch_hd c7
  have hab : a ≠ b := fun e => c6 (by rw [e]; exact List.mem_cons_self)
  have w1 : ∀ S, tf_wid (tf_arc ρ a b d) S + d * tf_xi S a = tf_wid ρ0 S + d * tf_xi S G := fun S => by
    rw [tf_arc_wid ρ ha c1 hab hd S, h1 S]
  have w2 : ∀ x, x < 6 → ∀ y, y < 6 → tf_arc ρ a b d (6 * x + y) + tf_arc ρ a b d (6 * y + x) = ρ0 (6 * x + y) + ρ0 (6 * y + x) := fun x hx y hy => by
    rw [tf_arc_sum ρ ha c1 hab hd hx hy, h2 x hx y hy]
  cases t with
  | nil =>
    have hsa := (tf_ch_1.mp c7).2.1
    refine ⟨ha, hsa, w1, w2, b, c1, c2, ?_, fun x hx y hy hs hne => ?_, fun hg => ?_⟩
    · rw [tf_arc_f ρ ha c1 hab]
      have := h4 a ha b c1 hsa
      omega
    · rw [tf_arc_o ρ (by omega) ?_]
      · exact h4 x hx y hy hs
      · intro q
        have : x = b := by omega
        rw [this, c2] at hs; cases hs
    · rw [tf_arc_f ρ ha c1 hab]
      have e1 := h5 hg rfl
      have e2 := h4 a ha b c1 hsa
      omega
  | cons z t =>
    have hsa := tf_ch_src c7
    refine ⟨w1, w2, fun x hx y hy => ?_, fun x hx y hy hs => ?_, fun hg => ?_⟩
    · have hxb : x ≠ b := fun e => c6 (by rw [← e]; exact hx)
      have hyb : y ≠ b := fun e => c6 (by rw [← e]; exact hy)
      have hx6 := tf_ch_lt c7 x hx
      have hy6 := tf_ch_lt c7 y hy
      rw [tf_arc_o ρ (by omega) (by omega)]
      exact h3 x (List.mem_cons_of_mem _ hx) y (List.mem_cons_of_mem _ hy)
    · rw [tf_arc_o ρ ?_ ?_]
      · exact h4 x hx y hy hs
      · intro q
        have : x = a := by omega
        rw [this, hsa] at hs; cases hs
      · intro q
        have : x = b := by omega
        rw [this, c2] at hs; cases hs
    · rw [c3] at hg; cases hg
/-- a flow of v: between the rooms and the capacities -/
def tf_fl (g ρ : Nat → Nat) (src goal v : Nat) : Prop := (∀ S, S < 64 → tf_sep src goal S → tf_wid ρ S + v = tf_wid g S) ∧ ∀ x, x < 6 → ∀ y, y < 6 → ρ (6 * x + y) + ρ (6 * y + x) = 2 * g (6 * x + y)
/-- the four questions that are asked -/
def tf_pq (src goal : Nat) : Prop := src < 64 ∧ goal < 64 ∧ tf_sep src goal src
theorem tf_fl_0 {N : Nat} {g ρ : Nat → Nat} {src goal : Nat} (hg : tf_ok N g) (h : ∀ k, k < 36 → ρ k = g k) : tf_fl g ρ src goal 0 := by
  refine ⟨fun S _ _ => ?_, fun x hx y hy => ?_⟩
  · refine tf_sum_congr (fun a ha => tf_sum_congr (fun b hb => ?_))
    unfold tf_t
    rw [h _ (by omega)]
  · rw [h _ (by omega), h _ (by omega), ← hg.1 x hx y hy]; omega
theorem tf_fl_bd {N : Nat} {g ρ : Nat → Nat} {src goal v : Nat} (hg : tf_ok N g) (h : tf_fl g ρ src goal v) : ∀ k, k < 36 → ρ k ≤ 2 * N := by
  intro k hk
  have h1 := h.2 (k / 6) (by omega) (k % 6) (by omega)
  have h2 := hg.2 k hk
  rw [show 6 * (k / 6) + k % 6 = k by omega] at h1
  omega
theorem tf_fl_end {g ρ : Nat → Nat} {src goal v S : Nat} (h : tf_fl g ρ src goal v) (hS : S < 64) (hs : tf_sep src goal S) (h0 : tf_wid ρ S = 0) : tf_mc g src goal v := by
  refine ⟨⟨S, hS, hs, ?_⟩, fun T hT ht => ?_⟩
  · have := h.1 S hS hs
    omega
  · have := h.1 T hT ht
    omega
theorem tf_fl_s {g ρ0 ρ : Nat → Nat} {src goal d G a v : Nat} (h : tf_fl g ρ0 src goal v) (hG : G < 6) (hgG : goal.testBit G = true) (hA : tf_AG ρ0 ρ src goal d G [a]) : tf_fl g ρ src goal (v + d) := by
  obtain ⟨ha, hsa, w1, w2, -⟩ := hA
  refine ⟨fun S hS hs => ?_, fun x hx y hy => ?_⟩
  · have e1 := w1 S
    have e2 := h.1 S hS hs
    unfold tf_xi at e1
    rw [if_pos ((hs a ha).1 hsa), if_neg (by rw [(hs G hG).2 hgG]; decide)] at e1
    omega
  · rw [w2 x hx y hy, h.2 x hx y hy]
/-- what is left to be done: open direct arcs, and room from the sources to the places between -/
def tf_pt (ρ : Nat → Nat) (src goal s w : Nat) : Nat := if src.testBit s = true ∧ src.testBit w = false then (if goal.testBit w = true then (if ρ (6 * s + w) = 0 then 0 else 1) else ρ (6 * s + w)) else 0
def tf_ph (ρ : Nat → Nat) (src goal : Nat) : Nat := tf_sum (fun s => tf_sum (fun w => tf_pt ρ src goal s w) 6) 6
theorem tf_ph_s {ρ0 ρ : Nat → Nat} {src goal d G a : Nat} (hd : 0 < d) (hA : tf_AG ρ0 ρ src goal d G [a]) : tf_ph ρ src goal + 1 ≤ tf_ph ρ0 src goal := by
  obtain ⟨ha, hsa, -, -, w, hw, hsw, e1, e2, e3⟩ := hA
  have hat : tf_pt ρ src goal a w + 1 ≤ tf_pt ρ0 src goal a w := by
    unfold tf_pt
    have hc : src.testBit a = true ∧ src.testBit w = false := ⟨hsa, hsw⟩
    rw [if_pos hc, if_pos hc]
    by_cases eg : goal.testBit w = true
    · rw [if_pos eg, if_pos eg, if_pos (e3 eg), if_neg (by omega)]
      exact Nat.le_refl _
    · rw [if_neg eg, if_neg eg]
      omega
  have hle : ∀ s, s < 6 → ∀ x, x < 6 → tf_pt ρ src goal s x ≤ tf_pt ρ0 src goal s x := by
    intro s hs x hx
    by_cases c : s = a ∧ x = w
    · obtain ⟨rfl, rfl⟩ := c
      omega
    · unfold tf_pt
      by_cases q : src.testBit s = true ∧ src.testBit x = false
      · rw [if_pos q, if_pos q, e2 s hs x hx q.1 (by omega)]
        exact Nat.le_refl _
      · rw [if_neg q, if_neg q]
        exact Nat.le_refl _
  exact tf_sum_drop (f := fun s => tf_sum (fun w => tf_pt ρ src goal s w) 6) (h := fun s => tf_sum (fun w => tf_pt ρ0 src goal s w) 6) ha (fun s hs => tf_sum_le (fun x hx => hle s hs x hx)) (tf_sum_drop (f := fun w => tf_pt ρ src goal a w) (h := fun w => tf_pt ρ0 src goal a w) hw (fun x hx => hle a ha x hx) hat)
def tf_pb (src goal : Nat) : Nat := tf_sum (fun s => tf_sum (fun w => if src.testBit s = true ∧ src.testBit w = false then (if goal.testBit w = true then 1 else 21) else 0) 6) 6
theorem tf_ph_0 {ρ : Nat → Nat} (src goal : Nat) (h : ∀ k, k < 36 → ρ k ≤ 21) : tf_ph ρ src goal ≤ tf_pb src goal := by
  refine tf_sum_le (fun s hs => tf_sum_le (fun w hw => ?_))
  unfold tf_pt
  have h1 := h (6 * s + w) (by omega)
  by_cases q : src.testBit s = true ∧ src.testBit w = false
  · rw [if_pos q, if_pos q]
    split
    · split <;> omega
    · exact h1
  · rw [if_neg q, if_neg q]
    exact Nat.le_refl _
def tf_pair (src goal : Nat) : Prop := (src = 1 ∧ goal = 2) ∨ (src = 4 ∧ goal = 8) ∨ (src = 5 ∧ goal = 10) ∨ (src = 9 ∧ goal = 6)
theorem tf_pair_ok {src goal : Nat} (h : tf_pair src goal) : src < 64 ∧ goal < 64 ∧ tf_sep src goal src ∧ tf_pb src goal ≤ 88 := by
  rcases h with ⟨rfl, rfl⟩ | ⟨rfl, rfl⟩ | ⟨rfl, rfl⟩ | ⟨rfl, rfl⟩
  · exact ⟨by decide, by decide, by decide +kernel, by decide +kernel⟩
  · exact ⟨by decide, by decide, by decide +kernel, by decide +kernel⟩
  · exact ⟨by decide, by decide, by decide +kernel, by decide +kernel⟩
  · exact ⟨by decide, by decide, by decide +kernel, by decide +kernel⟩
end
section
/-! the worlds of the two classes, and rows for calls and ends -/
abbrev vwCl : List vw_C := [(RX0, TX0, 8), (RX1, TX1, 2)]
/-- capacities, room, cameFrom, line, known, first, second, both -/
abbrev tf_U : Type := (Nat → Int32) × (Nat → Int32) × (Nat → Int32) × (Nat → Int32) × Int32 × Int32 × Int32 × Int32
/-- caps, limits -/
abbrev tf_V : Type := (Nat → Int32) × (Nat → Int32)
abbrev wX (ad : Nat → Nat) (ds : Nat → ClassId) (u : tf_U) : va_W := [(ad 0, .inr (0, [.ref (ad 1), .ref (ad 2), .ref (ad 3), .ref (ad 4), .int u.2.2.2.2.1, .int u.2.2.2.2.2.1, .int u.2.2.2.2.2.2.1, .int u.2.2.2.2.2.2.2])), (ad 1, .inl (ds 1, 36, .inl u.1)), (ad 2, .inl (ds 2, 36, .inl u.2.1)), (ad 3, .inl (ds 3, 6, .inl u.2.2.1)), (ad 4, .inl (ds 4, 8, .inl u.2.2.2.1))]
abbrev tyX (ds : Nat → ClassId) : List (ClassId × FieldType) := [(ds 1, .byte), (ds 2, .int), (ds 3, .byte), (ds 4, .byte)]
abbrev wM (ad : Nat → Nat) (ds : Nat → ClassId) (v : tf_V) : va_W := [(ad 0, .inr (1, [.ref (ad 1), .ref (ad 2)])), (ad 1, .inl (ds 1, 36, .inl v.1)), (ad 2, .inl (ds 2, 4, .inl v.2))]
abbrev tyM (ds : Nat → ClassId) : List (ClassId × FieldType) := [(ds 1, .int), (ds 2, .int)]
/-- a contract's start -/
abbrev tf_pc (D : va_G) (av : List Value) (sz : Nat) (ws : va_W) (tys : List (ClassId × FieldType)) : Array Value → State → Prop := va_Pc av (fun U => U.heap.size = sz ∧ va_P D vwCl ws U.heap ∧ va_K D vwCl tys U ∧ va_D (fun _ => True) ws)
/-- the world behind a method -/
abbrev tf_B {σ : Type} (D : va_G) (wf : σ → va_W) (tys : List (ClassId × FieldType)) (A : Nat → Prop) (u : σ) (t : State) : Prop := va_P D vwCl (wf u) t.heap ∧ va_K D vwCl tys t ∧ va_D A (wf u)
abbrev tf_Mi {σ : Type} (l : Launch) (D : va_G) (wf : σ → va_W) (tys : List (ClassId × FieldType)) (sz : Nat) (u : σ) (y : MethodName) (cc : ByteArray) (maxL : Nat) (ret : Option FieldType) (rm : Room) (av : List Value) (post : Int32 → σ → Prop) : Prop :=
  Met l y (ws_ y cc maxL ret) rm (tf_pc D av sz (wf u) tys) (va_Qi post (tf_B D wf tys (va_A (wf u) sz)) (va_A (wf u) sz)) 0 0 (va_A (wf u) sz)
abbrev tf_Mv {σ : Type} (l : Launch) (D : va_G) (wf : σ → va_W) (tys : List (ClassId × FieldType)) (sz : Nat) (u : σ) (y : MethodName) (cc : ByteArray) (maxL : Nat) (rm : Room) (av : List Value) (post : σ → Prop) : Prop :=
  Met l y (ws_ y cc maxL none) rm (tf_pc D av sz (wf u) tys) (va_Qv post (tf_B D wf tys (va_A (wf u) sz)) (va_A (wf u) sz)) 0 0 (va_A (wf u) sz)
abbrev tf_Mr (l : Launch) (D : va_G) (ws : va_W) (tys : List (ClassId × FieldType)) (sz : Nat) (y : MethodName) (cc : ByteArray) (maxL : Nat) (ret : Option FieldType) (rm : Room) (av : List Value) (r : Int32) : Prop :=
  Met l y (ws_ y cc maxL ret) rm (tf_pc D av sz ws tys) (QcRead r) 0 0 (fun _ => False)
theorem tf_fb {D : va_G} {av : List Value} {sz : Nat} {ws : va_W} {tys : List (ClassId × FieldType)} : FrameBlind (tf_pc D av sz ws tys) := by
  intro a U g mk q
  obtain ⟨q0, q1, qP, qK, qD⟩ := q
  exact ⟨q0, q1, qP, va_K.moved (u := U) (U := U.calling g mk a) (Vm.Alike.refl U.vm) qK, qD⟩
section TFgo
variable {l : Launch} {D : va_G} {tys : List (ClassId × FieldType)} {sz : Nat} {y : MethodName} {cc : ByteArray} {maxL : Nat} {ret : Option FieldType} {rm : Room} {av : List Value}
theorem tf_go_i {σ : Type} {wf : σ → va_W} {u : σ} {post : Int32 → σ → Prop} (hy : plainName y.cls = true) (hlen : (lg_sl av).length ≤ maxL)
    (k : ∀ (p : Program) (e : Env) (s : State) (m : MethodId) (below : List Frame) (meth : Method) (c : Code), CallFix p m c cc maxL s av.toArray lw_all y.cls → meth.sig.returnType = ret → meth.locks = false → ∀ A : Nat → Prop, (∀ q : Nat, s.heap.size ≤ q → A q) → va_P D vwCl (wf u) s.heap → va_K D vwCl tys s → va_D A (wf u) → va_S A s.heap s.heap [] → ∀ ls : Array Slot, lv_has ls maxL (lv_args 0 av) →
      W p l e rm s m av.toArray below meth c s.heap [] 0 0 (MQ below (va_Qi post (tf_B D wf tys A) A) av.toArray s 0 0 A) (F0 m 0 ls [])) : tf_Mi l D wf tys sz u y cc maxL ret rm av post := by
  refine Met.ofW (cc := cc) (maxL := maxL) (ret := ret) hy rfl ?_
  intro p e s m args below meth c s₁ B hml hv
  obtain ⟨rfl, hsz, hP, hK, hD0⟩ := hv
  have hx := B.exec
  have hb := B.bytes
  have hr := B.returns
  have hts := atoms_spec (ws := ws_ y cc maxL ret) B.pre
  have hts : ∀ w ∈ lw_all, w.before _ s = true := fun w h => hts w (List.mem_cons_of_mem _ h)
  have hown : s.vm.findClass y.cls = some m.cls := findClass_of_methodNamed B.named
  have hlocks := B.notSynchronized
  subst hsz
  have hD := hD0.self (sz := s.heap.size)
  have hl := lv_entry av (n := maxL) hlen
  rw [lg_entry_eq]
  exact k p e s m below meth c ⟨hx, hb, hml, hown, hts⟩ hr hlocks _ (fun q h => Or.inr h) hP hK hD va_S.rf _ hl
theorem tf_go_v {σ : Type} {wf : σ → va_W} {u : σ} {post : σ → Prop} (hy : plainName y.cls = true) (hlen : (lg_sl av).length ≤ maxL)
    (k : ∀ (p : Program) (e : Env) (s : State) (m : MethodId) (below : List Frame) (meth : Method) (c : Code), CallFix p m c cc maxL s av.toArray lw_all y.cls → meth.sig.returnType = none → meth.locks = false → ∀ A : Nat → Prop, (∀ q : Nat, s.heap.size ≤ q → A q) → va_P D vwCl (wf u) s.heap → va_K D vwCl tys s → va_D A (wf u) → va_S A s.heap s.heap [] → ∀ ls : Array Slot, lv_has ls maxL (lv_args 0 av) →
      W p l e rm s m av.toArray below meth c s.heap [] 0 0 (MQ below (va_Qv post (tf_B D wf tys A) A) av.toArray s 0 0 A) (F0 m 0 ls [])) : tf_Mv l D wf tys sz u y cc maxL rm av post := by
  refine Met.ofW (cc := cc) (maxL := maxL) (ret := none) hy rfl ?_
  intro p e s m args below meth c s₁ B hml hv
  obtain ⟨rfl, hsz, hP, hK, hD0⟩ := hv
  have hx := B.exec
  have hb := B.bytes
  have hr := B.returns
  have hts := atoms_spec (ws := ws_ y cc maxL none) B.pre
  have hts : ∀ w ∈ lw_all, w.before _ s = true := fun w h => hts w (List.mem_cons_of_mem _ h)
  have hown : s.vm.findClass y.cls = some m.cls := findClass_of_methodNamed B.named
  have hlocks := B.notSynchronized
  subst hsz
  have hD := hD0.self (sz := s.heap.size)
  have hl := lv_entry av (n := maxL) hlen
  rw [lg_entry_eq]
  exact k p e s m below meth c ⟨hx, hb, hml, hown, hts⟩ hr hlocks _ (fun q h => Or.inr h) hP hK hD va_S.rf _ hl
theorem tf_go_r {ws : va_W} {r : Int32} (hy : plainName y.cls = true) (hlen : (lg_sl av).length ≤ maxL)
    (k : ∀ (p : Program) (e : Env) (s : State) (m : MethodId) (below : List Frame) (meth : Method) (c : Code), CallFix p m c cc maxL s av.toArray lw_all y.cls → meth.sig.returnType = ret → meth.locks = false → va_P D vwCl ws s.heap → va_K D vwCl tys s → va_D (fun _ => True) ws → ∀ ls : Array Slot, lv_has ls maxL (lv_args 0 av) →
      W p l e rm s m av.toArray below meth c s.heap [] 0 0 (MQ below (QcRead r) av.toArray s 0 0 (fun _ => False)) (F0 m 0 ls [])) : tf_Mr l D ws tys sz y cc maxL ret rm av r := by
  refine Met.ofW (cc := cc) (maxL := maxL) (ret := ret) hy rfl ?_
  intro p e s m args below meth c s₁ B hml hv
  obtain ⟨rfl, hsz, hP, hK, hD0⟩ := hv
  have hx := B.exec
  have hb := B.bytes
  have hr := B.returns
  have hts := atoms_spec (ws := ws_ y cc maxL ret) B.pre
  have hts : ∀ w ∈ lw_all, w.before _ s = true := fun w h => hts w (List.mem_cons_of_mem _ h)
  have hown : s.vm.findClass y.cls = some m.cls := findClass_of_methodNamed B.named
  have hlocks := B.notSynchronized
  have hl := lv_entry av (n := maxL) hlen
  rw [lg_entry_eq]
  exact k p e s m below meth c ⟨hx, hb, hml, hown, hts⟩ hr hlocks hP hK hD0 _ hl
end TFgo
section TFw
variable {p : Program} {l : Launch} {e : Env} {R : Room} {s : State} {m : MethodId} {args : Array Value} {below : List Frame} {meth : Method} {c : Code} {H : Heap} {locs : List Loc} {cells slots : Nat} {Q : State → Prop}
variable {cc : ByteArray} {pc : Nat} {ls : Array Slot} {rest : List Value} {D : va_G} {A : Nat → Prop} {tys : List (ClassId × FieldType)} {ws : va_W} {H0 : Heap}
theorem tf_top {x : Int32} (y : Int32) (h : x = y) (k : W p l e R s m args below meth c H locs cells slots Q (F0 m pc ls (.int y :: rest))) : W p l e R s m args below meth c H locs cells slots Q (F0 m pc ls (.int x :: rest)) := h ▸ k
theorem tf_iret {σ : Type} {wf : σ → va_W} {post : Int32 → σ → Prop} {ty : FieldType} (u : σ) {v : Int32} (hx : p.tables.exec = Jvm.exec) (hb : c.code = cc) (hr : meth.sig.returnType = some ty) (hn : narrow ty (.int v) = .int v) (hlocks : meth.locks = false) (hP : va_P D vwCl (wf u) H) (hK : va_K D vwCl tys s) (hD : va_D A (wf u)) (hS : va_S A s.heap H locs) (hp : post v u) (hdg : decode cc pc = .ok (.ireturn, 1)) :
    W p l e R s m args below meth c H locs cells slots (MQ below (va_Qi post (tf_B D wf tys A) A) args s cells slots A) (F0 m pc ls [.int v]) :=
  W.zret (v := v) hx hb hr hn (fun t ht hW => ⟨⟨v, u, rfl, hp, by rw [ht]; exact hP, va_K.moved hW.alike hK, hD⟩, hS.F ht⟩) hS.2.2 hdg
theorem tf_vret {σ : Type} {wf : σ → va_W} {post : σ → Prop} (u : σ) (hx : p.tables.exec = Jvm.exec) (hb : c.code = cc) (hr : meth.sig.returnType = none) (hlocks : meth.locks = false) (hP : va_P D vwCl (wf u) H) (hK : va_K D vwCl tys s) (hD : va_D A (wf u)) (hS : va_S A s.heap H locs) (hp : post u) (hdg : decode cc pc = .ok (.return_, 1)) :
    W p l e R s m args below meth c H locs cells slots (MQ below (va_Qv post (tf_B D wf tys A) A) args s cells slots A) (F0 m pc ls []) :=
  W.vret hx hb hr (fun t ht hW => ⟨⟨u, rfl, hp, by rw [ht]; exact hP, va_K.moved hW.alike hK, hD⟩, hS.F ht⟩) hS.2.2 hdg
theorem tf_rret {ty : FieldType} {v r : Int32} (hx : p.tables.exec = Jvm.exec) (hb : c.code = cc) (hr : meth.sig.returnType = some ty) (hn : narrow ty (.int v) = .int v) (hlocks : meth.locks = false) (hv : v = r) (hdg : decode cc pc = .ok (.ireturn, 1)) :
    W p l e R s m args below meth c s.heap [] cells slots (MQ below (QcRead r) args s cells slots (fun _ => False)) (F0 m pc ls [.int v]) :=
  W.zret (v := v) hx hb hr hn (fun t ht hW => ⟨by rw [hv], ht⟩) (fun q h => by cases h) hdg
/-- arrays, by their places as numbers -/
theorem tf_iald {a n : Nat} {cA : ClassId} {f : Nat → Int32} (hx : p.tables.exec = Jvm.exec) (hb : c.code = cc) (hK : va_K D vwCl tys s) (hP : va_P D vwCl ws H) (q0 t0 : Nat) (ha : ws[q0]? = some (a, .inl (cA, n, .inl f))) (ht : tys[t0]? = some (cA, .int)) {k : Nat} (hk : k < n) (hn : n < 2 ^ 31) {v : Int32} (hv : f k = v) (hdg : decode cc pc = .ok (.iaload, 1))
    (kk : W p l e R s m args below meth c H locs cells slots Q (F0 m (pc + 1) ls (.int v :: rest))) : W p l e R s m args below meth c H locs cells slots Q (F0 m pc ls (.int (nI k) :: .ref a :: rest)) := by
  refine va_iald hx hb hK hP q0 t0 ha ht (vp_in_nI hk hn) hdg ?_
  rw [nI_clamp (Nat.lt_trans hk hn), hv]
  exact kk
theorem tf_bald {a n : Nat} {cA : ClassId} {f : Nat → Int32} (hx : p.tables.exec = Jvm.exec) (hb : c.code = cc) (hK : va_K D vwCl tys s) (hP : va_P D vwCl ws H) (q0 t0 : Nat) (ha : ws[q0]? = some (a, .inl (cA, n, .inl f))) (ht : tys[t0]? = some (cA, .byte)) {k : Nat} (hk : k < n) (hn : n < 2 ^ 31) {v : Int32} (hv : f k = v) (hdg : decode cc pc = .ok (.baload, 1))
    (kk : W p l e R s m args below meth c H locs cells slots Q (F0 m (pc + 1) ls (.int v :: rest))) : W p l e R s m args below meth c H locs cells slots Q (F0 m pc ls (.int (nI k) :: .ref a :: rest)) := by
  refine va_bald hx hb hK hP q0 t0 ha ht (vp_in_nI hk hn) hdg ?_
  rw [nI_clamp (Nat.lt_trans hk hn), hv]
  exact kk
theorem tf_iast {a n : Nat} {cA : ClassId} {f : Nat → Int32} (hx : p.tables.exec = Jvm.exec) (hb : c.code = cc) (hK : va_K D vwCl tys s) (hP : va_P D vwCl ws H) (hD : va_D A ws) (hS : va_S A H0 H locs) (q0 t0 : Nat) (ha : ws[q0]? = some (a, .inl (cA, n, .inl f))) (ht : tys[t0]? = some (cA, .int)) {k : Nat} {x : Int32} (hk : k < n) (hn : n < 2 ^ 31) (hdg : decode cc pc = .ok (.iastore, 1))
    (kk : ∀ (H1 : Heap) (locs1 : List Loc), va_P D vwCl (ws.set q0 (a, .inl (cA, n, .inl (upd f k x)))) H1 → va_D A (ws.set q0 (a, .inl (cA, n, .inl (upd f k x)))) → va_S A H0 H1 locs1 → W p l e R s m args below meth c H1 locs1 cells slots Q (F0 m (pc + 1) ls rest)) : W p l e R s m args below meth c H locs cells slots Q (F0 m pc ls (.int x :: .int (nI k) :: .ref a :: rest)) := by
  refine va_iast hx hb hK hP hD hS q0 t0 ha ht (vp_in_nI hk hn) hdg ?_
  rw [nI_clamp (Nat.lt_trans hk hn)]
  exact kk
theorem tf_bast {a n : Nat} {cA : ClassId} {f : Nat → Int32} (hx : p.tables.exec = Jvm.exec) (hb : c.code = cc) (hK : va_K D vwCl tys s) (hP : va_P D vwCl ws H) (hD : va_D A ws) (hS : va_S A H0 H locs) (q0 t0 : Nat) (ha : ws[q0]? = some (a, .inl (cA, n, .inl f))) (ht : tys[t0]? = some (cA, .byte)) {k : Nat} {x y : Int32} (hk : k < n) (hn : n < 2 ^ 31) (hy : vp_nar .byte x = y) (hdg : decode cc pc = .ok (.bastore, 1))
    (kk : ∀ (H1 : Heap) (locs1 : List Loc), va_P D vwCl (ws.set q0 (a, .inl (cA, n, .inl (upd f k y)))) H1 → va_D A (ws.set q0 (a, .inl (cA, n, .inl (upd f k y)))) → va_S A H0 H1 locs1 → W p l e R s m args below meth c H1 locs1 cells slots Q (F0 m (pc + 1) ls rest)) : W p l e R s m args below meth c H locs cells slots Q (F0 m pc ls (.int x :: .int (nI k) :: .ref a :: rest)) := by
  refine va_bast hx hb hK hP hD hS q0 t0 ha ht (vp_in_nI hk hn) hdg ?_
  rw [nI_clamp (Nat.lt_trans hk hn), hy]
  exact kk
variable {y : MethodName} {bytes : ByteArray} {maxL nL n index : Nat} {ret : Option FieldType} {rm : Room} {own : String} {b : Nat} {As st0 : List Value}
/-- a call that only reads, through an object of class number ci at place q0 of the world -/
theorem tf_callR {C : String} {T : u_T} {N ci q0 : Nat} {fs : List Value} {r : Int32} (S : CallFix p m c cc nL s args lw_all own) (hP : va_P D vwCl ws H) (hK : va_K D vwCl tys s) (hD : va_D (fun _ => True) ws) (hM : tf_Mr l D ws tys H.size y bytes maxL ret rm (.ref b :: As) r) (hc : vwCl[ci]? = some (C, T, N)) (he : ws[q0]? = some (b, .inr (ci, fs)))
    (cw : CallW R s args own C index y bytes maxL ret (ws_ y bytes maxL ret) rm 0 0 n) (hn : As.length = n) (hz : ls.size = nL) (hst : st0 = As.reverse ++ .ref b :: rest) (hW : (rest.map fun v => v.category).sum ≤ 8) (hdg : decode cc pc = .ok (.invokevirtual index, 3)) (hf : cells + 0 ≤ R.cells ∧ slots + 0 ≤ R.slots)
    (kk : W p l e R s m args below meth c H locs cells slots Q (F0 m (pc + 3) ls (.int r :: rest))) : W p l e R s m args below meth c H locs cells slots Q (F0 m pc ls st0) := by
  subst hst
  exact W.callR (W.runV (As := As) (rest := rest) S hM cw ⟨tf_fb, va_recv hK hP hc he, fun U hU hW => ⟨rfl, by rw [hU], by rw [hU]; exact hP, va_K.moved hW.alike hK, hD.weaken (fun _ _ _ _ => trivial)⟩⟩ rfl hn hz rfl (lv_room hW) hdg hf) kk
theorem tf_callRS {r : Int32} (S : CallFix p m c cc nL s args lw_all own) (hP : va_P D vwCl ws H) (hK : va_K D vwCl tys s) (hD : va_D (fun _ => True) ws) (hM : tf_Mr l D ws tys H.size y bytes maxL ret rm As r)
    (cw : CallB R s args own index y bytes maxL ret (ws_ y bytes maxL ret) rm 0 0 n ∧ (Cond.static y).before args s = true) (hn : As.length = n) (hz : ls.size = nL) (hst : st0 = As.reverse ++ rest) (hW : (rest.map fun v => v.category).sum ≤ 8) (hdg : decode cc pc = .ok (.invokestatic index, 3)) (hf : cells + 0 ≤ R.cells ∧ slots + 0 ≤ R.slots)
    (kk : W p l e R s m args below meth c H locs cells slots Q (F0 m (pc + 3) ls (.int r :: rest))) : W p l e R s m args below meth c H locs cells slots Q (F0 m pc ls st0) := by
  subst hst
  exact W.callR (W.runS (As := As) (rest := rest) S hM cw ⟨tf_fb, fun U hU hW => ⟨rfl, by rw [hU], by rw [hU]; exact hP, va_K.moved hW.alike hK, hD.weaken (fun _ _ _ _ => trivial)⟩⟩ rfl hn hz rfl (lv_room hW) hdg hf) kk
/-- calls that write: the callee's cells 'wf u' at the places isC of the world ws, the others wr at isR -/
theorem tf_calli {σ : Type} {wf : σ → va_W} {u : σ} {wr : va_W} {tys' : List (ClassId × FieldType)} {post : Int32 → σ → Prop} {C : String} {T : u_T} {N ci q0 : Nat} {fs : List Value} (S : CallFix p m c cc nL s args lw_all own) (hP : va_P D vwCl ws H) (hK : va_K D vwCl tys s) (hD : va_D A ws) (hS : va_S A s.heap H locs) (hA : ∀ q : Nat, s.heap.size ≤ q → A q) (isC isR isT : List Nat)
    (hC : isC.map (fun i => ws[i]?) = (wf u).map some) (hCn : va_nd isC = true) (hR : isR.map (fun i => ws[i]?) = wr.map some) (hn1 : va_nd isR = true) (hdis : ∀ i ∈ isR, i ∉ isC) (hT : isT.filterMap (fun i => tys[i]?) = tys')
    (hM : tf_Mi l D wf tys' H.size u y bytes maxL ret rm (.ref b :: As) post) (hc : vwCl[ci]? = some (C, T, N)) (he : (wf u)[q0]? = some (b, .inr (ci, fs)))
    (cw : CallW R s args own C index y bytes maxL ret (ws_ y bytes maxL ret) rm 0 0 n) (hn : As.length = n) (hz : ls.size = nL) (hst : st0 = As.reverse ++ .ref b :: rest) (hW : (rest.map fun v => v.category).sum ≤ 8) (hdg : decode cc pc = .ok (.invokevirtual index, 3)) (hf : cells + 0 ≤ R.cells ∧ slots + 0 ≤ R.slots)
    (kk : ∀ (r : Int32) (u' : σ) (H1 : Heap) (locs1 : List Loc), post r u' → va_P D vwCl (wr ++ wf u') H1 → va_D A (wr ++ wf u') → va_S A s.heap H1 locs1 → W p l e R s m args below meth c H1 locs1 cells slots Q (F0 m (pc + 3) ls (.int r :: rest))) : W p l e R s m args below meth c H locs cells slots Q (F0 m pc ls st0) := by
  subst hst
  have hPc : va_P D vwCl (wf u) H := fun k q hk => by
    have h1 : (isC.map (fun i => ws[i]?))[k]? = some (some q) := by rw [hC, List.getElem?_map, hk]; rfl
    rw [List.getElem?_map] at h1
    cases hi : isC[k]? with
    | none => rw [hi] at h1; cases h1
    | some i => rw [hi] at h1; exact hP i q (Option.some.inj h1)
  have hDc := hD.sub (ws' := wf u) isC hCn hC
  have hKc := hK.sub (tys' := tys') isT hT
  have hFc := va_free (wc := wf u) hD hS hA isC hC
  refine va_calli (va_runV (As := As) (rest := rest) S hM cw ⟨tf_fb, va_recv hKc hPc hc he, fun U hU hW => ⟨rfl, by rw [hU], by rw [hU]; exact hPc, va_K.moved hW.alike hKc, hDc.weaken (fun _ _ _ _ => trivial)⟩⟩ rfl hn hz rfl (lv_room hW) hdg hf) hS (fun q _ h => hFc q h) hFc (fun r u' t H1 locs1 ht hvm hw hB hz1 hk1 hS1 => ?_)
  obtain ⟨hP1, hK1, hD1⟩ := hB
  rw [ht] at hP1
  obtain ⟨hP2, hD2⟩ := va_join (wr := wr) (w1 := wf u') hP hD isC isR hC hR hn1 hdis hk1 hFc hP1 hD1
  exact kk r u' H1 locs1 hw hP2 hD2 hS1
theorem tf_callv {σ : Type} {wf : σ → va_W} {u : σ} {wr : va_W} {tys' : List (ClassId × FieldType)} {post : σ → Prop} {C : String} {T : u_T} {N ci q0 : Nat} {fs : List Value} (S : CallFix p m c cc nL s args lw_all own) (hP : va_P D vwCl ws H) (hK : va_K D vwCl tys s) (hD : va_D A ws) (hS : va_S A s.heap H locs) (hA : ∀ q : Nat, s.heap.size ≤ q → A q) (isC isR isT : List Nat)
    (hC : isC.map (fun i => ws[i]?) = (wf u).map some) (hCn : va_nd isC = true) (hR : isR.map (fun i => ws[i]?) = wr.map some) (hn1 : va_nd isR = true) (hdis : ∀ i ∈ isR, i ∉ isC) (hT : isT.filterMap (fun i => tys[i]?) = tys')
    (hM : tf_Mv l D wf tys' H.size u y bytes maxL rm (.ref b :: As) post) (hc : vwCl[ci]? = some (C, T, N)) (he : (wf u)[q0]? = some (b, .inr (ci, fs)))
    (cw : CallW R s args own C index y bytes maxL none (ws_ y bytes maxL none) rm 0 0 n) (hn : As.length = n) (hz : ls.size = nL) (hst : st0 = As.reverse ++ .ref b :: rest) (hW : (rest.map fun v => v.category).sum ≤ 8) (hdg : decode cc pc = .ok (.invokevirtual index, 3)) (hf : cells + 0 ≤ R.cells ∧ slots + 0 ≤ R.slots)
    (kk : ∀ (u' : σ) (H1 : Heap) (locs1 : List Loc), post u' → va_P D vwCl (wr ++ wf u') H1 → va_D A (wr ++ wf u') → va_S A s.heap H1 locs1 → W p l e R s m args below meth c H1 locs1 cells slots Q (F0 m (pc + 3) ls rest)) : W p l e R s m args below meth c H locs cells slots Q (F0 m pc ls st0) := by
  subst hst
  have hPc : va_P D vwCl (wf u) H := fun k q hk => by
    have h1 : (isC.map (fun i => ws[i]?))[k]? = some (some q) := by rw [hC, List.getElem?_map, hk]; rfl
    rw [List.getElem?_map] at h1
    cases hi : isC[k]? with
    | none => rw [hi] at h1; cases h1
    | some i => rw [hi] at h1; exact hP i q (Option.some.inj h1)
  have hDc := hD.sub (ws' := wf u) isC hCn hC
  have hKc := hK.sub (tys' := tys') isT hT
  have hFc := va_free (wc := wf u) hD hS hA isC hC
  refine va_callv (va_runV (As := As) (rest := rest) S hM cw ⟨tf_fb, va_recv hKc hPc hc he, fun U hU hW => ⟨rfl, by rw [hU], by rw [hU]; exact hPc, va_K.moved hW.alike hKc, hDc.weaken (fun _ _ _ _ => trivial)⟩⟩ rfl hn hz rfl (lv_room hW) hdg hf) hS (fun q _ h => hFc q h) hFc (fun u' t H1 locs1 ht hvm hw hB hz1 hk1 hS1 => ?_)
  obtain ⟨hP1, hK1, hD1⟩ := hB
  rw [ht] at hP1
  obtain ⟨hP2, hD2⟩ := va_join (wr := wr) (w1 := wf u') hP hD isC isR hC hR hn1 hdis hk1 hFc hP1 hD1
  exact kk u' H1 locs1 hw hP2 hD2 hS1
end TFw
/-! numbers -/
def tf_b (b : Bool) : Int32 := if b then 1 else 0
theorem tf_b1 {b : Bool} (h : b = true) : (1 : Int32) = tf_b b := by rw [h]; rfl
theorem tf_b0 {b : Bool} (h : b = false) : (0 : Int32) = tf_b b := by rw [h]; rfl
theorem tf_bn (b : Bool) : narrow .boolean (.int (tf_b b)) = .int (tf_b b) := by cases b <;> rfl
theorem tf_be {b : Bool} (h : tf_b b = 0) : b = false := by
  cases b with
  | false => rfl
  | true => exact absurd h (by decide)
theorem tf_bne {b : Bool} (h : ¬ tf_b b = 0) : b = true := by
  cases b with
  | true => rfl
  | false => exact absurd rfl h
theorem tf_leN {a b : Nat} (ha : a < 2 ^ 31) (hb : b < 2 ^ 31) : (nI a ≤ nI b) = (a ≤ b) := propext (nI_leI ha hb)
theorem tf_ltN {a b : Nat} (ha : a < 2 ^ 31) (hb : b < 2 ^ 31) : (nI a < nI b) = (a < b) := propext (nI_ltI ha hb)
theorem tf_eqN {a b : Nat} (ha : a < 2 ^ 31) (hb : b < 2 ^ 31) : (nI a = nI b) = (a = b) := propext (nI_eq ha hb)
theorem tf_ix (a b : Nat) : nI a * nI 6 + nI b = nI (6 * a + b) := by rw [pk_mul, nI_add, Nat.mul_comm]
theorem tf_ix2 (a b : Nat) : nI 6 * nI a + nI b = nI (6 * a + b) := by rw [pk_mul, nI_add]
theorem tf_i2b : ∀ v, v < 128 → (nI v).toInt8.toInt32 = nI v := by decide +kernel
theorem tf_nar {v : Nat} (h : v < 128) : vp_nar .byte (nI v) = nI v := by rw [vp_nar_byte, tf_i2b v h]
theorem tf_narm : vp_nar .byte (-1) = -1 := by decide +kernel
theorem tf_in : ∀ S, S < 64 → ∀ a, a < 6 → (nI S >>> (nI a &&& 31)) &&& nI 1 = nI (if S.testBit a = true then 1 else 0) := by decide +kernel
/-- is (a, b) a pair of places -/
def tf_pr (a b : Int32) : Bool := decide (¬ a < 0 ∧ ¬ nI 6 ≤ a ∧ ¬ b < 0 ∧ ¬ nI 6 ≤ b ∧ ¬ a = b)
theorem tf_pr_of {a b : Int32} (h : tf_pr a b = true) : ∃ i j : Nat, i < 6 ∧ j < 6 ∧ i ≠ j ∧ a = nI i ∧ b = nI j := by
  obtain ⟨h1, h2, h3, h4, h5⟩ := of_decide_eq_true h
  obtain ⟨i, i1, rfl⟩ := nI_of h1
  obtain ⟨j, j1, rfl⟩ := nI_of h3
  rw [tf_leN (by omega) (by omega)] at h2 h4
  exact ⟨i, j, by omega, by omega, fun e => h5 (by rw [e]), rfl, rfl⟩
/-- the class's state: its table is g, and what it knows is right -/
def tf_XS (g : Nat → Nat) (u : tf_U) : Prop := tf_Rr u.1 g ∧ (u.2.2.2.2.1 = 0 ∨ (u.2.2.2.2.1 = 1 ∧ u.2.2.2.2.2.1 = nI (tf_F1 g) ∧ u.2.2.2.2.2.2.1 = nI (tf_F2 g) ∧ u.2.2.2.2.2.2.2 = nI (tf_F3 g)))
def tf_XK (g : Nat → Nat) (u : tf_U) : Prop := tf_Rr u.1 g ∧ (u.2.2.2.2.1 = 1 ∧ u.2.2.2.2.2.1 = nI (tf_F1 g) ∧ u.2.2.2.2.2.2.1 = nI (tf_F2 g) ∧ u.2.2.2.2.2.2.2 = nI (tf_F3 g))
theorem tf_XK.XS {g : Nat → Nat} {u : tf_U} (h : tf_XK g u) : tf_XS g u := ⟨h.1, Or.inr h.2⟩
def tf_MS (g : Nat → Nat) (v : tf_V) : Prop := tf_Rr v.1 g
def tf_MK (g : Nat → Nat) (v : tf_V) : Prop := tf_Rr v.1 g ∧ ∀ k, k < 4 → v.2 k = nI (tf_lim g k)
theorem tf_P0 {D : va_G} {H : Heap} : va_P D vwCl [] H := fun k q h => by simp at h
theorem tf_D0 {A : Nat → Prop} : va_D A [] := ⟨fun i j p q h => by simp at h, fun k q h => by simp at h⟩
theorem tf_inc1 (i : Nat) : nI i + Int32.ofInt 1 = nI (i + 1) := nI_1 i
theorem tf_inc4 (i : Nat) : nI i + Int32.ofInt 4 = nI (i + 4) := nI_add i 4
end
section
/-! the answers, as functions of the table g -/
def tf_cap (g : Nat → Nat) (a b : Int32) : Int32 := if tf_pr a b = true then nI (g (6 * a.toNatClampNeg + b.toNatClampNeg)) else -1
def tf_set (a b x : Int32) : Bool := decide (tf_pr a b = true ∧ ¬ x < 0 ∧ x ≤ nI 20)
def tf_setG (g : Nat → Nat) (a b x : Int32) : Nat → Nat := if tf_set a b x = true then tf_up g a.toNatClampNeg b.toNatClampNeg x.toNatClampNeg else g
theorem tf_Rr_up {c : Nat → Int32} {g : Nat → Nat} (h : tf_Rr c g) (i j v : Nat) : tf_Rr (upd (upd c (6 * i + j) (nI v)) (6 * j + i) (nI v)) (tf_up g i j v) := by
  intro k hk
  unfold tf_up
  by_cases c1 : k = 6 * j + i
  · rw [if_pos (Or.inr c1), c1, pk_us]
  · rw [pk_un c1]
    by_cases c2 : k = 6 * i + j
    · rw [if_pos (Or.inl c2), c2, pk_us]
    · rw [pk_un c2, if_neg (by omega)]
      exact h k hk
theorem tf_setG_no {g : Nat → Nat} {a b x : Int32} (h : ¬ (tf_pr a b = true ∧ ¬ x < 0 ∧ x ≤ nI 20)) : tf_set a b x = false ∧ tf_setG g a b x = g := by
  have h1 : tf_set a b x = false := decide_eq_false h
  refine ⟨h1, ?_⟩
  unfold tf_setG
  rw [if_neg (by rw [h1]; decide)]
theorem tf_setG_yes {g : Nat → Nat} {i j v : Nat} (c1 : tf_pr (nI i) (nI j) = true) (c2 : ¬ nI v < 0) (c3 : nI v ≤ nI 20) (hi : i < 6) (hj : j < 6) (hv : v < 2 ^ 31) : tf_set (nI i) (nI j) (nI v) = true ∧ tf_setG g (nI i) (nI j) (nI v) = tf_up g i j v := by
  have h1 : tf_set (nI i) (nI j) (nI v) = true := decide_eq_true ⟨c1, c2, c3⟩
  refine ⟨h1, ?_⟩
  unfold tf_setG
  rw [if_pos h1, nI_clamp (by omega), nI_clamp (by omega), nI_clamp hv]
theorem tf_ok_setG {g : Nat → Nat} (hg : tf_ok 20 g) (a b x : Int32) : tf_ok 20 (tf_setG g a b x) := by
  by_cases h : tf_pr a b = true ∧ ¬ x < 0 ∧ x ≤ nI 20
  · obtain ⟨c1, c2, c3⟩ := h
    obtain ⟨i, j, hi, hj, hij, rfl, rfl⟩ := tf_pr_of c1
    obtain ⟨v, hv, rfl⟩ := nI_of c2
    rw [(tf_setG_yes c1 c2 c3 hi hj hv).2]
    rw [tf_leN (by omega) (by omega)] at c3
    exact tf_ok_up hg hi hj c3
  · rw [(tf_setG_no h).2]
    exact hg
theorem tf_set_no {g : Nat → Nat} {a b x : Int32} {u : tf_U} (h : ¬ (tf_pr a b = true ∧ ¬ x < 0 ∧ x ≤ nI 20)) (hc : tf_XS g u) : nI 0 = tf_b (tf_set a b x) ∧ tf_XS (tf_setG g a b x) u := by
  rw [(tf_setG_no (g := g) h).1, (tf_setG_no (g := g) h).2]
  exact ⟨rfl, hc⟩
theorem tf_set_yes {g : Nat → Nat} {i j v : Nat} {c r f l : Nat → Int32} {kn fi se bo : Int32} (c1 : tf_pr (nI i) (nI j) = true) (c2 : ¬ nI v < 0) (c3 : nI v ≤ nI 20) (hi : i < 6) (hj : j < 6) (hv : v < 2 ^ 31) (hc : tf_XS g (c, r, f, l, kn, fi, se, bo)) :
    nI 1 = tf_b (tf_set (nI i) (nI j) (nI v)) ∧ tf_XS (tf_setG g (nI i) (nI j) (nI v)) (upd (upd c (6 * i + j) (nI v)) (6 * j + i) (nI v), r, f, l, 0, fi, se, bo) := by
  obtain ⟨h1, h2⟩ := tf_setG_yes (g := g) c1 c2 c3 hi hj hv
  rw [h1, h2]
  exact ⟨rfl, tf_Rr_up hc.1 i j v, Or.inl rfl⟩
theorem tf_setM_no {g : Nat → Nat} {a b x : Int32} {u : tf_V} (h : ¬ (tf_pr a b = true ∧ ¬ x < 0 ∧ x ≤ nI 20)) (hc : tf_MS g u) : nI 0 = tf_b (tf_set a b x) ∧ tf_MS (tf_setG g a b x) u := by
  rw [(tf_setG_no (g := g) h).1, (tf_setG_no (g := g) h).2]
  exact ⟨rfl, hc⟩
theorem tf_setM_yes {g : Nat → Nat} {i j v : Nat} {c l : Nat → Int32} (c1 : tf_pr (nI i) (nI j) = true) (c2 : ¬ nI v < 0) (c3 : nI v ≤ nI 20) (hi : i < 6) (hj : j < 6) (hv : v < 2 ^ 31) (hc : tf_MS g (c, l)) :
    nI 1 = tf_b (tf_set (nI i) (nI j) (nI v)) ∧ tf_MS (tf_setG g (nI i) (nI j) (nI v)) (upd (upd c (6 * i + j) (nI v)) (6 * j + i) (nI v), l) := by
  obtain ⟨h1, h2⟩ := tf_setG_yes (g := g) c1 c2 c3 hi hj hv
  rw [h1, h2]
  exact ⟨rfl, tf_Rr_up hc i j v⟩
def tf_wiR (g : Nat → Nat) (x : Int32) : Int32 := if x < 0 ∨ ¬ x ≤ nI 63 then -1 else nI (tf_wid g x.toNatClampNeg)
def tf_car (g : Nat → Nat) (x y : Int32) : Bool := decide (0 ≤ x.toInt ∧ 0 ≤ y.toInt ∧ x.toInt ≤ (tf_lim g 1 : Int) ∧ y.toInt ≤ (tf_lim g 2 : Int) ∧ x.toInt + y.toInt ≤ (tf_lim g 3 : Int))
def tf_al (g : Nat → Nat) (x : Int32) : Int32 := if x = 0 then nI (tf_F1 g) else if x = nI 1 then nI (tf_F2 g) else -1
def tf_mo (g : Nat → Nat) : Nat := min (tf_F1 g + tf_F2 g) (tf_F3 g)
def tf_bs (g : Nat → Nat) (x : Int32) : Int32 := if ¬ x < 0 ∧ x ≤ nI (tf_F1 g) then nI (min (tf_F2 g) (tf_F3 g - x.toNatClampNeg)) else -1
def tf_ev (g : Nat → Nat) : Nat := min (tf_F2 g) (min (tf_F1 g) (tf_F3 g / 2))
def tf_ps (g : Nat → Nat) (n : Nat) : Nat := tf_sum (fun x => 1 + min (tf_F2 g) (tf_F3 g - x)) n
def tf_wo (g : Nat → Nat) (a b : Int32) : Int32 := if tf_pr a b = true then nI (tf_mo (tf_up g a.toNatClampNeg b.toNatClampNeg (g (6 * a.toNatClampNeg + b.toNatClampNeg) + 1))) - nI (tf_mo g) else -1
def tf_lo (g : Nat → Nat) (a b : Int32) : Int32 := if tf_pr a b = true then nI (tf_mo g) - nI (tf_mo (tf_up g a.toNatClampNeg b.toNatClampNeg 0)) else -1
def tf_fu (g : Nat → Nat) (x y : Int32) : Bool := tf_car g x y && !(tf_car g (x + 1) y) && !(tf_car g x (y + 1))
theorem tf_neg {x : Int32} (h : x < 0) : x.toInt < 0 := by
  have h1 := Int32.lt_iff_toInt_lt.mp h
  rwa [Int32.toInt_zero] at h1
theorem tf_car_n1 {g : Nat → Nat} {x y : Int32} (h : x < 0) : tf_car g x y = false := decide_eq_false (fun q => by have := tf_neg h; omega)
theorem tf_car_n2 {g : Nat → Nat} {x y : Int32} (h : y < 0) : tf_car g x y = false := decide_eq_false (fun q => by have := tf_neg h; omega)
theorem tf_car_nn (g : Nat → Nat) {a b : Nat} (ha : a < 2 ^ 31) (hb : b < 2 ^ 31) : tf_car g (nI a) (nI b) = decide (a ≤ tf_lim g 1 ∧ b ≤ tf_lim g 2 ∧ a + b ≤ tf_lim g 3) := by
  unfold tf_car
  rw [nI_toInt ha, nI_toInt hb]
  exact decide_eq_decide.mpr ⟨fun h => by omega, fun h => by omega⟩
theorem tf_row_no {g : Nat → Nat} {T i j v0 : Nat} (h : ¬ (T.testBit i = true ∧ T.testBit j = false)) : v0 + tf_row g T i j + 0 = v0 + tf_row g T i (j + 1) := by
  show v0 + tf_row g T i j + 0 = v0 + (tf_row g T i j + tf_t g T i j)
  unfold tf_t
  rw [if_neg h]
  rfl
theorem tf_row_yes {g : Nat → Nat} {T i j v0 : Nat} (h : T.testBit i = true ∧ T.testBit j = false) : v0 + tf_row g T i j + g (6 * i + j) = v0 + tf_row g T i (j + 1) := by
  show v0 + tf_row g T i j + g (6 * i + j) = v0 + (tf_row g T i j + tf_t g T i j)
  unfold tf_t
  rw [if_pos h, Nat.add_assoc]
theorem tf_le0 {x : Nat} (h : x < 2 ^ 31) : (nI x ≤ 0) = (x = 0) := by
  rw [show (0 : Int32) = nI 0 from rfl, tf_leN h (by decide)]
  exact propext ⟨fun q => by omega, fun q => by omega⟩
theorem tf_orb : ∀ F, F < 64 → ∀ b, b < 6 → nI F ||| (nI 1 <<< (nI b &&& 31)) = nI (F ||| (1 <<< b)) := by decide +kernel
theorem tf_mc_bd {g : Nat → Nat} (hg : tf_ok 21 g) {src goal v : Nat} (h : tf_mc g src goal v) : v ≤ 756 := by
  obtain ⟨⟨S, -, -, h3⟩, -⟩ := h
  have := tf_wid_bd hg.2 S
  omega
theorem tf_bs_nn {g : Nat → Nat} (hg : tf_ok 21 g) {x : Nat} (hx : x ≤ tf_F1 g) : tf_bs g (nI x) = nI (min (tf_F2 g) (tf_F3 g - x)) := by
  have hF := tf_F_bd hg
  unfold tf_bs
  rw [if_pos ⟨nI_pos (by omega), nI_le hx (by omega)⟩, nI_clamp (by omega)]
theorem tf_ps_s (g : Nat → Nat) (x : Nat) : tf_ps g (x + 1) = tf_ps g x + (1 + min (tf_F2 g) (tf_F3 g - x)) := rfl
theorem tf_negsub (x y : Int32) : -(x - y) = y - x := by grind
theorem tf_car_of {g : Nat → Nat} {x y : Int32} (h : tf_car g x y = true) : ∃ a b : Nat, a < 2 ^ 31 ∧ b < 2 ^ 31 ∧ x = nI a ∧ y = nI b := by
  have h1 : ¬ x < 0 := fun q => by rw [tf_car_n1 q] at h; cases h
  have h2 : ¬ y < 0 := fun q => by rw [tf_car_n2 q] at h; cases h
  obtain ⟨a, ha, rfl⟩ := nI_of h1
  obtain ⟨b, hb, rfl⟩ := nI_of h2
  exact ⟨a, b, ha, hb, rfl, rfl⟩
end
section
set_option maxHeartbeats 4000000 in
set_option maxRecDepth 100000 in
/-- isPair -/
theorem mX0_isPair (l : Launch) (D : va_G) (sz : Nat) (a b : Int32) : tf_Mr l D ([]) ([]) sz yX0_isPair cX0_isPair 2 (some .boolean) ({ frames := 0, cells := 0, slots := 0, locals := 0 }) [.int a, .int b] (tf_b (tf_pr a b)) := by
  refine tf_go_r (by decide) (Nat.le_of_ble_eq_true rfl) ?_
  intro p e s m below meth c S hr hlocks hP hK hD ls hl
  have S : CallFix p m c cX0_isPair 2 s _ lw_all RX0 := S
  obtain ⟨hx, hb, hml, hown, hts⟩ := id S
  have hl : lv_has ls 2 [(0, .int a), (1, .int b)] := hl
  refine lv_iload_n hx hb dX0_isPair_0 rfl (lv_at hl 0 rfl) ?_
  refine lv_if_lt (tgt := 29) hx hb dX0_isPair_1 (by decide) (fun c1 => ?_) (fun c1 => ?_)
  · refine lv_iconst (v := nI 0) hx hb dX0_isPair_29 (by decide) ?_
    exact tf_rret hx hb hr rfl hlocks (tf_b0 (decide_eq_false (fun h => h.1 c1))) dX0_isPair_30
  · refine lv_iload_n hx hb dX0_isPair_4 rfl (lv_at hl 0 rfl) ?_
    refine lv_bipush (v := nI 6) hx hb dX0_isPair_5 (by decide) ?_
    refine lv_icmp_ge (tgt := 29) hx hb dX0_isPair_7 (by decide) (fun c2 => ?_) (fun c2 => ?_)
    · refine lv_iconst (v := nI 0) hx hb dX0_isPair_29 (by decide) ?_
      exact tf_rret hx hb hr rfl hlocks (tf_b0 (decide_eq_false (fun h => h.2.1 c2))) dX0_isPair_30
    · refine lv_iload_n hx hb dX0_isPair_10 rfl (lv_at hl 1 rfl) ?_
      refine lv_if_lt (tgt := 29) hx hb dX0_isPair_11 (by decide) (fun c3 => ?_) (fun c3 => ?_)
      · refine lv_iconst (v := nI 0) hx hb dX0_isPair_29 (by decide) ?_
        exact tf_rret hx hb hr rfl hlocks (tf_b0 (decide_eq_false (fun h => h.2.2.1 c3))) dX0_isPair_30
      · refine lv_iload_n hx hb dX0_isPair_14 rfl (lv_at hl 1 rfl) ?_
        refine lv_bipush (v := nI 6) hx hb dX0_isPair_15 (by decide) ?_
        refine lv_icmp_ge (tgt := 29) hx hb dX0_isPair_17 (by decide) (fun c4 => ?_) (fun c4 => ?_)
        · refine lv_iconst (v := nI 0) hx hb dX0_isPair_29 (by decide) ?_
          exact tf_rret hx hb hr rfl hlocks (tf_b0 (decide_eq_false (fun h => h.2.2.2.1 c4))) dX0_isPair_30
        · refine lv_iload_n hx hb dX0_isPair_20 rfl (lv_at hl 0 rfl) ?_
          refine lv_iload_n hx hb dX0_isPair_21 rfl (lv_at hl 1 rfl) ?_
          refine lv_icmp_eq (tgt := 29) hx hb dX0_isPair_22 (by decide) (fun c5 => ?_) (fun c5 => ?_)
          · refine lv_iconst (v := nI 0) hx hb dX0_isPair_29 (by decide) ?_
            exact tf_rret hx hb hr rfl hlocks (tf_b0 (decide_eq_false (fun h => h.2.2.2.2 c5))) dX0_isPair_30
          · refine lv_iconst (v := nI 1) hx hb dX0_isPair_25 (by decide) ?_
            refine lv_goto (tgt := 30) hx hb dX0_isPair_26 (by decide) ?_
            exact tf_rret hx hb hr rfl hlocks (tf_b1 (decide_eq_true ⟨c1, c2, c3, c4, c5⟩)) dX0_isPair_30
set_option maxHeartbeats 4000000 in
set_option maxRecDepth 100000 in
/-- in -/
theorem mX0_in (l : Launch) (D : va_G) (sz : Nat) (S0 a : Nat) (hS0 : S0 < 64) (ha : a < 6) : tf_Mr l D ([]) ([]) sz yX0_in cX0_in 2 (some .boolean) ({ frames := 0, cells := 0, slots := 0, locals := 0 }) [.int (nI S0), .int (nI a)] (tf_b (S0.testBit a)) := by
  refine tf_go_r (by decide) (Nat.le_of_ble_eq_true rfl) ?_
  intro p e s m below meth c S hr hlocks hP hK hD ls hl
  have S : CallFix p m c cX0_in 2 s _ lw_all RX0 := S
  obtain ⟨hx, hb, hml, hown, hts⟩ := id S
  have hl : lv_has ls 2 [(0, .int (nI S0)), (1, .int (nI a))] := hl
  refine lv_iload_n hx hb dX0_in_0 rfl (lv_at hl 0 rfl) ?_
  refine lv_iload_n hx hb dX0_in_1 rfl (lv_at hl 1 rfl) ?_
  refine lv_ishr hx hb dX0_in_2 ?_
  refine lv_iconst (v := nI 1) hx hb dX0_in_3 (by decide) ?_
  refine lv_iand hx hb dX0_in_4 ?_
  refine tf_top (nI (if S0.testBit a = true then 1 else 0)) (tf_in S0 hS0 a ha) ?_
  refine lv_if_eq (tgt := 12) hx hb dX0_in_5 (by decide) (fun c1 => ?_) (fun c1 => ?_)
  · refine lv_iconst (v := nI 0) hx hb dX0_in_12 (by decide) ?_
    exact tf_rret hx hb hr rfl hlocks (tf_b0 (by cases h : S0.testBit a with | false => rfl | true => rw [h] at c1; exact absurd c1 (by decide))) dX0_in_13
  · refine lv_iconst (v := nI 1) hx hb dX0_in_8 (by decide) ?_
    refine lv_goto (tgt := 13) hx hb dX0_in_9 (by decide) ?_
    exact tf_rret hx hb hr rfl hlocks (tf_b1 (by cases h : S0.testBit a with | true => rfl | false => rw [h] at c1; exact absurd rfl c1)) dX0_in_13
set_option maxHeartbeats 4000000 in
set_option maxRecDepth 100000 in
/-- put -/
theorem mX0_put (l : Launch) (D : va_G) (sz : Nat) (ad : Nat → Nat) (ds : Nat → ClassId) (c0 r0 f0 l0 : Nat → Int32) (kn fi se bo : Int32) (i j v : Nat) (hi : i < 6) (hj : j < 6) (hv : v < 128) : tf_Mv l D (wX ad ds) (tyX ds) sz (c0, r0, f0, l0, kn, fi, se, bo) yX0_put cX0_put 4 ({ frames := 0, cells := 0, slots := 0, locals := 0 }) [.ref (ad 0), .int (nI i), .int (nI j), .int (nI v)] (fun u => u = (upd (upd c0 (6 * i + j) (nI v)) (6 * j + i) (nI v), r0, f0, l0, 0, fi, se, bo)) := by
  refine tf_go_v (by decide) (Nat.le_of_ble_eq_true rfl) ?_
  intro p e s m below meth c S hr hlocks A hA hP hK hD hS ls hl
  have S : CallFix p m c cX0_put 4 s _ lw_all RX0 := S
  obtain ⟨hx, hb, hml, hown, hts⟩ := id S
  have hl : lv_has ls 4 [(0, .ref (ad 0)), (1, .int (nI i)), (2, .int (nI j)), (3, .int (nI v))] := hl
  refine lv_aload_n hx hb dX0_put_0 rfl (lv_at hl 0 rfl) ?_
  refine va_get (D := D) (ci := 0) (v := .ref (ad 1)) (C := RX0) (T := TX0) (N := 8) hx hb hts in_X0 hown hK hP 0 rfl rfl 0 (by decide) (hts _ q22) (fun _ h9 => h9) rfl dX0_put_1 ?_
  refine lv_iload_n hx hb dX0_put_4 rfl (lv_at hl 1 rfl) ?_
  refine lv_bipush (v := nI 6) hx hb dX0_put_5 (by decide) ?_
  refine lv_imul hx hb dX0_put_7 ?_
  refine lv_iload_n hx hb dX0_put_8 rfl (lv_at hl 2 rfl) ?_
  refine lv_iadd hx hb dX0_put_9 ?_
  refine tf_top (nI (6 * i + j)) (tf_ix _ _) ?_
  refine lv_iload_n hx hb dX0_put_10 rfl (lv_at hl 3 rfl) ?_
  refine lv_i2b (v := nI v) hx hb dX0_put_11 (tf_i2b _ (by omega)) ?_
  refine tf_bast (y := nI v) hx hb hK hP hD hS 1 0 rfl rfl (k := 6 * i + j) (by omega) (by decide) (tf_nar (by omega)) dX0_put_12 (fun H locs hP hD hS => ?_)
  have hP : va_P D vwCl (wX ad ds (upd c0 (6 * i + j) (nI v), r0, f0, l0, kn, fi, se, bo)) H := hP
  have hD : va_D A (wX ad ds (upd c0 (6 * i + j) (nI v), r0, f0, l0, kn, fi, se, bo)) := hD
  refine lv_aload_n hx hb dX0_put_13 rfl (lv_at hl 0 rfl) ?_
  refine va_get (D := D) (ci := 0) (v := .ref (ad 1)) (C := RX0) (T := TX0) (N := 8) hx hb hts in_X0 hown hK hP 0 rfl rfl 0 (by decide) (hts _ q22) (fun _ h9 => h9) rfl dX0_put_14 ?_
  refine lv_iload_n hx hb dX0_put_17 rfl (lv_at hl 2 rfl) ?_
  refine lv_bipush (v := nI 6) hx hb dX0_put_18 (by decide) ?_
  refine lv_imul hx hb dX0_put_20 ?_
  refine lv_iload_n hx hb dX0_put_21 rfl (lv_at hl 1 rfl) ?_
  refine lv_iadd hx hb dX0_put_22 ?_
  refine tf_top (nI (6 * j + i)) (tf_ix _ _) ?_
  refine lv_iload_n hx hb dX0_put_23 rfl (lv_at hl 3 rfl) ?_
  refine lv_i2b (v := nI v) hx hb dX0_put_24 (tf_i2b _ (by omega)) ?_
  refine tf_bast (y := nI v) hx hb hK hP hD hS 1 0 rfl rfl (k := 6 * j + i) (by omega) (by decide) (tf_nar (by omega)) dX0_put_25 (fun H locs hP hD hS => ?_)
  have hP : va_P D vwCl (wX ad ds (upd (upd c0 (6 * i + j) (nI v)) (6 * j + i) (nI v), r0, f0, l0, kn, fi, se, bo)) H := hP
  have hD : va_D A (wX ad ds (upd (upd c0 (6 * i + j) (nI v)) (6 * j + i) (nI v), r0, f0, l0, kn, fi, se, bo)) := hD
  refine lv_aload_n hx hb dX0_put_26 rfl (lv_at hl 0 rfl) ?_
  refine lv_iconst (v := 0) hx hb dX0_put_27 (by decide) ?_
  refine va_put (D := D) (ci := 0) (v := .int 0) (ty := .boolean) (C := RX0) (T := TX0) (N := 8) hx hb hts in_X0 tyX0 tyX0_ok nmX0 hown hK hP hD hS 0 rfl rfl 4 (by decide) (hts _ q26) (fun _ h9 => h9) rfl (by decide +kernel) rfl rfl (Nat.le_of_ble_eq_true rfl) dX0_put_28 (fun H locs hP hD hS => ?_)
  have hP : va_P D vwCl (wX ad ds (upd (upd c0 (6 * i + j) (nI v)) (6 * j + i) (nI v), r0, f0, l0, 0, fi, se, bo)) H := hP
  have hD : va_D A (wX ad ds (upd (upd c0 (6 * i + j) (nI v)) (6 * j + i) (nI v), r0, f0, l0, 0, fi, se, bo)) := hD
  exact tf_vret (wf := wX ad ds) (upd (upd c0 (6 * i + j) (nI v)) (6 * j + i) (nI v), r0, f0, l0, 0, fi, se, bo) hx hb hr hlocks hP hK hD hS (rfl) dX0_put_31
set_option maxHeartbeats 4000000 in
set_option maxRecDepth 100000 in
/-- capacity -/
theorem mX0_capacity (l : Launch) (D : va_G) (sz : Nat) (ad : Nat → Nat) (ds : Nat → ClassId) (c0 r0 f0 l0 : Nat → Int32) (kn fi se bo : Int32) (g : Nat → Nat) (hc : tf_Rr c0 g) (a b : Int32) : tf_Mr l D (wX ad ds (c0, r0, f0, l0, kn, fi, se, bo)) (tyX ds) sz yX0_capacity cX0_capacity 3 (some .int) ({ frames := 1, cells := 0, slots := 0, locals := 21 }) [.ref (ad 0), .int a, .int b] (tf_cap g a b) := by
  refine tf_go_r (by decide) (Nat.le_of_ble_eq_true rfl) ?_
  intro p e s m below meth c S hr hlocks hP hK hD ls hl
  have S : CallFix p m c cX0_capacity 3 s _ lw_all RX0 := S
  obtain ⟨hx, hb, hml, hown, hts⟩ := id S
  have hl : lv_has ls 3 [(0, .ref (ad 0)), (1, .int a), (2, .int b)] := hl
  refine lv_iload_n hx hb dX0_capacity_0 rfl (lv_at hl 1 rfl) ?_
  refine lv_iload_n hx hb dX0_capacity_1 rfl (lv_at hl 2 rfl) ?_
  refine tf_callRS (As := [.int a, .int b]) (rest := []) S tf_P0 (hK.sub (tys' := []) [] rfl) tf_D0 (mX0_isPair l D _ a b) (va_cwS 2 hts (lw_S q53 q54 q12 q55) rfl rfl rfl (by decide +kernel) ⟨Nat.le_of_ble_eq_true rfl, Nat.le_of_ble_eq_true rfl⟩) rfl hl.1 rfl (Nat.le_of_ble_eq_true rfl) dX0_capacity_2 ⟨Nat.le_of_ble_eq_true rfl, Nat.le_of_ble_eq_true rfl⟩ ?_
  refine lv_if_eq (tgt := 22) hx hb dX0_capacity_5 (by decide) (fun c1 => ?_) (fun c1 => ?_)
  · have c1 := tf_be c1
    refine lv_iconst (v := (-1)) hx hb dX0_capacity_22 (by decide) ?_
    exact tf_rret hx hb hr rfl hlocks (by unfold tf_cap; rw [c1]; rfl) dX0_capacity_23
  · have c1 := tf_bne c1
    obtain ⟨i, j, hi, hj, hij, rfl, rfl⟩ := tf_pr_of c1
    refine lv_aload_n hx hb dX0_capacity_8 rfl (lv_at hl 0 rfl) ?_
    refine va_get (D := D) (ci := 0) (v := .ref (ad 1)) (C := RX0) (T := TX0) (N := 8) hx hb hts in_X0 hown hK hP 0 rfl rfl 0 (by decide) (hts _ q22) (fun _ h9 => h9) rfl dX0_capacity_9 ?_
    refine lv_iload_n hx hb dX0_capacity_12 rfl (lv_at hl 1 rfl) ?_
    refine lv_bipush (v := nI 6) hx hb dX0_capacity_13 (by decide) ?_
    refine lv_imul hx hb dX0_capacity_15 ?_
    refine lv_iload_n hx hb dX0_capacity_16 rfl (lv_at hl 2 rfl) ?_
    refine lv_iadd hx hb dX0_capacity_17 ?_
    refine tf_top (nI (6 * i + j)) (tf_ix _ _) ?_
    refine tf_bald (v := nI (g (6 * i + j))) hx hb hK hP 1 0 rfl rfl (k := 6 * i + j) (by omega) (by decide) (hc _ (by omega)) dX0_capacity_18 ?_
    refine lv_goto (tgt := 23) hx hb dX0_capacity_19 (by decide) ?_
    exact tf_rret hx hb hr rfl hlocks (by unfold tf_cap; rw [c1, if_pos rfl, nI_clamp (by omega), nI_clamp (by omega)]) dX0_capacity_23
set_option maxHeartbeats 4000000 in
set_option maxRecDepth 100000 in
/-- set -/
theorem mX0_set (l : Launch) (D : va_G) (sz : Nat) (ad : Nat → Nat) (ds : Nat → ClassId) (c0 r0 f0 l0 : Nat → Int32) (kn fi se bo : Int32) (g : Nat → Nat) (hc : tf_XS g (c0, r0, f0, l0, kn, fi, se, bo)) (a b x : Int32) : tf_Mi l D (wX ad ds) (tyX ds) sz (c0, r0, f0, l0, kn, fi, se, bo) yX0_set cX0_set 4 (some .boolean) ({ frames := 1, cells := 0, slots := 0, locals := 23 }) [.ref (ad 0), .int a, .int b, .int x] (fun z u => z = tf_b (tf_set a b x) ∧ tf_XS (tf_setG g a b x) u) := by
  refine tf_go_i (by decide) (Nat.le_of_ble_eq_true rfl) ?_
  intro p e s m below meth c S hr hlocks A hA hP hK hD hS ls hl
  have S : CallFix p m c cX0_set 4 s _ lw_all RX0 := S
  obtain ⟨hx, hb, hml, hown, hts⟩ := id S
  have hl : lv_has ls 4 [(0, .ref (ad 0)), (1, .int a), (2, .int b), (3, .int x)] := hl
  refine lv_iload_n hx hb dX0_set_0 rfl (lv_at hl 1 rfl) ?_
  refine lv_iload_n hx hb dX0_set_1 rfl (lv_at hl 2 rfl) ?_
  refine tf_callRS (As := [.int a, .int b]) (rest := []) S tf_P0 (hK.sub (tys' := []) [] rfl) tf_D0 (mX0_isPair l D _ a b) (va_cwS 2 hts (lw_S q53 q54 q12 q55) rfl rfl rfl (by decide +kernel) ⟨Nat.le_of_ble_eq_true rfl, Nat.le_of_ble_eq_true rfl⟩) rfl hl.1 rfl (Nat.le_of_ble_eq_true rfl) dX0_set_2 ⟨Nat.le_of_ble_eq_true rfl, Nat.le_of_ble_eq_true rfl⟩ ?_
  refine lv_if_eq (tgt := 18) hx hb dX0_set_5 (by decide) (fun c1 => ?_) (fun c1 => ?_)
  · have c1 := tf_be c1
    refine lv_iconst (v := nI 0) hx hb dX0_set_18 (by decide) ?_
    exact tf_iret (wf := wX ad ds) (c0, r0, f0, l0, kn, fi, se, bo) hx hb hr rfl hlocks hP hK hD hS (tf_set_no (fun h => by rw [h.1] at c1; cases c1) hc) dX0_set_19
  · have c1 := tf_bne c1
    refine lv_iload_n hx hb dX0_set_8 rfl (lv_at hl 3 rfl) ?_
    refine lv_if_lt (tgt := 18) hx hb dX0_set_9 (by decide) (fun c2 => ?_) (fun c2 => ?_)
    · refine lv_iconst (v := nI 0) hx hb dX0_set_18 (by decide) ?_
      exact tf_iret (wf := wX ad ds) (c0, r0, f0, l0, kn, fi, se, bo) hx hb hr rfl hlocks hP hK hD hS (tf_set_no (fun h => h.2.1 c2) hc) dX0_set_19
    · refine lv_iload_n hx hb dX0_set_12 rfl (lv_at hl 3 rfl) ?_
      refine lv_bipush (v := nI 20) hx hb dX0_set_13 (by decide) ?_
      refine lv_icmp_le (tgt := 20) hx hb dX0_set_15 (by decide) (fun c3 => ?_) (fun c3 => ?_)
      · obtain ⟨i, j, hi, hj, hij, rfl, rfl⟩ := tf_pr_of c1
        obtain ⟨v, hv, rfl⟩ := nI_of c2
        have c4 := c3
        rw [tf_leN (by omega) (by omega)] at c4
        refine lv_aload_n hx hb dX0_set_20 rfl (lv_at hl 0 rfl) ?_
        refine lv_iload_n hx hb dX0_set_21 rfl (lv_at hl 1 rfl) ?_
        refine lv_iload_n hx hb dX0_set_22 rfl (lv_at hl 2 rfl) ?_
        refine lv_iload_n hx hb dX0_set_23 rfl (lv_at hl 3 rfl) ?_
        refine tf_callv (wf := wX ad ds) (u := (c0, r0, f0, l0, kn, fi, se, bo)) (wr := []) (As := [.int (nI i), .int (nI j), .int (nI v)]) (rest := []) (ci := 0) (q0 := 0) S hP hK hD hS hA [0, 1, 2, 3, 4] [] [0, 1, 2, 3] rfl (by decide) rfl (by decide) (by decide) rfl (mX0_put l D _ ad ds c0 r0 f0 l0 kn fi se bo i j v hi hj (by omega)) rfl rfl (cwV 3 hts (lw_V q56 q58 qs0 q12 q59) rfl rfl rfl (by decide +kernel) ⟨Nat.le_of_ble_eq_true rfl, Nat.le_of_ble_eq_true rfl⟩) rfl hl.1 rfl (Nat.le_of_ble_eq_true rfl) dX0_set_24 ⟨Nat.le_of_ble_eq_true rfl, Nat.le_of_ble_eq_true rfl⟩ (fun u' H locs hw hP hD hS => ?_)
        obtain ⟨c_1, r_2, f_3, l_4, kn_5, fi_6, se_7, bo_8⟩ := u'
        have hP : va_P D vwCl (wX ad ds (c_1, r_2, f_3, l_4, kn_5, fi_6, se_7, bo_8)) H := hP
        have hD : va_D A (wX ad ds (c_1, r_2, f_3, l_4, kn_5, fi_6, se_7, bo_8)) := hD
        cases hw
        refine lv_iconst (v := nI 1) hx hb dX0_set_27 (by decide) ?_
        exact tf_iret (wf := wX ad ds) (upd (upd c0 (6 * i + j) (nI v)) (6 * j + i) (nI v), r0, f0, l0, 0, fi, se, bo) hx hb hr rfl hlocks hP hK hD hS (tf_set_yes c1 c2 c3 hi hj (by omega) hc) dX0_set_28
      · refine lv_iconst (v := nI 0) hx hb dX0_set_18 (by decide) ?_
        exact tf_iret (wf := wX ad ds) (c0, r0, f0, l0, kn, fi, se, bo) hx hb hr rfl hlocks hP hK hD hS (tf_set_no (fun h => c3 h.2.2) hc) dX0_set_19
end
section
set_option maxHeartbeats 4000000 in
set_option maxRecDepth 100000 in
/-- width: the inner loop -/
theorem lX0_width_b (l : Launch) {p : Program} {e : Env} {s : State} {m : MethodId} {args : Array Value} {below : List Frame} {meth : Method} {c : Code} {Q : State → Prop} {D : va_G} {H : Heap} {locs : List Loc} (ad : Nat → Nat) (ds : Nat → ClassId) (c0 r0 f0 l0 : Nat → Int32) (kn fi se bo : Int32) (S : CallFix p m c cX0_width 5 s args lw_all RX0) (hP : va_P D vwCl (wX ad ds (c0, r0, f0, l0, kn, fi, se, bo)) H) (hK : va_K D vwCl (tyX ds) s) (g : Nat → Nat) (hc : tf_Rr c0 g) (T : Nat) (hT : T < 64) (i : Nat) (hi : i < 6) (v0 : Nat) (after : ∀ (v : Nat) (ls : Array Slot), v = v0 + tf_row g T i 6 → lv_has ls 5 [(0, .ref (ad 0)), (1, .int (nI T)), (2, .int (nI v)), (3, .int (nI i))] → W p l e ({ frames := 1, cells := 0, slots := 0, locals := 21 }) s m args below meth c H locs 0 0 Q (F0 m 74 ls [])) : ∀ (n j v : Nat), j ≤ 6 → 7 ≤ j + n → v = v0 + tf_row g T i j → ∀ (ls : Array Slot), lv_has ls 5 [(0, .ref (ad 0)), (1, .int (nI T)), (2, .int (nI v)), (3, .int (nI i)), (4, .int (nI j))] → W p l e ({ frames := 1, cells := 0, slots := 0, locals := 21 }) s m args below meth c H locs 0 0 Q (F0 m 25 ls []) := by
  obtain ⟨hx, hb, hml, hown, hts⟩ := id S
  intro n
  induction n with
  | zero => intro j v h1 h2; exact absurd h2 (by omega)
  | succ n ih =>
    intro j v hj hn hv ls hl
    refine lv_iload hx hb dX0_width_25 (lv_at hl 4 rfl) ?_
    refine lv_bipush (v := nI 6) hx hb dX0_width_27 (by decide) ?_
    refine lv_icmp_ge (tgt := 74) hx hb dX0_width_29 (by decide) (fun c1 => ?_) (fun c1 => ?_)
    · rw [tf_leN (by omega) (by omega)] at c1
      obtain rfl : j = 6 := by omega
      exact after v ls hv (lv_sub hl [0, 1, 2, 3] rfl)
    · rw [tf_leN (by omega) (by omega)] at c1
      refine lv_iload_n hx hb dX0_width_32 rfl (lv_at hl 2 rfl) ?_
      refine lv_iload_n hx hb dX0_width_33 rfl (lv_at hl 1 rfl) ?_
      refine lv_iload_n hx hb dX0_width_34 rfl (lv_at hl 3 rfl) ?_
      refine tf_callRS (As := [.int (nI T), .int (nI i)]) (rest := [.int (nI v)]) S tf_P0 (hK.sub (tys' := []) [] rfl) tf_D0 (mX0_in l D _ T i hT hi) (va_cwS 2 hts (lw_S q68 q69 q12 q70) rfl rfl rfl (by decide +kernel) ⟨Nat.le_of_ble_eq_true rfl, Nat.le_of_ble_eq_true rfl⟩) rfl hl.1 rfl (Nat.le_of_ble_eq_true rfl) dX0_width_35 ⟨Nat.le_of_ble_eq_true rfl, Nat.le_of_ble_eq_true rfl⟩ ?_
      refine lv_if_eq (tgt := 65) hx hb dX0_width_38 (by decide) (fun c2 => ?_) (fun c2 => ?_)
      · have c2 := tf_be c2
        refine lv_iconst (v := nI 0) hx hb dX0_width_65 (by decide) ?_
        refine lv_iadd hx hb dX0_width_66 ?_
        refine tf_top (nI (v + 0)) (nI_add _ _) ?_
        refine lv_istore_n (lv' := [(2, .int (nI (v + 0))), (0, .ref (ad 0)), (1, .int (nI T)), (3, .int (nI i)), (4, .int (nI j))]) hx hb dX0_width_67 rfl hl (by decide) rfl (fun ls hl => ?_)
        refine lv_iinc (v := nI (j + 1)) (lv' := [(4, .int (nI (j + 1))), (2, .int (nI (v + 0))), (0, .ref (ad 0)), (1, .int (nI T)), (3, .int (nI i))]) hx hb dX0_width_68 hl (k := 4) rfl (tf_inc1 _) (by decide) rfl (fun ls hl => ?_)
        refine lv_goto (tgt := 25) hx hb dX0_width_71 (by decide) ?_
        exact ih (j + 1) (v + 0) (by omega) (by omega) (by rw [hv]; exact tf_row_no (fun h => by rw [c2] at h; exact absurd h.1 (by decide))) ls (lv_sub hl [2, 3, 1, 4, 0] rfl)
      · have c2 := tf_bne c2
        refine lv_iload_n hx hb dX0_width_41 rfl (lv_at hl 1 rfl) ?_
        refine lv_iload hx hb dX0_width_42 (lv_at hl 4 rfl) ?_
        refine tf_callRS (As := [.int (nI T), .int (nI j)]) (rest := [.int (nI v)]) S tf_P0 (hK.sub (tys' := []) [] rfl) tf_D0 (mX0_in l D _ T j hT (by omega)) (va_cwS 2 hts (lw_S q68 q69 q12 q70) rfl rfl rfl (by decide +kernel) ⟨Nat.le_of_ble_eq_true rfl, Nat.le_of_ble_eq_true rfl⟩) rfl hl.1 rfl (Nat.le_of_ble_eq_true rfl) dX0_width_44 ⟨Nat.le_of_ble_eq_true rfl, Nat.le_of_ble_eq_true rfl⟩ ?_
        refine lv_if_ne (tgt := 65) hx hb dX0_width_47 (by decide) (fun c3 => ?_) (fun c3 => ?_)
        · have c3 := tf_bne c3
          refine lv_iconst (v := nI 0) hx hb dX0_width_65 (by decide) ?_
          refine lv_iadd hx hb dX0_width_66 ?_
          refine tf_top (nI (v + 0)) (nI_add _ _) ?_
          refine lv_istore_n (lv' := [(2, .int (nI (v + 0))), (0, .ref (ad 0)), (1, .int (nI T)), (3, .int (nI i)), (4, .int (nI j))]) hx hb dX0_width_67 rfl hl (by decide) rfl (fun ls hl => ?_)
          refine lv_iinc (v := nI (j + 1)) (lv' := [(4, .int (nI (j + 1))), (2, .int (nI (v + 0))), (0, .ref (ad 0)), (1, .int (nI T)), (3, .int (nI i))]) hx hb dX0_width_68 hl (k := 4) rfl (tf_inc1 _) (by decide) rfl (fun ls hl => ?_)
          refine lv_goto (tgt := 25) hx hb dX0_width_71 (by decide) ?_
          exact ih (j + 1) (v + 0) (by omega) (by omega) (by rw [hv]; exact tf_row_no (fun h => by rw [c3] at h; exact absurd h.2 (by decide))) ls (lv_sub hl [2, 3, 1, 4, 0] rfl)
        · have c3 := tf_be c3
          refine lv_aload_n hx hb dX0_width_50 rfl (lv_at hl 0 rfl) ?_
          refine va_get (D := D) (ci := 0) (v := .ref (ad 1)) (C := RX0) (T := TX0) (N := 8) hx hb hts in_X0 hown hK hP 0 rfl rfl 0 (by decide) (hts _ q22) (fun _ h9 => h9) rfl dX0_width_51 ?_
          refine lv_iload_n hx hb dX0_width_54 rfl (lv_at hl 3 rfl) ?_
          refine lv_bipush (v := nI 6) hx hb dX0_width_55 (by decide) ?_
          refine lv_imul hx hb dX0_width_57 ?_
          refine lv_iload hx hb dX0_width_58 (lv_at hl 4 rfl) ?_
          refine lv_iadd hx hb dX0_width_60 ?_
          refine tf_top (nI (6 * i + j)) (tf_ix _ _) ?_
          refine tf_bald (v := nI (g (6 * i + j))) hx hb hK hP 1 0 rfl rfl (k := 6 * i + j) (by omega) (by decide) (hc _ (by omega)) dX0_width_61 ?_
          refine lv_goto (tgt := 66) hx hb dX0_width_62 (by decide) ?_
          refine lv_iadd hx hb dX0_width_66 ?_
          refine tf_top (nI (v + (g (6 * i + j)))) (nI_add _ _) ?_
          refine lv_istore_n (lv' := [(2, .int (nI (v + (g (6 * i + j))))), (0, .ref (ad 0)), (1, .int (nI T)), (3, .int (nI i)), (4, .int (nI j))]) hx hb dX0_width_67 rfl hl (by decide) rfl (fun ls hl => ?_)
          refine lv_iinc (v := nI (j + 1)) (lv' := [(4, .int (nI (j + 1))), (2, .int (nI (v + (g (6 * i + j))))), (0, .ref (ad 0)), (1, .int (nI T)), (3, .int (nI i))]) hx hb dX0_width_68 hl (k := 4) rfl (tf_inc1 _) (by decide) rfl (fun ls hl => ?_)
          refine lv_goto (tgt := 25) hx hb dX0_width_71 (by decide) ?_
          exact ih (j + 1) (v + g (6 * i + j)) (by omega) (by omega) (by rw [hv]; exact tf_row_yes ⟨c2, c3⟩) ls (lv_sub hl [2, 3, 1, 4, 0] rfl)
set_option maxHeartbeats 4000000 in
set_option maxRecDepth 100000 in
/-- width: the outer loop -/
theorem lX0_width_a (l : Launch) {p : Program} {e : Env} {s : State} {m : MethodId} {args : Array Value} {below : List Frame} {meth : Method} {c : Code} {Q : State → Prop} {D : va_G} {H : Heap} {locs : List Loc} (ad : Nat → Nat) (ds : Nat → ClassId) (c0 r0 f0 l0 : Nat → Int32) (kn fi se bo : Int32) (S : CallFix p m c cX0_width 5 s args lw_all RX0) (hP : va_P D vwCl (wX ad ds (c0, r0, f0, l0, kn, fi, se, bo)) H) (hK : va_K D vwCl (tyX ds) s) (g : Nat → Nat) (hc : tf_Rr c0 g) (T : Nat) (hT : T < 64) (after : ∀ (v : Nat) (ls : Array Slot), v = tf_wid g T → lv_has ls 5 [(0, .ref (ad 0)), (1, .int (nI T)), (2, .int (nI v))] → W p l e ({ frames := 1, cells := 0, slots := 0, locals := 21 }) s m args below meth c H locs 0 0 Q (F0 m 80 ls [])) : ∀ (n i v : Nat), i ≤ 6 → 7 ≤ i + n → v = tf_sum (fun a => tf_row g T a 6) i → ∀ (ls : Array Slot), lv_has ls 5 [(0, .ref (ad 0)), (1, .int (nI T)), (2, .int (nI v)), (3, .int (nI i))] → W p l e ({ frames := 1, cells := 0, slots := 0, locals := 21 }) s m args below meth c H locs 0 0 Q (F0 m 16 ls []) := by
  obtain ⟨hx, hb, hml, hown, hts⟩ := id S
  intro n
  induction n with
  | zero => intro i v h1 h2; exact absurd h2 (by omega)
  | succ n ih =>
    intro i v hi hn hv ls hl
    refine lv_iload_n hx hb dX0_width_16 rfl (lv_at hl 3 rfl) ?_
    refine lv_bipush (v := nI 6) hx hb dX0_width_17 (by decide) ?_
    refine lv_icmp_ge (tgt := 80) hx hb dX0_width_19 (by decide) (fun c1 => ?_) (fun c1 => ?_)
    · rw [tf_leN (by omega) (by omega)] at c1
      obtain rfl : i = 6 := by omega
      exact after v ls hv (lv_sub hl [0, 1, 2] rfl)
    · rw [tf_leN (by omega) (by omega)] at c1
      refine lv_iconst (v := nI 0) hx hb dX0_width_22 (by decide) ?_
      refine lv_istore (lv' := [(4, .int (nI 0)), (0, .ref (ad 0)), (1, .int (nI T)), (2, .int (nI v)), (3, .int (nI i))]) hx hb dX0_width_23 hl (by decide) rfl (fun ls hl => ?_)
      refine lX0_width_b l ad ds c0 r0 f0 l0 kn fi se bo S hP hK g hc T hT i (by omega) v (fun v2 ls hv2 hl => ?_) 7 0 v (by omega) (by omega) rfl ls (lv_sub hl [1, 2, 3, 4, 0] rfl)
      refine lv_iinc (v := nI (i + 1)) (lv' := [(3, .int (nI (i + 1))), (0, .ref (ad 0)), (1, .int (nI T)), (2, .int (nI v2))]) hx hb dX0_width_74 hl (k := 3) rfl (tf_inc1 _) (by decide) rfl (fun ls hl => ?_)
      refine lv_goto (tgt := 16) hx hb dX0_width_77 (by decide) ?_
      exact ih (i + 1) v2 (by omega) (by omega) (by rw [hv2, hv]; rfl) ls (lv_sub hl [1, 2, 3, 0] rfl)
set_option maxHeartbeats 4000000 in
set_option maxRecDepth 100000 in
/-- width -/
theorem mX0_width (l : Launch) (D : va_G) (sz : Nat) (ad : Nat → Nat) (ds : Nat → ClassId) (c0 r0 f0 l0 : Nat → Int32) (kn fi se bo : Int32) (g : Nat → Nat) (hc : tf_Rr c0 g) (x : Int32) : tf_Mr l D (wX ad ds (c0, r0, f0, l0, kn, fi, se, bo)) (tyX ds) sz yX0_width cX0_width 5 (some .int) ({ frames := 1, cells := 0, slots := 0, locals := 21 }) [.ref (ad 0), .int x] (tf_wiR g x) := by
  refine tf_go_r (by decide) (Nat.le_of_ble_eq_true rfl) ?_
  intro p e s m below meth c S hr hlocks hP hK hD ls hl
  have S : CallFix p m c cX0_width 5 s _ lw_all RX0 := S
  obtain ⟨hx, hb, hml, hown, hts⟩ := id S
  have hl : lv_has ls 5 [(0, .ref (ad 0)), (1, .int x)] := hl
  refine lv_iload_n hx hb dX0_width_0 rfl (lv_at hl 1 rfl) ?_
  refine lv_if_lt (tgt := 10) hx hb dX0_width_1 (by decide) (fun c1 => ?_) (fun c1 => ?_)
  · refine lv_iconst (v := (-1)) hx hb dX0_width_10 (by decide) ?_
    exact tf_rret hx hb hr rfl hlocks (by unfold tf_wiR; rw [if_pos (Or.inl c1)]) dX0_width_11
  · refine lv_iload_n hx hb dX0_width_4 rfl (lv_at hl 1 rfl) ?_
    refine lv_bipush (v := nI 63) hx hb dX0_width_5 (by decide) ?_
    refine lv_icmp_le (tgt := 12) hx hb dX0_width_7 (by decide) (fun c2 => ?_) (fun c2 => ?_)
    · have c3 := c2
      obtain ⟨T, hT, rfl⟩ := nI_of c1
      rw [tf_leN (by omega) (by omega)] at c3
      refine lv_iconst (v := nI 0) hx hb dX0_width_12 (by decide) ?_
      refine lv_istore_n (lv' := [(2, .int (nI 0)), (0, .ref (ad 0)), (1, .int (nI T))]) hx hb dX0_width_13 rfl hl (by decide) rfl (fun ls hl => ?_)
      refine lv_iconst (v := nI 0) hx hb dX0_width_14 (by decide) ?_
      refine lv_istore_n (lv' := [(3, .int (nI 0)), (2, .int (nI 0)), (0, .ref (ad 0)), (1, .int (nI T))]) hx hb dX0_width_15 rfl hl (by decide) rfl (fun ls hl => ?_)
      refine lX0_width_a l ad ds c0 r0 f0 l0 kn fi se bo S hP hK g hc T (by omega) (fun v ls hv hl => ?_) 7 0 0 (by omega) (by omega) rfl ls (lv_sub hl [2, 3, 1, 0] rfl)
      refine lv_iload_n hx hb dX0_width_80 rfl (lv_at hl 2 rfl) ?_
      exact tf_rret hx hb hr rfl hlocks (by unfold tf_wiR; rw [if_neg (by intro h; rcases h with h | h; exact c1 h; exact h c2), nI_clamp hT, hv]) dX0_width_81
    · refine lv_iconst (v := (-1)) hx hb dX0_width_10 (by decide) ?_
      exact tf_rret hx hb hr rfl hlocks (by unfold tf_wiR; rw [if_pos (Or.inr c2)]) dX0_width_11
end
section
set_option maxHeartbeats 4000000 in
set_option maxRecDepth 100000 in
/-- spread: the sources -/
theorem lX0_spread_1 (l : Launch) {p : Program} {e : Env} {s : State} {m : MethodId} {args : Array Value} {below : List Frame} {meth : Method} {c : Code} {Q : State → Prop} {D : va_G} {A : Nat → Prop} (ad : Nat → Nat) (ds : Nat → ClassId) (c0 r0 : Nat → Int32) (kn fi se bo : Int32) (S : CallFix p m c cX0_spread 8 s args lw_all RX0) (hK : va_K D vwCl (tyX ds) s) (src goal : Nat) (hsrc : src < 64) (after : ∀ (en : Nat) (f1 l1 : Nat → Int32) (H : Heap) (locs : List Loc) (ls : Array Slot), tf_s1 f1 l1 src 6 en → va_P D vwCl (wX ad ds (c0, r0, f1, l1, kn, fi, se, bo)) H → va_D A (wX ad ds (c0, r0, f1, l1, kn, fi, se, bo)) → va_S A s.heap H locs → lv_has ls 8 [(0, .ref (ad 0)), (1, .int (nI src)), (2, .int (nI goal)), (3, .int (nI src)), (4, .int (nI en))] → W p l e ({ frames := 1, cells := 0, slots := 0, locals := 21 }) s m args below meth c H locs 0 0 Q (F0 m 51 ls [])) : ∀ (n a en : Nat) (f1 l1 : Nat → Int32) (H : Heap) (locs : List Loc), a ≤ 6 → 7 ≤ a + n → tf_s1 f1 l1 src a en → va_P D vwCl (wX ad ds (c0, r0, f1, l1, kn, fi, se, bo)) H → va_D A (wX ad ds (c0, r0, f1, l1, kn, fi, se, bo)) → va_S A s.heap H locs → ∀ (ls : Array Slot), lv_has ls 8 [(0, .ref (ad 0)), (1, .int (nI src)), (2, .int (nI goal)), (3, .int (nI src)), (4, .int (nI en)), (5, .int (nI a))] → W p l e ({ frames := 1, cells := 0, slots := 0, locals := 21 }) s m args below meth c H locs 0 0 Q (F0 m 8 ls []) := by
  obtain ⟨hx, hb, hml, hown, hts⟩ := id S
  intro n
  induction n with
  | zero => intro a en f1 l1 H locs h1 h2; exact absurd h2 (by omega)
  | succ n ih =>
    intro a en f1 l1 H locs ha hn hs hP hD hS ls hl
    have he := tf_s1_e hs
    refine lv_iload hx hb dX0_spread_8 (lv_at hl 5 rfl) ?_
    refine lv_bipush (v := nI 6) hx hb dX0_spread_10 (by decide) ?_
    refine lv_icmp_ge (tgt := 51) hx hb dX0_spread_12 (by decide) (fun c1 => ?_) (fun c1 => ?_)
    · rw [tf_leN (by omega) (by omega)] at c1
      obtain rfl : a = 6 := by omega
      exact after en f1 l1 H locs ls hs hP hD hS (lv_sub hl [0, 1, 2, 3, 4] rfl)
    · rw [tf_leN (by omega) (by omega)] at c1
      refine lv_iload_n hx hb dX0_spread_15 rfl (lv_at hl 1 rfl) ?_
      refine lv_iload hx hb dX0_spread_16 (lv_at hl 5 rfl) ?_
      refine tf_callRS (As := [.int (nI src), .int (nI a)]) (rest := []) S tf_P0 (hK.sub (tys' := []) [] rfl) tf_D0 (mX0_in l D _ src a hsrc (by omega)) (va_cwS 2 hts (lw_S q68 q69 q12 q70) rfl rfl rfl (by decide +kernel) ⟨Nat.le_of_ble_eq_true rfl, Nat.le_of_ble_eq_true rfl⟩) rfl hl.1 rfl (Nat.le_of_ble_eq_true rfl) dX0_spread_18 ⟨Nat.le_of_ble_eq_true rfl, Nat.le_of_ble_eq_true rfl⟩ ?_
      refine lv_if_eq (tgt := 45) hx hb dX0_spread_21 (by decide) (fun c2 => ?_) (fun c2 => ?_)
      · have c2 := tf_be c2
        refine lv_iinc (v := nI (a + 1)) (lv' := [(5, .int (nI (a + 1))), (0, .ref (ad 0)), (1, .int (nI src)), (2, .int (nI goal)), (3, .int (nI src)), (4, .int (nI en))]) hx hb dX0_spread_45 hl (k := 5) rfl (tf_inc1 _) (by decide) rfl (fun ls hl => ?_)
        refine lv_goto (tgt := 8) hx hb dX0_spread_48 (by decide) ?_
        exact ih (a + 1) en f1 l1 H locs (by omega) (by omega) (tf_s1_out hs c2) hP hD hS ls (lv_sub hl [1, 2, 3, 4, 5, 0] rfl)
      · have c2 := tf_bne c2
        refine lv_aload_n hx hb dX0_spread_24 rfl (lv_at hl 0 rfl) ?_
        refine va_get (D := D) (ci := 0) (v := .ref (ad 3)) (C := RX0) (T := TX0) (N := 8) hx hb hts in_X0 hown hK hP 0 rfl rfl 2 (by decide) (hts _ q24) (fun _ h9 => h9) rfl dX0_spread_25 ?_
        refine lv_iload hx hb dX0_spread_28 (lv_at hl 5 rfl) ?_
        refine lv_iconst (v := (-1)) hx hb dX0_spread_30 (by decide) ?_
        refine tf_bast (y := (-1)) hx hb hK hP hD hS 3 2 rfl rfl (k := a) (by omega) (by decide) tf_narm dX0_spread_31 (fun H locs hP hD hS => ?_)
        have hP : va_P D vwCl (wX ad ds (c0, r0, upd f1 a (-1), l1, kn, fi, se, bo)) H := hP
        have hD : va_D A (wX ad ds (c0, r0, upd f1 a (-1), l1, kn, fi, se, bo)) := hD
        refine lv_aload_n hx hb dX0_spread_32 rfl (lv_at hl 0 rfl) ?_
        refine va_get (D := D) (ci := 0) (v := .ref (ad 4)) (C := RX0) (T := TX0) (N := 8) hx hb hts in_X0 hown hK hP 0 rfl rfl 3 (by decide) (hts _ q25) (fun _ h9 => h9) rfl dX0_spread_33 ?_
        refine lv_iload hx hb dX0_spread_36 (lv_at hl 4 rfl) ?_
        refine lv_iload hx hb dX0_spread_38 (lv_at hl 5 rfl) ?_
        refine lv_i2b (v := nI a) hx hb dX0_spread_40 (tf_i2b _ (by omega)) ?_
        refine tf_bast (y := nI a) hx hb hK hP hD hS 4 3 rfl rfl (k := en) (by omega) (by decide) (tf_nar (by omega)) dX0_spread_41 (fun H locs hP hD hS => ?_)
        have hP : va_P D vwCl (wX ad ds (c0, r0, upd f1 a (-1), upd l1 en (nI a), kn, fi, se, bo)) H := hP
        have hD : va_D A (wX ad ds (c0, r0, upd f1 a (-1), upd l1 en (nI a), kn, fi, se, bo)) := hD
        refine lv_iinc (v := nI (en + 1)) (lv' := [(4, .int (nI (en + 1))), (0, .ref (ad 0)), (1, .int (nI src)), (2, .int (nI goal)), (3, .int (nI src)), (5, .int (nI a))]) hx hb dX0_spread_42 hl (k := 4) rfl (tf_inc1 _) (by decide) rfl (fun ls hl => ?_)
        refine lv_iinc (v := nI (a + 1)) (lv' := [(5, .int (nI (a + 1))), (4, .int (nI (en + 1))), (0, .ref (ad 0)), (1, .int (nI src)), (2, .int (nI goal)), (3, .int (nI src))]) hx hb dX0_spread_45 hl (k := 5) rfl (tf_inc1 _) (by decide) rfl (fun ls hl => ?_)
        refine lv_goto (tgt := 8) hx hb dX0_spread_48 (by decide) ?_
        exact ih (a + 1) (en + 1) _ _ H locs (by omega) (by omega) (tf_s1_in hs (by omega) c2) hP hD hS ls (lv_sub hl [2, 3, 4, 5, 1, 0] rfl)
set_option maxHeartbeats 4000000 in
set_option maxRecDepth 100000 in
/-- spread: the inner loop -/
theorem lX0_spread_b (l : Launch) {p : Program} {e : Env} {s : State} {m : MethodId} {args : Array Value} {below : List Frame} {meth : Method} {c : Code} {Q : State → Prop} {D : va_G} {A : Nat → Prop} (ad : Nat → Nat) (ds : Nat → ClassId) (c0 r0 : Nat → Int32) (kn fi se bo : Int32) (S : CallFix p m c cX0_spread 8 s args lw_all RX0) (hK : va_K D vwCl (tyX ds) s) (src goal : Nat) (hsrc : src < 64) (hgoal : goal < 64) (ρ : Nat → Nat) (hr0 : tf_Rr r0 ρ) (hρ : ∀ x, x < 36 → ρ x ≤ 42) (fnd : ∀ (b a : Nat) (t : List Nat) (f1 l1 : Nat → Int32) (H : Heap) (locs : List Loc) (ls : Array Slot), b < 6 → goal.testBit b = true → tf_ch f1 ρ src goal (b :: a :: t) → va_P D vwCl (wX ad ds (c0, r0, f1, l1, kn, fi, se, bo)) H → va_D A (wX ad ds (c0, r0, f1, l1, kn, fi, se, bo)) → va_S A s.heap H locs → W p l e ({ frames := 1, cells := 0, slots := 0, locals := 21 }) s m args below meth c H locs 0 0 Q (F0 m 140 ls [.int (nI b)])) (k a : Nat) (ha : a < 6) (after : ∀ (F en : Nat) (f1 l1 : Nat → Int32) (H : Heap) (locs : List Loc) (ls : Array Slot), tf_sp f1 l1 ρ src goal F en → tf_cl l1 ρ F k → F.testBit a = true → l1 k = nI a → k < en → (∀ x, x < 6 → 0 < ρ (6 * a + x) → F.testBit x = true) → va_P D vwCl (wX ad ds (c0, r0, f1, l1, kn, fi, se, bo)) H → va_D A (wX ad ds (c0, r0, f1, l1, kn, fi, se, bo)) → va_S A s.heap H locs → lv_has ls 8 [(0, .ref (ad 0)), (1, .int (nI src)), (2, .int (nI goal)), (3, .int (nI F)), (4, .int (nI en)), (5, .int (nI k))] → W p l e ({ frames := 1, cells := 0, slots := 0, locals := 21 }) s m args below meth c H locs 0 0 Q (F0 m 160 ls [])) : ∀ (n b F en : Nat) (f1 l1 : Nat → Int32) (H : Heap) (locs : List Loc), b ≤ 6 → 7 ≤ b + n → tf_sp f1 l1 ρ src goal F en → tf_cl l1 ρ F k → F.testBit a = true → l1 k = nI a → k < en → (∀ x, x < b → 0 < ρ (6 * a + x) → F.testBit x = true) → va_P D vwCl (wX ad ds (c0, r0, f1, l1, kn, fi, se, bo)) H → va_D A (wX ad ds (c0, r0, f1, l1, kn, fi, se, bo)) → va_S A s.heap H locs → ∀ (ls : Array Slot), lv_has ls 8 [(0, .ref (ad 0)), (1, .int (nI src)), (2, .int (nI goal)), (3, .int (nI F)), (4, .int (nI en)), (5, .int (nI k)), (6, .int (nI a)), (7, .int (nI b))] → W p l e ({ frames := 1, cells := 0, slots := 0, locals := 21 }) s m args below meth c H locs 0 0 Q (F0 m 80 ls []) := by
  obtain ⟨hx, hb, hml, hown, hts⟩ := id S
  intro n
  induction n with
  | zero => intro b F en f1 l1 H locs h1 h2; exact absurd h2 (by omega)
  | succ n ih =>
    intro b F en f1 l1 H locs hb6 hn hsp hcl haF hlk hke hdone hP hD hS ls hl
    have hF := hsp.1
    refine lv_iload hx hb dX0_spread_80 (lv_at hl 7 rfl) ?_
    refine lv_bipush (v := nI 6) hx hb dX0_spread_82 (by decide) ?_
    refine lv_icmp_ge (tgt := 160) hx hb dX0_spread_84 (by decide) (fun c1 => ?_) (fun c1 => ?_)
    · rw [tf_leN (by omega) (by omega)] at c1
      obtain rfl : b = 6 := by omega
      exact after F en f1 l1 H locs ls hsp hcl haF hlk hke hdone hP hD hS (lv_sub hl [0, 1, 2, 3, 4, 5] rfl)
    · rw [tf_leN (by omega) (by omega)] at c1
      have hbl : b < 6 := by omega
      refine lv_iload_n hx hb dX0_spread_87 rfl (lv_at hl 3 rfl) ?_
      refine lv_iload hx hb dX0_spread_88 (lv_at hl 7 rfl) ?_
      refine tf_callRS (As := [.int (nI F), .int (nI b)]) (rest := []) S tf_P0 (hK.sub (tys' := []) [] rfl) tf_D0 (mX0_in l D _ F b hF hbl) (va_cwS 2 hts (lw_S q68 q69 q12 q70) rfl rfl rfl (by decide +kernel) ⟨Nat.le_of_ble_eq_true rfl, Nat.le_of_ble_eq_true rfl⟩) rfl hl.1 rfl (Nat.le_of_ble_eq_true rfl) dX0_spread_90 ⟨Nat.le_of_ble_eq_true rfl, Nat.le_of_ble_eq_true rfl⟩ ?_
      refine lv_if_ne (tgt := 154) hx hb dX0_spread_93 (by decide) (fun c2 => ?_) (fun c2 => ?_)
      · have c2 := tf_bne c2
        refine lv_iinc (v := nI (b + 1)) (lv' := [(7, .int (nI (b + 1))), (0, .ref (ad 0)), (1, .int (nI src)), (2, .int (nI goal)), (3, .int (nI F)), (4, .int (nI en)), (5, .int (nI k)), (6, .int (nI a))]) hx hb dX0_spread_154 hl (k := 7) rfl (tf_inc1 _) (by decide) rfl (fun ls hl => ?_)
        refine lv_goto (tgt := 80) hx hb dX0_spread_157 (by decide) ?_
        exact ih (b + 1) F en f1 l1 H locs (by omega) (by omega) hsp hcl haF hlk hke (fun x hx hr => by rcases Nat.lt_or_eq_of_le (Nat.le_of_lt_succ hx) with q | q; exact hdone x q hr; rw [q]; exact c2) hP hD hS ls (lv_sub hl [1, 2, 3, 4, 5, 6, 7, 0] rfl)
      · have c2 := tf_be c2
        refine lv_aload_n hx hb dX0_spread_96 rfl (lv_at hl 0 rfl) ?_
        refine va_get (D := D) (ci := 0) (v := .ref (ad 2)) (C := RX0) (T := TX0) (N := 8) hx hb hts in_X0 hown hK hP 0 rfl rfl 1 (by decide) (hts _ q23) (fun _ h9 => h9) rfl dX0_spread_97 ?_
        refine lv_iload hx hb dX0_spread_100 (lv_at hl 6 rfl) ?_
        refine lv_bipush (v := nI 6) hx hb dX0_spread_102 (by decide) ?_
        refine lv_imul hx hb dX0_spread_104 ?_
        refine lv_iload hx hb dX0_spread_105 (lv_at hl 7 rfl) ?_
        refine lv_iadd hx hb dX0_spread_107 ?_
        refine tf_top (nI (6 * a + b)) (tf_ix _ _) ?_
        refine tf_iald (v := nI (ρ (6 * a + b))) hx hb hK hP 2 1 rfl rfl (k := 6 * a + b) (by omega) (by decide) (hr0 _ (by omega)) dX0_spread_108 ?_
        have hrb := hρ (6 * a + b) (by omega)
        refine lv_if_le (tgt := 154) hx hb dX0_spread_109 (by decide) (fun c3 => ?_) (fun c3 => ?_)
        · rw [tf_le0 (by omega)] at c3
          refine lv_iinc (v := nI (b + 1)) (lv' := [(7, .int (nI (b + 1))), (0, .ref (ad 0)), (1, .int (nI src)), (2, .int (nI goal)), (3, .int (nI F)), (4, .int (nI en)), (5, .int (nI k)), (6, .int (nI a))]) hx hb dX0_spread_154 hl (k := 7) rfl (tf_inc1 _) (by decide) rfl (fun ls hl => ?_)
          refine lv_goto (tgt := 80) hx hb dX0_spread_157 (by decide) ?_
          exact ih (b + 1) F en f1 l1 H locs (by omega) (by omega) hsp hcl haF hlk hke (fun x hx hr => by rcases Nat.lt_or_eq_of_le (Nat.le_of_lt_succ hx) with q | q; exact hdone x q hr; rw [q, c3] at hr; exact absurd hr (by decide)) hP hD hS ls (lv_sub hl [1, 2, 3, 4, 5, 6, 7, 0] rfl)
        · rw [tf_le0 (by omega)] at c3
          have hpos : 0 < ρ (6 * a + b) := by omega
          refine lv_iload_n hx hb dX0_spread_112 rfl (lv_at hl 3 rfl) ?_
          refine lv_iconst (v := nI 1) hx hb dX0_spread_113 (by decide) ?_
          refine lv_iload hx hb dX0_spread_114 (lv_at hl 7 rfl) ?_
          refine lv_ishl hx hb dX0_spread_116 ?_
          refine lv_ior hx hb dX0_spread_117 ?_
          refine tf_top (nI (F ||| (1 <<< b))) (tf_orb F hF b hbl) ?_
          refine lv_istore_n (lv' := [(3, .int (nI (F ||| (1 <<< b)))), (0, .ref (ad 0)), (1, .int (nI src)), (2, .int (nI goal)), (4, .int (nI en)), (5, .int (nI k)), (6, .int (nI a)), (7, .int (nI b))]) hx hb dX0_spread_118 rfl hl (by decide) rfl (fun ls hl => ?_)
          refine lv_aload_n hx hb dX0_spread_119 rfl (lv_at hl 1 rfl) ?_
          refine va_get (D := D) (ci := 0) (v := .ref (ad 3)) (C := RX0) (T := TX0) (N := 8) hx hb hts in_X0 hown hK hP 0 rfl rfl 2 (by decide) (hts _ q24) (fun _ h9 => h9) rfl dX0_spread_120 ?_
          refine lv_iload hx hb dX0_spread_123 (lv_at hl 7 rfl) ?_
          refine lv_iload hx hb dX0_spread_125 (lv_at hl 6 rfl) ?_
          refine lv_i2b (v := nI a) hx hb dX0_spread_127 (tf_i2b _ (by omega)) ?_
          refine tf_bast (y := nI a) hx hb hK hP hD hS 3 2 rfl rfl (k := b) (by omega) (by decide) (tf_nar (by omega)) dX0_spread_128 (fun H locs hP hD hS => ?_)
          have hP : va_P D vwCl (wX ad ds (c0, r0, upd f1 b (nI a), l1, kn, fi, se, bo)) H := hP
          have hD : va_D A (wX ad ds (c0, r0, upd f1 b (nI a), l1, kn, fi, se, bo)) := hD
          refine lv_iload_n hx hb dX0_spread_129 rfl (lv_at hl 3 rfl) ?_
          refine lv_iload hx hb dX0_spread_130 (lv_at hl 7 rfl) ?_
          refine tf_callRS (As := [.int (nI goal), .int (nI b)]) (rest := []) S tf_P0 (hK.sub (tys' := []) [] rfl) tf_D0 (mX0_in l D _ goal b hgoal hbl) (va_cwS 2 hts (lw_S q68 q69 q12 q70) rfl rfl rfl (by decide +kernel) ⟨Nat.le_of_ble_eq_true rfl, Nat.le_of_ble_eq_true rfl⟩) rfl hl.1 rfl (Nat.le_of_ble_eq_true rfl) dX0_spread_132 ⟨Nat.le_of_ble_eq_true rfl, Nat.le_of_ble_eq_true rfl⟩ ?_
          refine lv_if_eq (tgt := 141) hx hb dX0_spread_135 (by decide) (fun c4 => ?_) (fun c4 => ?_)
          · have c4 := tf_be c4
            have he5 := tf_sp_e5 hsp hbl c2
            refine lv_aload_n hx hb dX0_spread_141 rfl (lv_at hl 1 rfl) ?_
            refine va_get (D := D) (ci := 0) (v := .ref (ad 4)) (C := RX0) (T := TX0) (N := 8) hx hb hts in_X0 hown hK hP 0 rfl rfl 3 (by decide) (hts _ q25) (fun _ h9 => h9) rfl dX0_spread_142 ?_
            refine lv_iload hx hb dX0_spread_145 (lv_at hl 4 rfl) ?_
            refine lv_iload hx hb dX0_spread_147 (lv_at hl 7 rfl) ?_
            refine lv_i2b (v := nI b) hx hb dX0_spread_149 (tf_i2b _ (by omega)) ?_
            refine tf_bast (y := nI b) hx hb hK hP hD hS 4 3 rfl rfl (k := en) (by omega) (by decide) (tf_nar (by omega)) dX0_spread_150 (fun H locs hP hD hS => ?_)
            have hP : va_P D vwCl (wX ad ds (c0, r0, upd f1 b (nI a), upd l1 en (nI b), kn, fi, se, bo)) H := hP
            have hD : va_D A (wX ad ds (c0, r0, upd f1 b (nI a), upd l1 en (nI b), kn, fi, se, bo)) := hD
            refine lv_iinc (v := nI (en + 1)) (lv' := [(4, .int (nI (en + 1))), (3, .int (nI (F ||| (1 <<< b)))), (0, .ref (ad 0)), (1, .int (nI src)), (2, .int (nI goal)), (5, .int (nI k)), (6, .int (nI a)), (7, .int (nI b))]) hx hb dX0_spread_151 hl (k := 4) rfl (tf_inc1 _) (by decide) rfl (fun ls hl => ?_)
            refine lv_iinc (v := nI (b + 1)) (lv' := [(7, .int (nI (b + 1))), (4, .int (nI (en + 1))), (3, .int (nI (F ||| (1 <<< b)))), (0, .ref (ad 0)), (1, .int (nI src)), (2, .int (nI goal)), (5, .int (nI k)), (6, .int (nI a))]) hx hb dX0_spread_154 hl (k := 7) rfl (tf_inc1 _) (by decide) rfl (fun ls hl => ?_)
            refine lv_goto (tgt := 80) hx hb dX0_spread_157 (by decide) ?_
            refine ih (b + 1) (F ||| (1 <<< b)) (en + 1) _ _ H locs (by omega) (by omega) (tf_sp_add hsp ha haF hbl c2 hpos c4) (tf_cl_add hF hbl (by omega) hcl) ?_ ?_ (by omega) (fun x hx hr => ?_) hP hD hS ls (lv_sub hl [3, 4, 5, 2, 1, 6, 7, 0] rfl)
            · rw [tf_add_b F hF b hbl a ha, haF, Bool.or_true]
            · rw [pk_un (by omega)]; exact hlk
            · rw [tf_add_b F hF b hbl x (by omega)]
              rcases Nat.lt_or_eq_of_le (Nat.le_of_lt_succ hx) with q | q
              · rw [hdone x q hr, Bool.or_true]
              · rw [q]; simp
          · have c4 := tf_bne c4
            obtain ⟨t, ht, -⟩ := tf_sp_goal hsp ha haF hbl c2 hpos
            refine lv_iload hx hb dX0_spread_138 (lv_at hl 7 rfl) ?_
            exact fnd b a t _ l1 H locs ls hbl c4 ht hP hD hS
set_option maxHeartbeats 4000000 in
set_option maxRecDepth 100000 in
/-- spread: the outer loop -/
theorem lX0_spread_k (l : Launch) {p : Program} {e : Env} {s : State} {m : MethodId} {args : Array Value} {below : List Frame} {meth : Method} {c : Code} {Q : State → Prop} {D : va_G} {A : Nat → Prop} (ad : Nat → Nat) (ds : Nat → ClassId) (c0 r0 : Nat → Int32) (kn fi se bo : Int32) (S : CallFix p m c cX0_spread 8 s args lw_all RX0) (hK : va_K D vwCl (tyX ds) s) (src goal : Nat) (hsrc : src < 64) (hgoal : goal < 64) (ρ : Nat → Nat) (hr0 : tf_Rr r0 ρ) (hρ : ∀ x, x < 36 → ρ x ≤ 42) (fnd : ∀ (b a : Nat) (t : List Nat) (f1 l1 : Nat → Int32) (H : Heap) (locs : List Loc) (ls : Array Slot), b < 6 → goal.testBit b = true → tf_ch f1 ρ src goal (b :: a :: t) → va_P D vwCl (wX ad ds (c0, r0, f1, l1, kn, fi, se, bo)) H → va_D A (wX ad ds (c0, r0, f1, l1, kn, fi, se, bo)) → va_S A s.heap H locs → W p l e ({ frames := 1, cells := 0, slots := 0, locals := 21 }) s m args below meth c H locs 0 0 Q (F0 m 140 ls [.int (nI b)])) (none1 : ∀ (F : Nat) (f1 l1 : Nat → Int32) (H : Heap) (locs : List Loc) (ls : Array Slot), F < 64 ∧ tf_sep src goal F ∧ tf_wid ρ F = 0 → va_P D vwCl (wX ad ds (c0, r0, f1, l1, kn, fi, se, bo)) H → va_D A (wX ad ds (c0, r0, f1, l1, kn, fi, se, bo)) → va_S A s.heap H locs → ls.size = 8 → W p l e ({ frames := 1, cells := 0, slots := 0, locals := 21 }) s m args below meth c H locs 0 0 Q (F0 m 166 ls [])) : ∀ (n k F en : Nat) (f1 l1 : Nat → Int32) (H : Heap) (locs : List Loc), 7 ≤ k + n → tf_sp f1 l1 ρ src goal F en → tf_cl l1 ρ F k → k ≤ en → va_P D vwCl (wX ad ds (c0, r0, f1, l1, kn, fi, se, bo)) H → va_D A (wX ad ds (c0, r0, f1, l1, kn, fi, se, bo)) → va_S A s.heap H locs → ∀ (ls : Array Slot), lv_has ls 8 [(0, .ref (ad 0)), (1, .int (nI src)), (2, .int (nI goal)), (3, .int (nI F)), (4, .int (nI en)), (5, .int (nI k))] → W p l e ({ frames := 1, cells := 0, slots := 0, locals := 21 }) s m args below meth c H locs 0 0 Q (F0 m 54 ls []) := by
  obtain ⟨hx, hb, hml, hown, hts⟩ := id S
  intro n
  induction n with
  | zero =>
    intro k F en f1 l1 H locs h2 hsp hcl hke
    have := tf_sp_e hsp
    exact absurd h2 (by omega)
  | succ n ih =>
    intro k F en f1 l1 H locs hn hsp hcl hke hP hD hS ls hl
    have he6 := tf_sp_e hsp
    refine lv_iload hx hb dX0_spread_54 (lv_at hl 5 rfl) ?_
    refine lv_iload hx hb dX0_spread_56 (lv_at hl 4 rfl) ?_
    refine lv_icmp_ge (tgt := 166) hx hb dX0_spread_58 (by decide) (fun c1 => ?_) (fun c1 => ?_)
    · rw [tf_leN (by omega) (by omega)] at c1
      obtain rfl : k = en := by omega
      exact none1 F f1 l1 H locs ls (tf_sp_end hsp hcl) hP hD hS hl.1
    · rw [tf_leN (by omega) (by omega)] at c1
      refine lv_iload hx hb dX0_spread_61 (lv_at hl 5 rfl) ?_
      refine lv_bipush (v := nI 6) hx hb dX0_spread_63 (by decide) ?_
      refine lv_icmp_ge (tgt := 166) hx hb dX0_spread_65 (by decide) (fun c2 => ?_) (fun c2 => ?_)
      · rw [tf_leN (by omega) (by omega)] at c2
        exact absurd c2 (by omega)
      · rw [tf_leN (by omega) (by omega)] at c2
        obtain ⟨a, ha, haF, hlk⟩ := hsp.2.2.1 k (by omega)
        refine lv_aload_n hx hb dX0_spread_68 rfl (lv_at hl 0 rfl) ?_
        refine va_get (D := D) (ci := 0) (v := .ref (ad 4)) (C := RX0) (T := TX0) (N := 8) hx hb hts in_X0 hown hK hP 0 rfl rfl 3 (by decide) (hts _ q25) (fun _ h9 => h9) rfl dX0_spread_69 ?_
        refine lv_iload hx hb dX0_spread_72 (lv_at hl 5 rfl) ?_
        refine tf_bald (v := nI a) hx hb hK hP 4 3 rfl rfl (k := k) (by omega) (by decide) (hlk) dX0_spread_74 ?_
        refine lv_istore (lv' := [(6, .int (nI a)), (0, .ref (ad 0)), (1, .int (nI src)), (2, .int (nI goal)), (3, .int (nI F)), (4, .int (nI en)), (5, .int (nI k))]) hx hb dX0_spread_75 hl (by decide) rfl (fun ls hl => ?_)
        refine lv_iconst (v := nI 0) hx hb dX0_spread_77 (by decide) ?_
        refine lv_istore (lv' := [(7, .int (nI 0)), (6, .int (nI a)), (0, .ref (ad 0)), (1, .int (nI src)), (2, .int (nI goal)), (3, .int (nI F)), (4, .int (nI en)), (5, .int (nI k))]) hx hb dX0_spread_78 hl (by decide) rfl (fun ls hl => ?_)
        refine lX0_spread_b l ad ds c0 r0 kn fi se bo S hK src goal hsrc hgoal ρ hr0 hρ fnd k a ha (fun F2 en2 f2 l2 H locs ls hsp2 hcl2 haF2 hlk2 hke2 hdone2 hP hD hS hl => ?_) 7 0 F en f1 l1 H locs (by omega) (by omega) hsp hcl haF hlk (by omega) (fun x hx => absurd hx (by omega)) hP hD hS ls (lv_sub hl [2, 3, 4, 5, 6, 7, 1, 0] rfl)
        refine lv_iinc (v := nI (k + 1)) (lv' := [(5, .int (nI (k + 1))), (0, .ref (ad 0)), (1, .int (nI src)), (2, .int (nI goal)), (3, .int (nI F2)), (4, .int (nI en2))]) hx hb dX0_spread_160 hl (k := 5) rfl (tf_inc1 _) (by decide) rfl (fun ls hl => ?_)
        refine lv_goto (tgt := 54) hx hb dX0_spread_163 (by decide) ?_
        exact ih (k + 1) F2 en2 f2 l2 H locs (by omega) hsp2 (tf_cl_s ha hlk2 hcl2 hdone2) (by omega) hP hD hS ls (lv_sub hl [1, 2, 3, 4, 5, 0] rfl)
set_option maxHeartbeats 4000000 in
set_option maxRecDepth 100000 in
/-- spread -/
theorem mX0_spread (l : Launch) (D : va_G) (sz : Nat) (ad : Nat → Nat) (ds : Nat → ClassId) (c0 r0 f0 l0 : Nat → Int32) (kn fi se bo : Int32) (src goal : Nat) (hpr : tf_pair src goal) (ρ : Nat → Nat) (hr0 : tf_Rr r0 ρ) (hρ : ∀ x, x < 36 → ρ x ≤ 42) : tf_Mi l D (wX ad ds) (tyX ds) sz (c0, r0, f0, l0, kn, fi, se, bo) yX0_spread cX0_spread 8 (some .int) ({ frames := 1, cells := 0, slots := 0, locals := 21 }) [.ref (ad 0), .int (nI src), .int (nI goal)] (fun z u => ∃ f1 l1 : Nat → Int32, u = (c0, r0, f1, l1, kn, fi, se, bo) ∧ ((z = -1 ∧ ∃ F, F < 64 ∧ tf_sep src goal F ∧ tf_wid ρ F = 0) ∨ ∃ (b a : Nat) (t : List Nat), z = nI b ∧ b < 6 ∧ goal.testBit b = true ∧ tf_ch f1 ρ src goal (b :: a :: t))) := by
  refine tf_go_i (by decide) (Nat.le_of_ble_eq_true rfl) ?_
  intro p e s m below meth c S hr hlocks A hA hP hK hD hS ls hl
  have S : CallFix p m c cX0_spread 8 s _ lw_all RX0 := S
  obtain ⟨hx, hb, hml, hown, hts⟩ := id S
  have hl : lv_has ls 8 [(0, .ref (ad 0)), (1, .int (nI src)), (2, .int (nI goal))] := hl
  obtain ⟨hsrc, hgoal, hsep, -⟩ := tf_pair_ok hpr
  refine lv_iload_n hx hb dX0_spread_0 rfl (lv_at hl 1 rfl) ?_
  refine lv_istore_n (lv' := [(3, .int (nI src)), (0, .ref (ad 0)), (1, .int (nI src)), (2, .int (nI goal))]) hx hb dX0_spread_1 rfl hl (by decide) rfl (fun ls hl => ?_)
  refine lv_iconst (v := nI 0) hx hb dX0_spread_2 (by decide) ?_
  refine lv_istore (lv' := [(4, .int (nI 0)), (3, .int (nI src)), (0, .ref (ad 0)), (1, .int (nI src)), (2, .int (nI goal))]) hx hb dX0_spread_3 hl (by decide) rfl (fun ls hl => ?_)
  refine lv_iconst (v := nI 0) hx hb dX0_spread_5 (by decide) ?_
  refine lv_istore (lv' := [(5, .int (nI 0)), (4, .int (nI 0)), (3, .int (nI src)), (0, .ref (ad 0)), (1, .int (nI src)), (2, .int (nI goal))]) hx hb dX0_spread_6 hl (by decide) rfl (fun ls hl => ?_)
  refine lX0_spread_1 l ad ds c0 r0 kn fi se bo S hK src goal hsrc (fun en f1 l1 H locs ls hs1 hP hD hS hl => ?_) 7 0 0 f0 l0 _ _ (by omega) (by omega) (tf_s1_0 f0 l0 src) hP hD hS ls (lv_sub hl [3, 4, 5, 2, 1, 0] rfl)
  refine lv_iconst (v := nI 0) hx hb dX0_spread_51 (by decide) ?_
  refine lv_istore (lv' := [(5, .int (nI 0)), (0, .ref (ad 0)), (1, .int (nI src)), (2, .int (nI goal)), (3, .int (nI src)), (4, .int (nI en))]) hx hb dX0_spread_52 hl (by decide) rfl (fun ls hl => ?_)
  refine lX0_spread_k l ad ds c0 r0 kn fi se bo S hK src goal hsrc hgoal ρ hr0 hρ (fun b a t f1 l1 H locs ls hb6 hgb hch hP hD hS => ?_) (fun F f1 l1 H locs ls hF hP hD hS hz => ?_) 7 0 src en f1 l1 _ _ (by omega) (tf_s1_end hs1 hsrc hsep) (fun j hj => absurd hj (by omega)) (by omega) hP hD hS ls (lv_sub hl [1, 2, 3, 4, 5, 0] rfl)
  · exact tf_iret (wf := wX ad ds) (c0, r0, f1, l1, kn, fi, se, bo) hx hb hr rfl hlocks hP hK hD hS (⟨f1, l1, rfl, Or.inr ⟨b, a, t, rfl, hb6, hgb, hch⟩⟩) dX0_spread_140
  · refine lv_iconst (v := (-1)) hx hb dX0_spread_166 (by decide) ?_
    exact tf_iret (wf := wX ad ds) (c0, r0, f1, l1, kn, fi, se, bo) hx hb hr rfl hlocks hP hK hD hS (⟨f1, l1, rfl, Or.inl ⟨rfl, F, hF⟩⟩) dX0_spread_167
end
section
set_option maxHeartbeats 4000000 in
set_option maxRecDepth 100000 in
/-- push: how much -/
theorem lX0_push_1 (l : Launch) {p : Program} {e : Env} {s : State} {m : MethodId} {args : Array Value} {below : List Frame} {meth : Method} {c : Code} {Q : State → Prop} {D : va_G} {H : Heap} {locs : List Loc} (ad : Nat → Nat) (ds : Nat → ClassId) (c0 r0 f0 l0 : Nat → Int32) (kn fi se bo : Int32) (S : CallFix p m c cX0_push 5 s args lw_all RX0) (hP : va_P D vwCl (wX ad ds (c0, r0, f0, l0, kn, fi, se, bo)) H) (hK : va_K D vwCl (tyX ds) s) (src goal G : Nat) (ρ : Nat → Nat) (hr0 : tf_Rr r0 ρ) (hρ : ∀ x, x < 36 → ρ x ≤ 42) (dd : Nat) (after : ∀ (ls : Array Slot), lv_has ls 5 [(0, .ref (ad 0)), (1, .int (nI G)), (2, .int (nI dd))] → W p l e ({ frames := 0, cells := 0, slots := 0, locals := 0 }) s m args below meth c H locs 0 0 Q (F0 m 55 ls [])) : ∀ (L : List Nat) (b mm : Nat), tf_ch f0 ρ src goal (b :: L) → mm ≤ 1048576 → tf_dl ρ mm (b :: L) = dd → ∀ (ls : Array Slot), lv_has ls 5 [(0, .ref (ad 0)), (1, .int (nI G)), (2, .int (nI mm)), (3, .int (nI b))] → W p l e ({ frames := 0, cells := 0, slots := 0, locals := 0 }) s m args below meth c H locs 0 0 Q (F0 m 5 ls []) := by
  obtain ⟨hx, hb, hml, hown, hts⟩ := id S
  intro L
  induction L with
  | nil =>
    intro b mm hch hmm hdd ls hl
    obtain ⟨hb6, hsb, hfb⟩ := tf_ch_1.mp hch
    obtain rfl : mm = dd := hdd
    refine lv_aload_n hx hb dX0_push_5 rfl (lv_at hl 0 rfl) ?_
    refine va_get (D := D) (ci := 0) (v := .ref (ad 3)) (C := RX0) (T := TX0) (N := 8) hx hb hts in_X0 hown hK hP 0 rfl rfl 2 (by decide) (hts _ q24) (fun _ h9 => h9) rfl dX0_push_6 ?_
    refine lv_iload_n hx hb dX0_push_9 rfl (lv_at hl 3 rfl) ?_
    refine tf_bald (v := (-1)) hx hb hK hP 3 2 rfl rfl (k := b) (by omega) (by decide) (hfb) dX0_push_10 ?_
    refine lv_if_lt (tgt := 55) hx hb dX0_push_11 (by decide) (fun c1 => ?_) (fun c1 => ?_)
    · exact after ls (lv_sub hl [0, 1, 2] rfl)
    · exact absurd (by decide) c1
  | cons a t ih =>
    intro b mm hch hmm hdd ls hl
    obtain ⟨⟨hb6, hsb, hga, hfb, hpos, hnb⟩, hch2⟩ := tf_ch_2.mp hch
    have ha6 := tf_ch_hd hch2
    have hrb := hρ (6 * a + b) (by omega)
    rw [tf_dl_2] at hdd
    refine lv_aload_n hx hb dX0_push_5 rfl (lv_at hl 0 rfl) ?_
    refine va_get (D := D) (ci := 0) (v := .ref (ad 3)) (C := RX0) (T := TX0) (N := 8) hx hb hts in_X0 hown hK hP 0 rfl rfl 2 (by decide) (hts _ q24) (fun _ h9 => h9) rfl dX0_push_6 ?_
    refine lv_iload_n hx hb dX0_push_9 rfl (lv_at hl 3 rfl) ?_
    refine tf_bald (v := nI a) hx hb hK hP 3 2 rfl rfl (k := b) (by omega) (by decide) (hfb) dX0_push_10 ?_
    refine lv_if_lt (tgt := 55) hx hb dX0_push_11 (by decide) (fun c1 => ?_) (fun c1 => ?_)
    · exact absurd c1 (nI_pos (by omega))
    · refine lv_aload_n hx hb dX0_push_14 rfl (lv_at hl 0 rfl) ?_
      refine va_get (D := D) (ci := 0) (v := .ref (ad 2)) (C := RX0) (T := TX0) (N := 8) hx hb hts in_X0 hown hK hP 0 rfl rfl 1 (by decide) (hts _ q23) (fun _ h9 => h9) rfl dX0_push_15 ?_
      refine lv_aload_n hx hb dX0_push_18 rfl (lv_at hl 0 rfl) ?_
      refine va_get (D := D) (ci := 0) (v := .ref (ad 3)) (C := RX0) (T := TX0) (N := 8) hx hb hts in_X0 hown hK hP 0 rfl rfl 2 (by decide) (hts _ q24) (fun _ h9 => h9) rfl dX0_push_19 ?_
      refine lv_iload_n hx hb dX0_push_22 rfl (lv_at hl 3 rfl) ?_
      refine tf_bald (v := nI a) hx hb hK hP 3 2 rfl rfl (k := b) (by omega) (by decide) (hfb) dX0_push_23 ?_
      refine lv_bipush (v := nI 6) hx hb dX0_push_24 (by decide) ?_
      refine lv_imul hx hb dX0_push_26 ?_
      refine lv_iload_n hx hb dX0_push_27 rfl (lv_at hl 3 rfl) ?_
      refine lv_iadd hx hb dX0_push_28 ?_
      refine tf_top (nI (6 * a + b)) (tf_ix _ _) ?_
      refine tf_iald (v := nI (ρ (6 * a + b))) hx hb hK hP 2 1 rfl rfl (k := 6 * a + b) (by omega) (by decide) (hr0 _ (by omega)) dX0_push_29 ?_
      refine lv_istore (lv' := [(4, .int (nI (ρ (6 * a + b)))), (0, .ref (ad 0)), (1, .int (nI G)), (2, .int (nI mm)), (3, .int (nI b))]) hx hb dX0_push_30 hl (by decide) rfl (fun ls hl => ?_)
      refine lv_iload hx hb dX0_push_32 (lv_at hl 0 rfl) ?_
      refine lv_iload_n hx hb dX0_push_34 rfl (lv_at hl 3 rfl) ?_
      refine lv_icmp_ge (tgt := 43) hx hb dX0_push_35 (by decide) (fun c2 => ?_) (fun c2 => ?_)
      · rw [tf_leN (by omega) (by omega)] at c2
        rw [if_neg (by omega)] at hdd
        refine lv_iload_n hx hb dX0_push_43 rfl (lv_at hl 3 rfl) ?_
        refine lv_istore_n (lv' := [(2, .int (nI mm)), (4, .int (nI (ρ (6 * a + b)))), (0, .ref (ad 0)), (1, .int (nI G)), (3, .int (nI b))]) hx hb dX0_push_44 rfl hl (by decide) rfl (fun ls hl => ?_)
        refine lv_aload_n hx hb dX0_push_45 rfl (lv_at hl 2 rfl) ?_
        refine va_get (D := D) (ci := 0) (v := .ref (ad 3)) (C := RX0) (T := TX0) (N := 8) hx hb hts in_X0 hown hK hP 0 rfl rfl 2 (by decide) (hts _ q24) (fun _ h9 => h9) rfl dX0_push_46 ?_
        refine lv_iload_n hx hb dX0_push_49 rfl (lv_at hl 4 rfl) ?_
        refine tf_bald (v := nI a) hx hb hK hP 3 2 rfl rfl (k := b) (by omega) (by decide) (hfb) dX0_push_50 ?_
        refine lv_istore_n (lv' := [(3, .int (nI a)), (2, .int (nI mm)), (4, .int (nI (ρ (6 * a + b)))), (0, .ref (ad 0)), (1, .int (nI G))]) hx hb dX0_push_51 rfl hl (by decide) rfl (fun ls hl => ?_)
        refine lv_goto (tgt := 5) hx hb dX0_push_52 (by decide) ?_
        exact ih a mm hch2 hmm hdd ls (lv_sub hl [3, 4, 1, 0] rfl)
      · rw [tf_leN (by omega) (by omega)] at c2
        rw [if_pos (by omega)] at hdd
        refine lv_iload hx hb dX0_push_38 (lv_at hl 0 rfl) ?_
        refine lv_goto (tgt := 44) hx hb dX0_push_40 (by decide) ?_
        refine lv_istore_n (lv' := [(2, .int (nI (ρ (6 * a + b)))), (4, .int (nI (ρ (6 * a + b)))), (0, .ref (ad 0)), (1, .int (nI G)), (3, .int (nI b))]) hx hb dX0_push_44 rfl hl (by decide) rfl (fun ls hl => ?_)
        refine lv_aload_n hx hb dX0_push_45 rfl (lv_at hl 2 rfl) ?_
        refine va_get (D := D) (ci := 0) (v := .ref (ad 3)) (C := RX0) (T := TX0) (N := 8) hx hb hts in_X0 hown hK hP 0 rfl rfl 2 (by decide) (hts _ q24) (fun _ h9 => h9) rfl dX0_push_46 ?_
        refine lv_iload_n hx hb dX0_push_49 rfl (lv_at hl 4 rfl) ?_
        refine tf_bald (v := nI a) hx hb hK hP 3 2 rfl rfl (k := b) (by omega) (by decide) (hfb) dX0_push_50 ?_
        refine lv_istore_n (lv' := [(3, .int (nI a)), (2, .int (nI (ρ (6 * a + b)))), (4, .int (nI (ρ (6 * a + b)))), (0, .ref (ad 0)), (1, .int (nI G))]) hx hb dX0_push_51 rfl hl (by decide) rfl (fun ls hl => ?_)
        refine lv_goto (tgt := 5) hx hb dX0_push_52 (by decide) ?_
        exact ih a (ρ (6 * a + b)) hch2 (by omega) hdd ls (lv_sub hl [3, 4, 1, 0] rfl)
set_option maxHeartbeats 4000000 in
set_option maxRecDepth 100000 in
/-- push: along the way -/
theorem lX0_push_2 (l : Launch) {p : Program} {e : Env} {s : State} {m : MethodId} {args : Array Value} {below : List Frame} {meth : Method} {c : Code} {Q : State → Prop} {D : va_G} {A : Nat → Prop} (ad : Nat → Nat) (ds : Nat → ClassId) (c0 f0 l0 : Nat → Int32) (kn fi se bo : Int32) (S : CallFix p m c cX0_push 5 s args lw_all RX0) (hK : va_K D vwCl (tyX ds) s) (src goal G dd : Nat) (ρ0 : Nat → Nat) (after : ∀ (a : Nat) (ρ : Nat → Nat) (r1 : Nat → Int32) (H : Heap) (locs : List Loc) (ls : Array Slot), tf_AG ρ0 ρ src goal dd G [a] → tf_Rr r1 ρ → va_P D vwCl (wX ad ds (c0, r1, f0, l0, kn, fi, se, bo)) H → va_D A (wX ad ds (c0, r1, f0, l0, kn, fi, se, bo)) → va_S A s.heap H locs → lv_has ls 5 [(0, .ref (ad 0)), (2, .int (nI dd))] → W p l e ({ frames := 0, cells := 0, slots := 0, locals := 0 }) s m args below meth c H locs 0 0 Q (F0 m 116 ls [])) : ∀ (L : List Nat) (b : Nat) (ρ : Nat → Nat) (r1 : Nat → Int32) (H : Heap) (locs : List Loc), tf_ch f0 ρ0 src goal (b :: L) → tf_le ρ0 dd (b :: L) → tf_AG ρ0 ρ src goal dd G (b :: L) → tf_Rr r1 ρ → va_P D vwCl (wX ad ds (c0, r1, f0, l0, kn, fi, se, bo)) H → va_D A (wX ad ds (c0, r1, f0, l0, kn, fi, se, bo)) → va_S A s.heap H locs → ∀ (ls : Array Slot), lv_has ls 5 [(0, .ref (ad 0)), (2, .int (nI dd)), (3, .int (nI b))] → W p l e ({ frames := 0, cells := 0, slots := 0, locals := 0 }) s m args below meth c H locs 0 0 Q (F0 m 57 ls []) := by
  obtain ⟨hx, hb, hml, hown, hts⟩ := id S
  intro L
  induction L with
  | nil =>
    intro b ρ r1 H locs hch hle hAG hR hP hD hS ls hl
    obtain ⟨hb6, hsb, hfb⟩ := tf_ch_1.mp hch
    refine lv_aload_n hx hb dX0_push_57 rfl (lv_at hl 0 rfl) ?_
    refine va_get (D := D) (ci := 0) (v := .ref (ad 3)) (C := RX0) (T := TX0) (N := 8) hx hb hts in_X0 hown hK hP 0 rfl rfl 2 (by decide) (hts _ q24) (fun _ h9 => h9) rfl dX0_push_58 ?_
    refine lv_iload_n hx hb dX0_push_61 rfl (lv_at hl 2 rfl) ?_
    refine tf_bald (v := (-1)) hx hb hK hP 3 2 rfl rfl (k := b) (by omega) (by decide) (hfb) dX0_push_62 ?_
    refine lv_if_lt (tgt := 116) hx hb dX0_push_63 (by decide) (fun c1 => ?_) (fun c1 => ?_)
    · exact after b ρ r1 H locs ls hAG hR hP hD hS (lv_sub hl [0, 1] rfl)
    · exact absurd (by decide) c1
  | cons a t ih =>
    intro b ρ r1 H locs hch hle hAG hR hP hD hS ls hl
    obtain ⟨⟨hb6, hsb, hga, hfb, hpos, hnb⟩, hch2⟩ := tf_ch_2.mp hch
    have ha6 := tf_ch_hd hch2
    have hab : a ≠ b := fun q => hnb (by rw [q]; exact List.mem_cons_self)
    have hdl := tf_AG_d (f := f0) hle hAG
    refine lv_aload_n hx hb dX0_push_57 rfl (lv_at hl 0 rfl) ?_
    refine va_get (D := D) (ci := 0) (v := .ref (ad 3)) (C := RX0) (T := TX0) (N := 8) hx hb hts in_X0 hown hK hP 0 rfl rfl 2 (by decide) (hts _ q24) (fun _ h9 => h9) rfl dX0_push_58 ?_
    refine lv_iload_n hx hb dX0_push_61 rfl (lv_at hl 2 rfl) ?_
    refine tf_bald (v := nI a) hx hb hK hP 3 2 rfl rfl (k := b) (by omega) (by decide) (hfb) dX0_push_62 ?_
    refine lv_if_lt (tgt := 116) hx hb dX0_push_63 (by decide) (fun c1 => ?_) (fun c1 => ?_)
    · exact absurd c1 (nI_pos (by omega))
    · refine lv_aload_n hx hb dX0_push_66 rfl (lv_at hl 0 rfl) ?_
      refine va_get (D := D) (ci := 0) (v := .ref (ad 3)) (C := RX0) (T := TX0) (N := 8) hx hb hts in_X0 hown hK hP 0 rfl rfl 2 (by decide) (hts _ q24) (fun _ h9 => h9) rfl dX0_push_67 ?_
      refine lv_iload_n hx hb dX0_push_70 rfl (lv_at hl 2 rfl) ?_
      refine tf_bald (v := nI a) hx hb hK hP 3 2 rfl rfl (k := b) (by omega) (by decide) (hfb) dX0_push_71 ?_
      refine lv_istore (lv' := [(4, .int (nI a)), (0, .ref (ad 0)), (2, .int (nI dd)), (3, .int (nI b))]) hx hb dX0_push_72 hl (by decide) rfl (fun ls hl => ?_)
      refine lv_aload_n hx hb dX0_push_74 rfl (lv_at hl 1 rfl) ?_
      refine va_get (D := D) (ci := 0) (v := .ref (ad 2)) (C := RX0) (T := TX0) (N := 8) hx hb hts in_X0 hown hK hP 0 rfl rfl 1 (by decide) (hts _ q23) (fun _ h9 => h9) rfl dX0_push_75 ?_
      refine lv_iload hx hb dX0_push_78 (lv_at hl 0 rfl) ?_
      refine lv_bipush (v := nI 6) hx hb dX0_push_80 (by decide) ?_
      refine lv_imul hx hb dX0_push_82 ?_
      refine lv_iload_n hx hb dX0_push_83 rfl (lv_at hl 3 rfl) ?_
      refine lv_iadd hx hb dX0_push_84 ?_
      refine tf_top (nI (6 * a + b)) (tf_ix _ _) ?_
      refine lv_dup2_11 hx hb dX0_push_85 rfl rfl ?_
      refine tf_iald (v := nI (ρ (6 * a + b))) hx hb hK hP 2 1 rfl rfl (k := 6 * a + b) (by omega) (by decide) (hR _ (by omega)) dX0_push_86 ?_
      refine lv_iload_n hx hb dX0_push_87 rfl (lv_at hl 2 rfl) ?_
      refine lv_isub hx hb dX0_push_88 ?_
      refine tf_top (nI (ρ (6 * a + b) - dd)) (pk_sub hdl) ?_
      refine tf_iast hx hb hK hP hD hS 2 1 rfl rfl (k := 6 * a + b) (by omega) (by decide) dX0_push_89 (fun H locs hP hD hS => ?_)
      have hP : va_P D vwCl (wX ad ds (c0, upd r1 (6 * a + b) (nI (ρ (6 * a + b) - dd)), f0, l0, kn, fi, se, bo)) H := hP
      have hD : va_D A (wX ad ds (c0, upd r1 (6 * a + b) (nI (ρ (6 * a + b) - dd)), f0, l0, kn, fi, se, bo)) := hD
      refine lv_aload_n hx hb dX0_push_90 rfl (lv_at hl 1 rfl) ?_
      refine va_get (D := D) (ci := 0) (v := .ref (ad 2)) (C := RX0) (T := TX0) (N := 8) hx hb hts in_X0 hown hK hP 0 rfl rfl 1 (by decide) (hts _ q23) (fun _ h9 => h9) rfl dX0_push_91 ?_
      refine lv_iload_n hx hb dX0_push_94 rfl (lv_at hl 3 rfl) ?_
      refine lv_bipush (v := nI 6) hx hb dX0_push_95 (by decide) ?_
      refine lv_imul hx hb dX0_push_97 ?_
      refine lv_iload hx hb dX0_push_98 (lv_at hl 0 rfl) ?_
      refine lv_iadd hx hb dX0_push_100 ?_
      refine tf_top (nI (6 * b + a)) (tf_ix _ _) ?_
      refine lv_dup2_11 hx hb dX0_push_101 rfl rfl ?_
      refine tf_iald (v := nI (ρ (6 * b + a))) hx hb hK hP 2 1 rfl rfl (k := 6 * b + a) (by omega) (by decide) ((pk_un (by omega)).trans (hR _ (by omega))) dX0_push_102 ?_
      refine lv_iload_n hx hb dX0_push_103 rfl (lv_at hl 2 rfl) ?_
      refine lv_iadd hx hb dX0_push_104 ?_
      refine tf_top (nI ((ρ (6 * b + a)) + dd)) (nI_add _ _) ?_
      refine tf_iast hx hb hK hP hD hS 2 1 rfl rfl (k := 6 * b + a) (by omega) (by decide) dX0_push_105 (fun H locs hP hD hS => ?_)
      have hP : va_P D vwCl (wX ad ds (c0, upd (upd r1 (6 * a + b) (nI (ρ (6 * a + b) - dd))) (6 * b + a) (nI ((ρ (6 * b + a)) + dd)), f0, l0, kn, fi, se, bo)) H := hP
      have hD : va_D A (wX ad ds (c0, upd (upd r1 (6 * a + b) (nI (ρ (6 * a + b) - dd))) (6 * b + a) (nI ((ρ (6 * b + a)) + dd)), f0, l0, kn, fi, se, bo)) := hD
      refine lv_aload_n hx hb dX0_push_106 rfl (lv_at hl 1 rfl) ?_
      refine va_get (D := D) (ci := 0) (v := .ref (ad 3)) (C := RX0) (T := TX0) (N := 8) hx hb hts in_X0 hown hK hP 0 rfl rfl 2 (by decide) (hts _ q24) (fun _ h9 => h9) rfl dX0_push_107 ?_
      refine lv_iload_n hx hb dX0_push_110 rfl (lv_at hl 3 rfl) ?_
      refine tf_bald (v := nI a) hx hb hK hP 3 2 rfl rfl (k := b) (by omega) (by decide) (hfb) dX0_push_111 ?_
      refine lv_istore_n (lv' := [(3, .int (nI a)), (4, .int (nI a)), (0, .ref (ad 0)), (2, .int (nI dd))]) hx hb dX0_push_112 rfl hl (by decide) rfl (fun ls hl => ?_)
      refine lv_goto (tgt := 57) hx hb dX0_push_113 (by decide) ?_
      exact ih a (tf_arc ρ a b dd) _ H locs hch2 (tf_le_2.mp hle).2 (tf_AG_s hch hle hAG) (tf_Rr_arc hR ha6 hb6 hab) hP hD hS ls (lv_sub hl [2, 3, 0] rfl)
set_option maxHeartbeats 4000000 in
set_option maxRecDepth 100000 in
/-- push -/
theorem mX0_push (l : Launch) (D : va_G) (sz : Nat) (ad : Nat → Nat) (ds : Nat → ClassId) (c0 r0 f0 l0 : Nat → Int32) (kn fi se bo : Int32) (src goal : Nat) (ρ : Nat → Nat) (hr0 : tf_Rr r0 ρ) (hρ : ∀ x, x < 36 → ρ x ≤ 42) (b a : Nat) (t : List Nat) (hch : tf_ch f0 ρ src goal (b :: a :: t)) : tf_Mi l D (wX ad ds) (tyX ds) sz (c0, r0, f0, l0, kn, fi, se, bo) yX0_push cX0_push 5 (some .int) ({ frames := 0, cells := 0, slots := 0, locals := 0 }) [.ref (ad 0), .int (nI b)] (fun z u => ∃ (d a1 : Nat) (ρ1 : Nat → Nat) (r1 : Nat → Int32), z = nI d ∧ 0 < d ∧ u = (c0, r1, f0, l0, kn, fi, se, bo) ∧ tf_Rr r1 ρ1 ∧ tf_AG ρ ρ1 src goal d b [a1]) := by
  refine tf_go_i (by decide) (Nat.le_of_ble_eq_true rfl) ?_
  intro p e s m below meth c S hr hlocks A hA hP hK hD hS ls hl
  have S : CallFix p m c cX0_push 5 s _ lw_all RX0 := S
  obtain ⟨hx, hb, hml, hown, hts⟩ := id S
  have hl : lv_has ls 5 [(0, .ref (ad 0)), (1, .int (nI b))] := hl
  have hb6 := tf_ch_hd hch
  have ha6 := tf_ch_hd (tf_ch_2.mp hch).2
  have hrb := hρ (6 * a + b) (by omega)
  refine lv_ldc hx hb hown (hts _ q91) dX0_push_0 ?_
  refine tf_top (nI 1048576) (rfl) ?_
  refine lv_istore_n (lv' := [(2, .int (nI 1048576)), (0, .ref (ad 0)), (1, .int (nI b))]) hx hb dX0_push_2 rfl hl (by decide) rfl (fun ls hl => ?_)
  refine lv_iload_n hx hb dX0_push_3 rfl (lv_at hl 2 rfl) ?_
  refine lv_istore_n (lv' := [(3, .int (nI b)), (2, .int (nI 1048576)), (0, .ref (ad 0)), (1, .int (nI b))]) hx hb dX0_push_4 rfl hl (by decide) rfl (fun ls hl => ?_)
  refine lX0_push_1 l ad ds c0 r0 f0 l0 kn fi se bo S hP hK src goal b ρ hr0 hρ (tf_dl ρ 1048576 (b :: a :: t)) (fun ls hl => ?_) (a :: t) b 1048576 hch (Nat.le_refl _) rfl ls (lv_sub hl [2, 3, 1, 0] rfl)
  refine lv_iload_n hx hb dX0_push_55 rfl (lv_at hl 1 rfl) ?_
  refine lv_istore_n (lv' := [(3, .int (nI b)), (0, .ref (ad 0)), (1, .int (nI b)), (2, .int (nI (tf_dl ρ 1048576 (b :: a :: t))))]) hx hb dX0_push_56 rfl hl (by decide) rfl (fun ls hl => ?_)
  refine lX0_push_2 l ad ds c0 f0 l0 kn fi se bo S hK src goal b _ ρ (fun a1 ρ1 r1 H locs ls hAG hR hP hD hS hl => ?_) (a :: t) b ρ r0 _ _ hch (tf_dl_ok ρ _ _) (tf_AG_0 (by omega)) hr0 hP hD hS ls (lv_sub hl [1, 3, 0] rfl)
  refine lv_iload_n hx hb dX0_push_116 rfl (lv_at hl 1 rfl) ?_
  exact tf_iret (wf := wX ad ds) (c0, r1, f0, l0, kn, fi, se, bo) hx hb hr rfl hlocks hP hK hD hS (⟨_, a1, ρ1, r1, rfl, tf_dl_pos hch (by decide), rfl, hR, hAG⟩) dX0_push_117
set_option maxHeartbeats 4000000 in
set_option maxRecDepth 100000 in
/-- flow: the rooms -/
theorem lX0_flow_1 (l : Launch) {p : Program} {e : Env} {s : State} {m : MethodId} {args : Array Value} {below : List Frame} {meth : Method} {c : Code} {Q : State → Prop} {D : va_G} {A : Nat → Prop} (ad : Nat → Nat) (ds : Nat → ClassId) (c0 f0 l0 : Nat → Int32) (kn fi se bo : Int32) (S : CallFix p m c cX0_flow 6 s args lw_all RX0) (hK : va_K D vwCl (tyX ds) s) (src goal : Nat) (g : Nat → Nat) (hc : tf_Rr c0 g) (after : ∀ (r1 : Nat → Int32) (H : Heap) (locs : List Loc) (ls : Array Slot), tf_Rr r1 g → va_P D vwCl (wX ad ds (c0, r1, f0, l0, kn, fi, se, bo)) H → va_D A (wX ad ds (c0, r1, f0, l0, kn, fi, se, bo)) → va_S A s.heap H locs → lv_has ls 6 [(0, .ref (ad 0)), (1, .int (nI src)), (2, .int (nI goal))] → W p l e ({ frames := 2, cells := 0, slots := 0, locals := 48 }) s m args below meth c H locs 0 0 Q (F0 m 26 ls [])) : ∀ (n i : Nat) (r1 : Nat → Int32) (H : Heap) (locs : List Loc), i ≤ 36 → 37 ≤ i + n → (∀ x, x < i → r1 x = nI (g x)) → va_P D vwCl (wX ad ds (c0, r1, f0, l0, kn, fi, se, bo)) H → va_D A (wX ad ds (c0, r1, f0, l0, kn, fi, se, bo)) → va_S A s.heap H locs → ∀ (ls : Array Slot), lv_has ls 6 [(0, .ref (ad 0)), (1, .int (nI src)), (2, .int (nI goal)), (3, .int (nI i))] → W p l e ({ frames := 2, cells := 0, slots := 0, locals := 48 }) s m args below meth c H locs 0 0 Q (F0 m 2 ls []) := by
  obtain ⟨hx, hb, hml, hown, hts⟩ := id S
  intro n
  induction n with
  | zero => intro i r1 H locs h1 h2; exact absurd h2 (by omega)
  | succ n ih =>
    intro i r1 H locs hi hn hR hP hD hS ls hl
    refine lv_iload_n hx hb dX0_flow_2 rfl (lv_at hl 3 rfl) ?_
    refine lv_bipush (v := nI 36) hx hb dX0_flow_3 (by decide) ?_
    refine lv_icmp_ge (tgt := 26) hx hb dX0_flow_5 (by decide) (fun c1 => ?_) (fun c1 => ?_)
    · rw [tf_leN (by omega) (by omega)] at c1
      obtain rfl : i = 36 := by omega
      exact after r1 H locs ls hR hP hD hS (lv_sub hl [0, 1, 2] rfl)
    · rw [tf_leN (by omega) (by omega)] at c1
      refine lv_aload_n hx hb dX0_flow_8 rfl (lv_at hl 0 rfl) ?_
      refine va_get (D := D) (ci := 0) (v := .ref (ad 2)) (C := RX0) (T := TX0) (N := 8) hx hb hts in_X0 hown hK hP 0 rfl rfl 1 (by decide) (hts _ q23) (fun _ h9 => h9) rfl dX0_flow_9 ?_
      refine lv_iload_n hx hb dX0_flow_12 rfl (lv_at hl 3 rfl) ?_
      refine lv_aload_n hx hb dX0_flow_13 rfl (lv_at hl 0 rfl) ?_
      refine va_get (D := D) (ci := 0) (v := .ref (ad 1)) (C := RX0) (T := TX0) (N := 8) hx hb hts in_X0 hown hK hP 0 rfl rfl 0 (by decide) (hts _ q22) (fun _ h9 => h9) rfl dX0_flow_14 ?_
      refine lv_iload_n hx hb dX0_flow_17 rfl (lv_at hl 3 rfl) ?_
      refine tf_bald (v := nI (g i)) hx hb hK hP 1 0 rfl rfl (k := i) (by omega) (by decide) (hc _ (by omega)) dX0_flow_18 ?_
      refine tf_iast hx hb hK hP hD hS 2 1 rfl rfl (k := i) (by omega) (by decide) dX0_flow_19 (fun H locs hP hD hS => ?_)
      have hP : va_P D vwCl (wX ad ds (c0, upd r1 i (nI (g i)), f0, l0, kn, fi, se, bo)) H := hP
      have hD : va_D A (wX ad ds (c0, upd r1 i (nI (g i)), f0, l0, kn, fi, se, bo)) := hD
      refine lv_iinc (v := nI (i + 1)) (lv' := [(3, .int (nI (i + 1))), (0, .ref (ad 0)), (1, .int (nI src)), (2, .int (nI goal))]) hx hb dX0_flow_20 hl (k := 3) rfl (tf_inc1 _) (by decide) rfl (fun ls hl => ?_)
      refine lv_goto (tgt := 2) hx hb dX0_flow_23 (by decide) ?_
      refine ih (i + 1) _ H locs (by omega) (by omega) (fun x hx => ?_) hP hD hS ls (lv_sub hl [1, 2, 3, 0] rfl)
      by_cases q : x = i
      · rw [q, pk_us]
      · rw [pk_un q]; exact hR x (by omega)
set_option maxHeartbeats 4000000 in
set_option maxRecDepth 100000 in
/-- flow: the rounds -/
theorem lX0_flow_2 (l : Launch) {p : Program} {e : Env} {s : State} {m : MethodId} {args : Array Value} {below : List Frame} {meth : Method} {c : Code} {Q : State → Prop} {D : va_G} {A : Nat → Prop} (ad : Nat → Nat) (ds : Nat → ClassId) (c0 : Nat → Int32) (kn fi se bo : Int32) (S : CallFix p m c cX0_flow 6 s args lw_all RX0) (hK : va_K D vwCl (tyX ds) s) (hA : ∀ q : Nat, s.heap.size ≤ q → A q) (src goal : Nat) (hpr : tf_pair src goal) (g : Nat → Nat) (hg : tf_ok 21 g) (fin : ∀ (v : Nat) (r1 f1 l1 : Nat → Int32) (H : Heap) (locs : List Loc) (ls : Array Slot), tf_mc g src goal v → va_P D vwCl (wX ad ds (c0, r1, f1, l1, kn, fi, se, bo)) H → va_D A (wX ad ds (c0, r1, f1, l1, kn, fi, se, bo)) → va_S A s.heap H locs → W p l e ({ frames := 2, cells := 0, slots := 0, locals := 48 }) s m args below meth c H locs 0 0 Q (F0 m 53 ls [.int (nI v)])) : ∀ (n i v : Nat) (ρ : Nat → Nat) (r1 f1 l1 : Nat → Int32) (H : Heap) (locs : List Loc), i + tf_ph ρ src goal ≤ 88 → 89 ≤ i + n → tf_fl g ρ src goal v → tf_Rr r1 ρ → va_P D vwCl (wX ad ds (c0, r1, f1, l1, kn, fi, se, bo)) H → va_D A (wX ad ds (c0, r1, f1, l1, kn, fi, se, bo)) → va_S A s.heap H locs → ∀ (ls : Array Slot), lv_has ls 6 [(0, .ref (ad 0)), (1, .int (nI src)), (2, .int (nI goal)), (3, .int (nI v)), (4, .int (nI i))] → W p l e ({ frames := 2, cells := 0, slots := 0, locals := 48 }) s m args below meth c H locs 0 0 Q (F0 m 31 ls []) := by
  obtain ⟨hx, hb, hml, hown, hts⟩ := id S
  intro n
  induction n with
  | zero => intro i v ρ r1 f1 l1 H locs h1 h2; exact absurd h2 (by omega)
  | succ n ih =>
    intro i v ρ r1 f1 l1 H locs hi hn hfl hR hP hD hS ls hl
    have hρ := tf_fl_bd hg hfl
    refine lv_iload hx hb dX0_flow_31 (lv_at hl 4 rfl) ?_
    refine lv_sipush (v := nI 128) hx hb dX0_flow_33 (by decide) ?_
    refine lv_icmp_ge (tgt := 69) hx hb dX0_flow_36 (by decide) (fun c1 => ?_) (fun c1 => ?_)
    · rw [tf_leN (by omega) (by omega)] at c1
      exact absurd c1 (by omega)
    · rw [tf_leN (by omega) (by omega)] at c1
      refine lv_aload_n hx hb dX0_flow_39 rfl (lv_at hl 0 rfl) ?_
      refine lv_iload_n hx hb dX0_flow_40 rfl (lv_at hl 1 rfl) ?_
      refine lv_iload_n hx hb dX0_flow_41 rfl (lv_at hl 2 rfl) ?_
      refine tf_calli (wf := wX ad ds) (u := (c0, r1, f1, l1, kn, fi, se, bo)) (wr := []) (As := [.int (nI src), .int (nI goal)]) (rest := []) (ci := 0) (q0 := 0) S hP hK hD hS hA [0, 1, 2, 3, 4] [] [0, 1, 2, 3] rfl (by decide) rfl (by decide) (by decide) rfl (mX0_spread l D _ ad ds c0 r1 f1 l1 kn fi se bo src goal hpr ρ hR hρ) rfl rfl (cwV 2 hts (lw_V q83 q85 qs3 q12 q86) rfl rfl rfl (by decide +kernel) ⟨Nat.le_of_ble_eq_true rfl, Nat.le_of_ble_eq_true rfl⟩) rfl hl.1 rfl (Nat.le_of_ble_eq_true rfl) dX0_flow_42 ⟨Nat.le_of_ble_eq_true rfl, Nat.le_of_ble_eq_true rfl⟩ (fun r_1 u' H locs hw hP hD hS => ?_)
      obtain ⟨f2, l2, he, hcase⟩ := hw
      subst he
      have hP : va_P D vwCl (wX ad ds (c0, r1, f2, l2, kn, fi, se, bo)) H := hP
      have hD : va_D A (wX ad ds (c0, r1, f2, l2, kn, fi, se, bo)) := hD
      rcases hcase with ⟨rfl, F, hF, hsep, hw0⟩ | ⟨b, a, t, rfl, hb6, hgb, hch⟩
      · refine lv_istore (lv' := [(5, .int (-1)), (0, .ref (ad 0)), (1, .int (nI src)), (2, .int (nI goal)), (3, .int (nI v)), (4, .int (nI i))]) hx hb dX0_flow_45 hl (by decide) rfl (fun ls hl => ?_)
        refine lv_iload hx hb dX0_flow_47 (lv_at hl 0 rfl) ?_
        refine lv_if_ge (tgt := 54) hx hb dX0_flow_49 (by decide) (fun c2 => ?_) (fun c2 => ?_)
        · exact absurd c2 (by decide)
        · refine lv_iload_n hx hb dX0_flow_52 rfl (lv_at hl 4 rfl) ?_
          exact fin v r1 f2 l2 H locs ls (tf_fl_end hfl hF hsep hw0) hP hD hS
      · refine lv_istore (lv' := [(5, .int (nI b)), (0, .ref (ad 0)), (1, .int (nI src)), (2, .int (nI goal)), (3, .int (nI v)), (4, .int (nI i))]) hx hb dX0_flow_45 hl (by decide) rfl (fun ls hl => ?_)
        refine lv_iload hx hb dX0_flow_47 (lv_at hl 0 rfl) ?_
        refine lv_if_ge (tgt := 54) hx hb dX0_flow_49 (by decide) (fun c2 => ?_) (fun c2 => ?_)
        · refine lv_iload_n hx hb dX0_flow_54 rfl (lv_at hl 4 rfl) ?_
          refine lv_aload_n hx hb dX0_flow_55 rfl (lv_at hl 1 rfl) ?_
          refine lv_iload hx hb dX0_flow_56 (lv_at hl 0 rfl) ?_
          refine tf_calli (wf := wX ad ds) (u := (c0, r1, f2, l2, kn, fi, se, bo)) (wr := []) (As := [.int (nI b)]) (rest := [.int (nI v)]) (ci := 0) (q0 := 0) S hP hK hD hS hA [0, 1, 2, 3, 4] [] [0, 1, 2, 3] rfl (by decide) rfl (by decide) (by decide) rfl (mX0_push l D _ ad ds c0 r1 f2 l2 kn fi se bo src goal ρ hR hρ b a t hch) rfl rfl (cwV 1 hts (lw_V q87 q89 qs4 q12 q90) rfl rfl rfl (by decide +kernel) ⟨Nat.le_of_ble_eq_true rfl, Nat.le_of_ble_eq_true rfl⟩) rfl hl.1 rfl (Nat.le_of_ble_eq_true rfl) dX0_flow_58 ⟨Nat.le_of_ble_eq_true rfl, Nat.le_of_ble_eq_true rfl⟩ (fun r_2 u' H locs hw hP hD hS => ?_)
          obtain ⟨d, a1, ρ1, r3, rfl, hd, he, hR3, hAG⟩ := hw
          subst he
          have hP : va_P D vwCl (wX ad ds (c0, r3, f2, l2, kn, fi, se, bo)) H := hP
          have hD : va_D A (wX ad ds (c0, r3, f2, l2, kn, fi, se, bo)) := hD
          refine lv_iadd hx hb dX0_flow_61 ?_
          refine tf_top (nI (v + d)) (nI_add _ _) ?_
          refine lv_istore_n (lv' := [(3, .int (nI (v + d))), (5, .int (nI b)), (0, .ref (ad 0)), (1, .int (nI src)), (2, .int (nI goal)), (4, .int (nI i))]) hx hb dX0_flow_62 rfl hl (by decide) rfl (fun ls hl => ?_)
          refine lv_iinc (v := nI (i + 1)) (lv' := [(4, .int (nI (i + 1))), (3, .int (nI (v + d))), (5, .int (nI b)), (0, .ref (ad 0)), (1, .int (nI src)), (2, .int (nI goal))]) hx hb dX0_flow_63 hl (k := 5) rfl (tf_inc1 _) (by decide) rfl (fun ls hl => ?_)
          refine lv_goto (tgt := 31) hx hb dX0_flow_66 (by decide) ?_
          have hdec := tf_ph_s hd hAG
          exact ih (i + 1) (v + d) ρ1 r3 f2 l2 H locs (by omega) (by omega) (tf_fl_s hfl hb6 hgb hAG) hR3 hP hD hS ls (lv_sub hl [3, 4, 5, 1, 0] rfl)
        · exact absurd (nI_pos' (by omega)) c2
set_option maxHeartbeats 4000000 in
set_option maxRecDepth 100000 in
/-- flow -/
theorem mX0_flow (l : Launch) (D : va_G) (sz : Nat) (ad : Nat → Nat) (ds : Nat → ClassId) (c0 r0 f0 l0 : Nat → Int32) (kn fi se bo : Int32) (g : Nat → Nat) (hg : tf_ok 21 g) (hc : tf_Rr c0 g) (src goal : Nat) (hpr : tf_pair src goal) : tf_Mi l D (wX ad ds) (tyX ds) sz (c0, r0, f0, l0, kn, fi, se, bo) yX0_flow cX0_flow 6 (some .int) ({ frames := 2, cells := 0, slots := 0, locals := 48 }) [.ref (ad 0), .int (nI src), .int (nI goal)] (fun z u => ∃ (v : Nat) (r1 f1 l1 : Nat → Int32), z = nI v ∧ tf_mc g src goal v ∧ u = (c0, r1, f1, l1, kn, fi, se, bo)) := by
  refine tf_go_i (by decide) (Nat.le_of_ble_eq_true rfl) ?_
  intro p e s m below meth c S hr hlocks A hA hP hK hD hS ls hl
  have S : CallFix p m c cX0_flow 6 s _ lw_all RX0 := S
  obtain ⟨hx, hb, hml, hown, hts⟩ := id S
  have hl : lv_has ls 6 [(0, .ref (ad 0)), (1, .int (nI src)), (2, .int (nI goal))] := hl
  refine lv_iconst (v := nI 0) hx hb dX0_flow_0 (by decide) ?_
  refine lv_istore_n (lv' := [(3, .int (nI 0)), (0, .ref (ad 0)), (1, .int (nI src)), (2, .int (nI goal))]) hx hb dX0_flow_1 rfl hl (by decide) rfl (fun ls hl => ?_)
  refine lX0_flow_1 l ad ds c0 f0 l0 kn fi se bo S hK src goal g hc (fun r1 H locs ls hR hP hD hS hl => ?_) 37 0 r0 _ _ (by omega) (by omega) (fun x hx => absurd hx (by omega)) hP hD hS ls (lv_sub hl [1, 2, 3, 0] rfl)
  refine lv_iconst (v := nI 0) hx hb dX0_flow_26 (by decide) ?_
  refine lv_istore_n (lv' := [(3, .int (nI 0)), (0, .ref (ad 0)), (1, .int (nI src)), (2, .int (nI goal))]) hx hb dX0_flow_27 rfl hl (by decide) rfl (fun ls hl => ?_)
  refine lv_iconst (v := nI 0) hx hb dX0_flow_28 (by decide) ?_
  refine lv_istore (lv' := [(4, .int (nI 0)), (3, .int (nI 0)), (0, .ref (ad 0)), (1, .int (nI src)), (2, .int (nI goal))]) hx hb dX0_flow_29 hl (by decide) rfl (fun ls hl => ?_)
  have hph : tf_ph g src goal ≤ 88 := Nat.le_trans (tf_ph_0 src goal hg.2) (tf_pair_ok hpr).2.2.2
  refine lX0_flow_2 l ad ds c0 kn fi se bo S hK hA src goal hpr g hg (fun v r1 f1 l1 H locs ls hmc hP hD hS => ?_) 89 0 0 g r1 f0 l0 _ _ (by omega) (by omega) (tf_fl_0 hg (fun _ _ => rfl)) hR hP hD hS ls (lv_sub hl [2, 3, 4, 1, 0] rfl)
  exact tf_iret (wf := wX ad ds) (c0, r1, f1, l1, kn, fi, se, bo) hx hb hr rfl hlocks hP hK hD hS (⟨v, r1, f1, l1, rfl, hmc, rfl⟩) dX0_flow_53
end
section
set_option maxHeartbeats 4000000 in
set_option maxRecDepth 100000 in
/-- learn -/
theorem mX0_learn (l : Launch) (D : va_G) (sz : Nat) (ad : Nat → Nat) (ds : Nat → ClassId) (c0 r0 f0 l0 : Nat → Int32) (kn fi se bo : Int32) (g : Nat → Nat) (hg : tf_ok 21 g) (hc : tf_XS g (c0, r0, f0, l0, kn, fi, se, bo)) : tf_Mv l D (wX ad ds) (tyX ds) sz (c0, r0, f0, l0, kn, fi, se, bo) yX0_learn cX0_learn 3 ({ frames := 3, cells := 0, slots := 0, locals := 73 }) [.ref (ad 0)] (fun u => tf_XK g u) := by
  refine tf_go_v (by decide) (Nat.le_of_ble_eq_true rfl) ?_
  intro p e s m below meth c S hr hlocks A hA hP hK hD hS ls hl
  have S : CallFix p m c cX0_learn 3 s _ lw_all RX0 := S
  obtain ⟨hx, hb, hml, hown, hts⟩ := id S
  have hl : lv_has ls 3 [(0, .ref (ad 0))] := hl
  refine lv_aload_n hx hb dX0_learn_0 rfl (lv_at hl 0 rfl) ?_
  refine va_get (D := D) (ci := 0) (v := .int kn) (C := RX0) (T := TX0) (N := 8) hx hb hts in_X0 hown hK hP 0 rfl rfl 4 (by decide) (hts _ q26) (fun _ h9 => h9) rfl dX0_learn_1 ?_
  refine lv_if_eq (tgt := 8) hx hb dX0_learn_4 (by decide) (fun c1 => ?_) (fun c1 => ?_)
  · refine lv_aload_n hx hb dX0_learn_8 rfl (lv_at hl 0 rfl) ?_
    refine lv_iconst (v := nI 1) hx hb dX0_learn_9 (by decide) ?_
    refine va_put (D := D) (ci := 0) (v := .int (nI 1)) (ty := .boolean) (C := RX0) (T := TX0) (N := 8) hx hb hts in_X0 tyX0 tyX0_ok nmX0 hown hK hP hD hS 0 rfl rfl 4 (by decide) (hts _ q26) (fun _ h9 => h9) rfl (by decide +kernel) rfl rfl (Nat.le_of_ble_eq_true rfl) dX0_learn_10 (fun H locs hP hD hS => ?_)
    have hP : va_P D vwCl (wX ad ds (c0, r0, f0, l0, nI 1, fi, se, bo)) H := hP
    have hD : va_D A (wX ad ds (c0, r0, f0, l0, nI 1, fi, se, bo)) := hD
    refine lv_aload_n hx hb dX0_learn_13 rfl (lv_at hl 0 rfl) ?_
    refine lv_aload_n hx hb dX0_learn_14 rfl (lv_at hl 0 rfl) ?_
    refine lv_iconst (v := nI 1) hx hb dX0_learn_15 (by decide) ?_
    refine lv_iconst (v := nI 2) hx hb dX0_learn_16 (by decide) ?_
    refine tf_calli (wf := wX ad ds) (u := (c0, r0, f0, l0, nI 1, fi, se, bo)) (wr := []) (As := [.int (nI 1), .int (nI 2)]) (rest := [.ref (ad 0)]) (ci := 0) (q0 := 0) S hP hK hD hS hA [0, 1, 2, 3, 4] [] [0, 1, 2, 3] rfl (by decide) rfl (by decide) (by decide) rfl (mX0_flow l D _ ad ds c0 r0 f0 l0 (nI 1) fi se bo g hg hc.1 1 2 (Or.inl ⟨rfl, rfl⟩)) rfl rfl (cwV 2 hts (lw_V q79 q81 qs2 q12 q82) rfl rfl rfl (by decide +kernel) ⟨Nat.le_of_ble_eq_true rfl, Nat.le_of_ble_eq_true rfl⟩) rfl hl.1 rfl (Nat.le_of_ble_eq_true rfl) dX0_learn_17 ⟨Nat.le_of_ble_eq_true rfl, Nat.le_of_ble_eq_true rfl⟩ (fun r_1 u' H locs hw hP hD hS => ?_)
    obtain ⟨v1, r1, f1, l1, rfl, hm1, he⟩ := hw
    subst he
    have hP : va_P D vwCl (wX ad ds (c0, r1, f1, l1, nI 1, fi, se, bo)) H := hP
    have hD : va_D A (wX ad ds (c0, r1, f1, l1, nI 1, fi, se, bo)) := hD
    refine va_put (D := D) (ci := 0) (v := .int (nI v1)) (ty := .int) (C := RX0) (T := TX0) (N := 8) hx hb hts in_X0 tyX0 tyX0_ok nmX0 hown hK hP hD hS 0 rfl rfl 5 (by decide) (hts _ q27) (fun _ h9 => h9) rfl (by decide +kernel) rfl rfl (Nat.le_of_ble_eq_true rfl) dX0_learn_20 (fun H locs hP hD hS => ?_)
    have hP : va_P D vwCl (wX ad ds (c0, r1, f1, l1, nI 1, nI v1, se, bo)) H := hP
    have hD : va_D A (wX ad ds (c0, r1, f1, l1, nI 1, nI v1, se, bo)) := hD
    refine lv_aload_n hx hb dX0_learn_23 rfl (lv_at hl 0 rfl) ?_
    refine lv_aload_n hx hb dX0_learn_24 rfl (lv_at hl 0 rfl) ?_
    refine lv_iconst (v := nI 4) hx hb dX0_learn_25 (by decide) ?_
    refine lv_bipush (v := nI 8) hx hb dX0_learn_26 (by decide) ?_
    refine tf_calli (wf := wX ad ds) (u := (c0, r1, f1, l1, nI 1, nI v1, se, bo)) (wr := []) (As := [.int (nI 4), .int (nI 8)]) (rest := [.ref (ad 0)]) (ci := 0) (q0 := 0) S hP hK hD hS hA [0, 1, 2, 3, 4] [] [0, 1, 2, 3] rfl (by decide) rfl (by decide) (by decide) rfl (mX0_flow l D _ ad ds c0 r1 f1 l1 (nI 1) (nI v1) se bo g hg hc.1 4 8 (Or.inr (Or.inl ⟨rfl, rfl⟩))) rfl rfl (cwV 2 hts (lw_V q79 q81 qs2 q12 q82) rfl rfl rfl (by decide +kernel) ⟨Nat.le_of_ble_eq_true rfl, Nat.le_of_ble_eq_true rfl⟩) rfl hl.1 rfl (Nat.le_of_ble_eq_true rfl) dX0_learn_28 ⟨Nat.le_of_ble_eq_true rfl, Nat.le_of_ble_eq_true rfl⟩ (fun r_2 u' H locs hw hP hD hS => ?_)
    obtain ⟨v2, r2, f2, l2, rfl, hm2, he⟩ := hw
    subst he
    have hP : va_P D vwCl (wX ad ds (c0, r2, f2, l2, nI 1, nI v1, se, bo)) H := hP
    have hD : va_D A (wX ad ds (c0, r2, f2, l2, nI 1, nI v1, se, bo)) := hD
    refine va_put (D := D) (ci := 0) (v := .int (nI v2)) (ty := .int) (C := RX0) (T := TX0) (N := 8) hx hb hts in_X0 tyX0 tyX0_ok nmX0 hown hK hP hD hS 0 rfl rfl 6 (by decide) (hts _ q28) (fun _ h9 => h9) rfl (by decide +kernel) rfl rfl (Nat.le_of_ble_eq_true rfl) dX0_learn_31 (fun H locs hP hD hS => ?_)
    have hP : va_P D vwCl (wX ad ds (c0, r2, f2, l2, nI 1, nI v1, nI v2, bo)) H := hP
    have hD : va_D A (wX ad ds (c0, r2, f2, l2, nI 1, nI v1, nI v2, bo)) := hD
    refine lv_aload_n hx hb dX0_learn_34 rfl (lv_at hl 0 rfl) ?_
    refine lv_iconst (v := nI 5) hx hb dX0_learn_35 (by decide) ?_
    refine lv_bipush (v := nI 10) hx hb dX0_learn_36 (by decide) ?_
    refine tf_calli (wf := wX ad ds) (u := (c0, r2, f2, l2, nI 1, nI v1, nI v2, bo)) (wr := []) (As := [.int (nI 5), .int (nI 10)]) (rest := []) (ci := 0) (q0 := 0) S hP hK hD hS hA [0, 1, 2, 3, 4] [] [0, 1, 2, 3] rfl (by decide) rfl (by decide) (by decide) rfl (mX0_flow l D _ ad ds c0 r2 f2 l2 (nI 1) (nI v1) (nI v2) bo g hg hc.1 5 10 (Or.inr (Or.inr (Or.inl ⟨rfl, rfl⟩)))) rfl rfl (cwV 2 hts (lw_V q79 q81 qs2 q12 q82) rfl rfl rfl (by decide +kernel) ⟨Nat.le_of_ble_eq_true rfl, Nat.le_of_ble_eq_true rfl⟩) rfl hl.1 rfl (Nat.le_of_ble_eq_true rfl) dX0_learn_38 ⟨Nat.le_of_ble_eq_true rfl, Nat.le_of_ble_eq_true rfl⟩ (fun r_3 u' H locs hw hP hD hS => ?_)
    obtain ⟨v3, r3, f3, l3, rfl, hm3, he⟩ := hw
    subst he
    have hP : va_P D vwCl (wX ad ds (c0, r3, f3, l3, nI 1, nI v1, nI v2, bo)) H := hP
    have hD : va_D A (wX ad ds (c0, r3, f3, l3, nI 1, nI v1, nI v2, bo)) := hD
    refine lv_istore_n (lv' := [(1, .int (nI v3)), (0, .ref (ad 0))]) hx hb dX0_learn_41 rfl hl (by decide) rfl (fun ls hl => ?_)
    refine lv_aload_n hx hb dX0_learn_42 rfl (lv_at hl 1 rfl) ?_
    refine lv_bipush (v := nI 9) hx hb dX0_learn_43 (by decide) ?_
    refine lv_bipush (v := nI 6) hx hb dX0_learn_45 (by decide) ?_
    refine tf_calli (wf := wX ad ds) (u := (c0, r3, f3, l3, nI 1, nI v1, nI v2, bo)) (wr := []) (As := [.int (nI 9), .int (nI 6)]) (rest := []) (ci := 0) (q0 := 0) S hP hK hD hS hA [0, 1, 2, 3, 4] [] [0, 1, 2, 3] rfl (by decide) rfl (by decide) (by decide) rfl (mX0_flow l D _ ad ds c0 r3 f3 l3 (nI 1) (nI v1) (nI v2) bo g hg hc.1 9 6 (Or.inr (Or.inr (Or.inr ⟨rfl, rfl⟩)))) rfl rfl (cwV 2 hts (lw_V q79 q81 qs2 q12 q82) rfl rfl rfl (by decide +kernel) ⟨Nat.le_of_ble_eq_true rfl, Nat.le_of_ble_eq_true rfl⟩) rfl hl.1 rfl (Nat.le_of_ble_eq_true rfl) dX0_learn_47 ⟨Nat.le_of_ble_eq_true rfl, Nat.le_of_ble_eq_true rfl⟩ (fun r_4 u' H locs hw hP hD hS => ?_)
    obtain ⟨v4, r4, f4, l4, rfl, hm4, he⟩ := hw
    subst he
    have hP : va_P D vwCl (wX ad ds (c0, r4, f4, l4, nI 1, nI v1, nI v2, bo)) H := hP
    have hD : va_D A (wX ad ds (c0, r4, f4, l4, nI 1, nI v1, nI v2, bo)) := hD
    have b3 := tf_mc_bd hg hm3
    have b4 := tf_mc_bd hg hm4
    have q3 := tf_F3_of hg hm3 hm4
    refine lv_istore_n (lv' := [(2, .int (nI v4)), (1, .int (nI v3)), (0, .ref (ad 0))]) hx hb dX0_learn_50 rfl hl (by decide) rfl (fun ls hl => ?_)
    refine lv_aload_n hx hb dX0_learn_51 rfl (lv_at hl 2 rfl) ?_
    refine lv_iload_n hx hb dX0_learn_52 rfl (lv_at hl 1 rfl) ?_
    refine lv_iload_n hx hb dX0_learn_53 rfl (lv_at hl 0 rfl) ?_
    refine lv_icmp_ge (tgt := 61) hx hb dX0_learn_54 (by decide) (fun c2 => ?_) (fun c2 => ?_)
    · rw [tf_leN (by omega) (by omega)] at c2
      refine lv_iload_n hx hb dX0_learn_61 rfl (lv_at hl 0 rfl) ?_
      refine va_put (D := D) (ci := 0) (v := .int (nI v4)) (ty := .int) (C := RX0) (T := TX0) (N := 8) hx hb hts in_X0 tyX0 tyX0_ok nmX0 hown hK hP hD hS 0 rfl rfl 7 (by decide) (hts _ q29) (fun _ h9 => h9) rfl (by decide +kernel) rfl rfl (Nat.le_of_ble_eq_true rfl) dX0_learn_62 (fun H locs hP hD hS => ?_)
      have hP : va_P D vwCl (wX ad ds (c0, r4, f4, l4, nI 1, nI v1, nI v2, nI v4)) H := hP
      have hD : va_D A (wX ad ds (c0, r4, f4, l4, nI 1, nI v1, nI v2, nI v4)) := hD
      exact tf_vret (wf := wX ad ds) (c0, r4, f4, l4, nI 1, nI v1, nI v2, nI v4) hx hb hr hlocks hP hK hD hS (⟨hc.1, rfl, congrArg nI (tf_F1_of hg hm1), congrArg nI (tf_F2_of hg hm2), congrArg nI (by omega)⟩) dX0_learn_65
    · rw [tf_leN (by omega) (by omega)] at c2
      refine lv_iload_n hx hb dX0_learn_57 rfl (lv_at hl 1 rfl) ?_
      refine lv_goto (tgt := 62) hx hb dX0_learn_58 (by decide) ?_
      refine va_put (D := D) (ci := 0) (v := .int (nI v3)) (ty := .int) (C := RX0) (T := TX0) (N := 8) hx hb hts in_X0 tyX0 tyX0_ok nmX0 hown hK hP hD hS 0 rfl rfl 7 (by decide) (hts _ q29) (fun _ h9 => h9) rfl (by decide +kernel) rfl rfl (Nat.le_of_ble_eq_true rfl) dX0_learn_62 (fun H locs hP hD hS => ?_)
      have hP : va_P D vwCl (wX ad ds (c0, r4, f4, l4, nI 1, nI v1, nI v2, nI v3)) H := hP
      have hD : va_D A (wX ad ds (c0, r4, f4, l4, nI 1, nI v1, nI v2, nI v3)) := hD
      exact tf_vret (wf := wX ad ds) (c0, r4, f4, l4, nI 1, nI v1, nI v2, nI v3) hx hb hr hlocks hP hK hD hS (⟨hc.1, rfl, congrArg nI (tf_F1_of hg hm1), congrArg nI (tf_F2_of hg hm2), congrArg nI (by omega)⟩) dX0_learn_65
  · exact tf_vret (wf := wX ad ds) (c0, r0, f0, l0, kn, fi, se, bo) hx hb hr hlocks hP hK hD hS (⟨hc.1, hc.2.resolve_left c1⟩) dX0_learn_7
set_option maxHeartbeats 4000000 in
set_option maxRecDepth 100000 in
/-- carries -/
theorem mX0_carries (l : Launch) (D : va_G) (sz : Nat) (ad : Nat → Nat) (ds : Nat → ClassId) (c0 r0 f0 l0 : Nat → Int32) (kn fi se bo : Int32) (g : Nat → Nat) (hg : tf_ok 21 g) (hc : tf_XS g (c0, r0, f0, l0, kn, fi, se, bo)) (x y : Int32) : tf_Mi l D (wX ad ds) (tyX ds) sz (c0, r0, f0, l0, kn, fi, se, bo) yX0_carries cX0_carries 3 (some .boolean) ({ frames := 4, cells := 0, slots := 0, locals := 95 }) [.ref (ad 0), .int x, .int y] (fun z u => z = tf_b (tf_car g x y) ∧ tf_XK g u) := by
  refine tf_go_i (by decide) (Nat.le_of_ble_eq_true rfl) ?_
  intro p e s m below meth c S hr hlocks A hA hP hK hD hS ls hl
  have S : CallFix p m c cX0_carries 3 s _ lw_all RX0 := S
  obtain ⟨hx, hb, hml, hown, hts⟩ := id S
  have hl : lv_has ls 3 [(0, .ref (ad 0)), (1, .int x), (2, .int y)] := hl
  refine lv_aload_n hx hb dX0_carries_0 rfl (lv_at hl 0 rfl) ?_
  refine tf_callv (wf := wX ad ds) (u := (c0, r0, f0, l0, kn, fi, se, bo)) (wr := []) (As := []) (rest := []) (ci := 0) (q0 := 0) S hP hK hD hS hA [0, 1, 2, 3, 4] [] [0, 1, 2, 3] rfl (by decide) rfl (by decide) (by decide) rfl (mX0_learn l D _ ad ds c0 r0 f0 l0 kn fi se bo g hg hc) rfl rfl (cwV 0 hts (lw_V q75 q77 qs1 q12 q78) rfl rfl rfl (by decide +kernel) ⟨Nat.le_of_ble_eq_true rfl, Nat.le_of_ble_eq_true rfl⟩) rfl hl.1 rfl (Nat.le_of_ble_eq_true rfl) dX0_carries_1 ⟨Nat.le_of_ble_eq_true rfl, Nat.le_of_ble_eq_true rfl⟩ (fun u' H locs hw hP hD hS => ?_)
  obtain ⟨ca1, ra1, fa1, la1, ka1, xa1, ya1, za1⟩ := u'
  obtain ⟨hca1, hka, hxa, hya, hza⟩ := hw
  obtain rfl : ka1 = 1 := hka
  obtain rfl : xa1 = nI (tf_F1 g) := hxa
  obtain rfl : ya1 = nI (tf_F2 g) := hya
  obtain rfl : za1 = nI (tf_F3 g) := hza
  have hP : va_P D vwCl (wX ad ds (ca1, ra1, fa1, la1, 1, nI (tf_F1 g), nI (tf_F2 g), nI (tf_F3 g))) H := hP
  have hD : va_D A (wX ad ds (ca1, ra1, fa1, la1, 1, nI (tf_F1 g), nI (tf_F2 g), nI (tf_F3 g))) := hD
  have hF := tf_F_bd hg
  have e1 : tf_F1 g = min (tf_lim g 1) (tf_lim g 3) := rfl
  have e2 : tf_F2 g = min (tf_lim g 2) (tf_lim g 3) := rfl
  have e3 : tf_F3 g = tf_lim g 3 := rfl
  refine lv_iload_n hx hb dX0_carries_4 rfl (lv_at hl 1 rfl) ?_
  refine lv_if_lt (tgt := 42) hx hb dX0_carries_5 (by decide) (fun c1 => ?_) (fun c1 => ?_)
  · refine lv_iconst (v := nI 0) hx hb dX0_carries_42 (by decide) ?_
    exact tf_iret (wf := wX ad ds) (ca1, ra1, fa1, la1, 1, nI (tf_F1 g), nI (tf_F2 g), nI (tf_F3 g)) hx hb hr rfl hlocks hP hK hD hS (⟨tf_b0 (tf_car_n1 c1), ⟨hca1, rfl, rfl, rfl, rfl⟩⟩) dX0_carries_43
  · refine lv_iload_n hx hb dX0_carries_8 rfl (lv_at hl 2 rfl) ?_
    refine lv_if_lt (tgt := 42) hx hb dX0_carries_9 (by decide) (fun c2 => ?_) (fun c2 => ?_)
    · refine lv_iconst (v := nI 0) hx hb dX0_carries_42 (by decide) ?_
      exact tf_iret (wf := wX ad ds) (ca1, ra1, fa1, la1, 1, nI (tf_F1 g), nI (tf_F2 g), nI (tf_F3 g)) hx hb hr rfl hlocks hP hK hD hS (⟨tf_b0 (tf_car_n2 c2), ⟨hca1, rfl, rfl, rfl, rfl⟩⟩) dX0_carries_43
    · obtain ⟨a, ha0, rfl⟩ := nI_of c1
      obtain ⟨b, hb0, rfl⟩ := nI_of c2
      refine lv_iload_n hx hb dX0_carries_12 rfl (lv_at hl 1 rfl) ?_
      refine lv_aload_n hx hb dX0_carries_13 rfl (lv_at hl 0 rfl) ?_
      refine va_get (D := D) (ci := 0) (v := .int (nI (tf_F1 g))) (C := RX0) (T := TX0) (N := 8) hx hb hts in_X0 hown hK hP 0 rfl rfl 5 (by decide) (hts _ q27) (fun _ h9 => h9) rfl dX0_carries_14 ?_
      refine lv_icmp_gt (tgt := 42) hx hb dX0_carries_17 (by decide) (fun c3 => ?_) (fun c3 => ?_)
      · rw [tf_ltN (by omega) (by omega)] at c3
        refine lv_iconst (v := nI 0) hx hb dX0_carries_42 (by decide) ?_
        exact tf_iret (wf := wX ad ds) (ca1, ra1, fa1, la1, 1, nI (tf_F1 g), nI (tf_F2 g), nI (tf_F3 g)) hx hb hr rfl hlocks hP hK hD hS (⟨tf_b0 (by rw [tf_car_nn g ha0 hb0]; exact decide_eq_false (fun h => by omega)), ⟨hca1, rfl, rfl, rfl, rfl⟩⟩) dX0_carries_43
      · rw [tf_ltN (by omega) (by omega)] at c3
        refine lv_iload_n hx hb dX0_carries_20 rfl (lv_at hl 2 rfl) ?_
        refine lv_aload_n hx hb dX0_carries_21 rfl (lv_at hl 0 rfl) ?_
        refine va_get (D := D) (ci := 0) (v := .int (nI (tf_F2 g))) (C := RX0) (T := TX0) (N := 8) hx hb hts in_X0 hown hK hP 0 rfl rfl 6 (by decide) (hts _ q28) (fun _ h9 => h9) rfl dX0_carries_22 ?_
        refine lv_icmp_gt (tgt := 42) hx hb dX0_carries_25 (by decide) (fun c4 => ?_) (fun c4 => ?_)
        · rw [tf_ltN (by omega) (by omega)] at c4
          refine lv_iconst (v := nI 0) hx hb dX0_carries_42 (by decide) ?_
          exact tf_iret (wf := wX ad ds) (ca1, ra1, fa1, la1, 1, nI (tf_F1 g), nI (tf_F2 g), nI (tf_F3 g)) hx hb hr rfl hlocks hP hK hD hS (⟨tf_b0 (by rw [tf_car_nn g ha0 hb0]; exact decide_eq_false (fun h => by omega)), ⟨hca1, rfl, rfl, rfl, rfl⟩⟩) dX0_carries_43
        · rw [tf_ltN (by omega) (by omega)] at c4
          refine lv_iload_n hx hb dX0_carries_28 rfl (lv_at hl 1 rfl) ?_
          refine lv_aload_n hx hb dX0_carries_29 rfl (lv_at hl 0 rfl) ?_
          refine va_get (D := D) (ci := 0) (v := .int (nI (tf_F3 g))) (C := RX0) (T := TX0) (N := 8) hx hb hts in_X0 hown hK hP 0 rfl rfl 7 (by decide) (hts _ q29) (fun _ h9 => h9) rfl dX0_carries_30 ?_
          refine lv_iload_n hx hb dX0_carries_33 rfl (lv_at hl 2 rfl) ?_
          refine lv_isub hx hb dX0_carries_34 ?_
          refine tf_top (nI (tf_F3 g - b)) (pk_sub (by omega)) ?_
          refine lv_icmp_gt (tgt := 42) hx hb dX0_carries_35 (by decide) (fun c5 => ?_) (fun c5 => ?_)
          · rw [tf_ltN (by omega) (by omega)] at c5
            refine lv_iconst (v := nI 0) hx hb dX0_carries_42 (by decide) ?_
            exact tf_iret (wf := wX ad ds) (ca1, ra1, fa1, la1, 1, nI (tf_F1 g), nI (tf_F2 g), nI (tf_F3 g)) hx hb hr rfl hlocks hP hK hD hS (⟨tf_b0 (by rw [tf_car_nn g ha0 hb0]; exact decide_eq_false (fun h => by omega)), ⟨hca1, rfl, rfl, rfl, rfl⟩⟩) dX0_carries_43
          · rw [tf_ltN (by omega) (by omega)] at c5
            refine lv_iconst (v := nI 1) hx hb dX0_carries_38 (by decide) ?_
            refine lv_goto (tgt := 43) hx hb dX0_carries_39 (by decide) ?_
            exact tf_iret (wf := wX ad ds) (ca1, ra1, fa1, la1, 1, nI (tf_F1 g), nI (tf_F2 g), nI (tf_F3 g)) hx hb hr rfl hlocks hP hK hD hS (⟨tf_b1 (by rw [tf_car_nn g ha0 hb0]; exact decide_eq_true (by omega)), ⟨hca1, rfl, rfl, rfl, rfl⟩⟩) dX0_carries_43
set_option maxHeartbeats 4000000 in
set_option maxRecDepth 100000 in
/-- alone -/
theorem mX0_alone (l : Launch) (D : va_G) (sz : Nat) (ad : Nat → Nat) (ds : Nat → ClassId) (c0 r0 f0 l0 : Nat → Int32) (kn fi se bo : Int32) (g : Nat → Nat) (hg : tf_ok 21 g) (hc : tf_XS g (c0, r0, f0, l0, kn, fi, se, bo)) (x : Int32) : tf_Mi l D (wX ad ds) (tyX ds) sz (c0, r0, f0, l0, kn, fi, se, bo) yX0_alone cX0_alone 2 (some .int) ({ frames := 4, cells := 0, slots := 0, locals := 95 }) [.ref (ad 0), .int x] (fun z u => z = tf_al g x ∧ tf_XK g u) := by
  refine tf_go_i (by decide) (Nat.le_of_ble_eq_true rfl) ?_
  intro p e s m below meth c S hr hlocks A hA hP hK hD hS ls hl
  have S : CallFix p m c cX0_alone 2 s _ lw_all RX0 := S
  obtain ⟨hx, hb, hml, hown, hts⟩ := id S
  have hl : lv_has ls 2 [(0, .ref (ad 0)), (1, .int x)] := hl
  refine lv_aload_n hx hb dX0_alone_0 rfl (lv_at hl 0 rfl) ?_
  refine tf_callv (wf := wX ad ds) (u := (c0, r0, f0, l0, kn, fi, se, bo)) (wr := []) (As := []) (rest := []) (ci := 0) (q0 := 0) S hP hK hD hS hA [0, 1, 2, 3, 4] [] [0, 1, 2, 3] rfl (by decide) rfl (by decide) (by decide) rfl (mX0_learn l D _ ad ds c0 r0 f0 l0 kn fi se bo g hg hc) rfl rfl (cwV 0 hts (lw_V q75 q77 qs1 q12 q78) rfl rfl rfl (by decide +kernel) ⟨Nat.le_of_ble_eq_true rfl, Nat.le_of_ble_eq_true rfl⟩) rfl hl.1 rfl (Nat.le_of_ble_eq_true rfl) dX0_alone_1 ⟨Nat.le_of_ble_eq_true rfl, Nat.le_of_ble_eq_true rfl⟩ (fun u' H locs hw hP hD hS => ?_)
  obtain ⟨ca1, ra1, fa1, la1, ka1, xa1, ya1, za1⟩ := u'
  obtain ⟨hca1, hka, hxa, hya, hza⟩ := hw
  obtain rfl : ka1 = 1 := hka
  obtain rfl : xa1 = nI (tf_F1 g) := hxa
  obtain rfl : ya1 = nI (tf_F2 g) := hya
  obtain rfl : za1 = nI (tf_F3 g) := hza
  have hP : va_P D vwCl (wX ad ds (ca1, ra1, fa1, la1, 1, nI (tf_F1 g), nI (tf_F2 g), nI (tf_F3 g))) H := hP
  have hD : va_D A (wX ad ds (ca1, ra1, fa1, la1, 1, nI (tf_F1 g), nI (tf_F2 g), nI (tf_F3 g))) := hD
  refine lv_iload_n hx hb dX0_alone_4 rfl (lv_at hl 1 rfl) ?_
  refine lv_if_ne (tgt := 13) hx hb dX0_alone_5 (by decide) (fun c1 => ?_) (fun c1 => ?_)
  · refine lv_iload_n hx hb dX0_alone_13 rfl (lv_at hl 1 rfl) ?_
    refine lv_iconst (v := nI 1) hx hb dX0_alone_14 (by decide) ?_
    refine lv_icmp_ne (tgt := 25) hx hb dX0_alone_15 (by decide) (fun c2 => ?_) (fun c2 => ?_)
    · refine lv_iconst (v := (-1)) hx hb dX0_alone_25 (by decide) ?_
      exact tf_iret (wf := wX ad ds) (ca1, ra1, fa1, la1, 1, nI (tf_F1 g), nI (tf_F2 g), nI (tf_F3 g)) hx hb hr rfl hlocks hP hK hD hS (⟨by unfold tf_al; rw [if_neg c1, if_neg c2], ⟨hca1, rfl, rfl, rfl, rfl⟩⟩) dX0_alone_26
    · refine lv_aload_n hx hb dX0_alone_18 rfl (lv_at hl 0 rfl) ?_
      refine va_get (D := D) (ci := 0) (v := .int (nI (tf_F2 g))) (C := RX0) (T := TX0) (N := 8) hx hb hts in_X0 hown hK hP 0 rfl rfl 6 (by decide) (hts _ q28) (fun _ h9 => h9) rfl dX0_alone_19 ?_
      refine lv_goto (tgt := 26) hx hb dX0_alone_22 (by decide) ?_
      exact tf_iret (wf := wX ad ds) (ca1, ra1, fa1, la1, 1, nI (tf_F1 g), nI (tf_F2 g), nI (tf_F3 g)) hx hb hr rfl hlocks hP hK hD hS (⟨by unfold tf_al; rw [if_neg c1, if_pos c2], ⟨hca1, rfl, rfl, rfl, rfl⟩⟩) dX0_alone_26
  · refine lv_aload_n hx hb dX0_alone_8 rfl (lv_at hl 0 rfl) ?_
    refine va_get (D := D) (ci := 0) (v := .int (nI (tf_F1 g))) (C := RX0) (T := TX0) (N := 8) hx hb hts in_X0 hown hK hP 0 rfl rfl 5 (by decide) (hts _ q27) (fun _ h9 => h9) rfl dX0_alone_9 ?_
    exact tf_iret (wf := wX ad ds) (ca1, ra1, fa1, la1, 1, nI (tf_F1 g), nI (tf_F2 g), nI (tf_F3 g)) hx hb hr rfl hlocks hP hK hD hS (⟨by unfold tf_al; rw [if_pos c1], ⟨hca1, rfl, rfl, rfl, rfl⟩⟩) dX0_alone_12
set_option maxHeartbeats 4000000 in
set_option maxRecDepth 100000 in
/-- most -/
theorem mX0_most (l : Launch) (D : va_G) (sz : Nat) (ad : Nat → Nat) (ds : Nat → ClassId) (c0 r0 f0 l0 : Nat → Int32) (kn fi se bo : Int32) (g : Nat → Nat) (hg : tf_ok 21 g) (hc : tf_XS g (c0, r0, f0, l0, kn, fi, se, bo)) : tf_Mi l D (wX ad ds) (tyX ds) sz (c0, r0, f0, l0, kn, fi, se, bo) yX0_most cX0_most 1 (some .int) ({ frames := 4, cells := 0, slots := 0, locals := 95 }) [.ref (ad 0)] (fun z u => z = nI (tf_mo g) ∧ tf_XK g u) := by
  refine tf_go_i (by decide) (Nat.le_of_ble_eq_true rfl) ?_
  intro p e s m below meth c S hr hlocks A hA hP hK hD hS ls hl
  have S : CallFix p m c cX0_most 1 s _ lw_all RX0 := S
  obtain ⟨hx, hb, hml, hown, hts⟩ := id S
  have hl : lv_has ls 1 [(0, .ref (ad 0))] := hl
  refine lv_aload_n hx hb dX0_most_0 rfl (lv_at hl 0 rfl) ?_
  refine tf_callv (wf := wX ad ds) (u := (c0, r0, f0, l0, kn, fi, se, bo)) (wr := []) (As := []) (rest := []) (ci := 0) (q0 := 0) S hP hK hD hS hA [0, 1, 2, 3, 4] [] [0, 1, 2, 3] rfl (by decide) rfl (by decide) (by decide) rfl (mX0_learn l D _ ad ds c0 r0 f0 l0 kn fi se bo g hg hc) rfl rfl (cwV 0 hts (lw_V q75 q77 qs1 q12 q78) rfl rfl rfl (by decide +kernel) ⟨Nat.le_of_ble_eq_true rfl, Nat.le_of_ble_eq_true rfl⟩) rfl hl.1 rfl (Nat.le_of_ble_eq_true rfl) dX0_most_1 ⟨Nat.le_of_ble_eq_true rfl, Nat.le_of_ble_eq_true rfl⟩ (fun u' H locs hw hP hD hS => ?_)
  obtain ⟨ca1, ra1, fa1, la1, ka1, xa1, ya1, za1⟩ := u'
  obtain ⟨hca1, hka, hxa, hya, hza⟩ := hw
  obtain rfl : ka1 = 1 := hka
  obtain rfl : xa1 = nI (tf_F1 g) := hxa
  obtain rfl : ya1 = nI (tf_F2 g) := hya
  obtain rfl : za1 = nI (tf_F3 g) := hza
  have hP : va_P D vwCl (wX ad ds (ca1, ra1, fa1, la1, 1, nI (tf_F1 g), nI (tf_F2 g), nI (tf_F3 g))) H := hP
  have hD : va_D A (wX ad ds (ca1, ra1, fa1, la1, 1, nI (tf_F1 g), nI (tf_F2 g), nI (tf_F3 g))) := hD
  have hF := tf_F_bd hg
  have e1 : tf_F1 g = min (tf_lim g 1) (tf_lim g 3) := rfl
  have e2 : tf_F2 g = min (tf_lim g 2) (tf_lim g 3) := rfl
  have e3 : tf_F3 g = tf_lim g 3 := rfl
  refine lv_aload_n hx hb dX0_most_4 rfl (lv_at hl 0 rfl) ?_
  refine va_get (D := D) (ci := 0) (v := .int (nI (tf_F1 g))) (C := RX0) (T := TX0) (N := 8) hx hb hts in_X0 hown hK hP 0 rfl rfl 5 (by decide) (hts _ q27) (fun _ h9 => h9) rfl dX0_most_5 ?_
  refine lv_aload_n hx hb dX0_most_8 rfl (lv_at hl 0 rfl) ?_
  refine va_get (D := D) (ci := 0) (v := .int (nI (tf_F2 g))) (C := RX0) (T := TX0) (N := 8) hx hb hts in_X0 hown hK hP 0 rfl rfl 6 (by decide) (hts _ q28) (fun _ h9 => h9) rfl dX0_most_9 ?_
  refine lv_iadd hx hb dX0_most_12 ?_
  refine tf_top (nI ((tf_F1 g) + (tf_F2 g))) (nI_add _ _) ?_
  refine lv_aload_n hx hb dX0_most_13 rfl (lv_at hl 0 rfl) ?_
  refine va_get (D := D) (ci := 0) (v := .int (nI (tf_F3 g))) (C := RX0) (T := TX0) (N := 8) hx hb hts in_X0 hown hK hP 0 rfl rfl 7 (by decide) (hts _ q29) (fun _ h9 => h9) rfl dX0_most_14 ?_
  refine lv_icmp_ge (tgt := 32) hx hb dX0_most_17 (by decide) (fun c1 => ?_) (fun c1 => ?_)
  · rw [tf_leN (by omega) (by omega)] at c1
    refine lv_aload_n hx hb dX0_most_32 rfl (lv_at hl 0 rfl) ?_
    refine va_get (D := D) (ci := 0) (v := .int (nI (tf_F3 g))) (C := RX0) (T := TX0) (N := 8) hx hb hts in_X0 hown hK hP 0 rfl rfl 7 (by decide) (hts _ q29) (fun _ h9 => h9) rfl dX0_most_33 ?_
    exact tf_iret (wf := wX ad ds) (ca1, ra1, fa1, la1, 1, nI (tf_F1 g), nI (tf_F2 g), nI (tf_F3 g)) hx hb hr rfl hlocks hP hK hD hS (⟨congrArg nI (by unfold tf_mo; omega), ⟨hca1, rfl, rfl, rfl, rfl⟩⟩) dX0_most_36
  · rw [tf_leN (by omega) (by omega)] at c1
    refine lv_aload_n hx hb dX0_most_20 rfl (lv_at hl 0 rfl) ?_
    refine va_get (D := D) (ci := 0) (v := .int (nI (tf_F1 g))) (C := RX0) (T := TX0) (N := 8) hx hb hts in_X0 hown hK hP 0 rfl rfl 5 (by decide) (hts _ q27) (fun _ h9 => h9) rfl dX0_most_21 ?_
    refine lv_aload_n hx hb dX0_most_24 rfl (lv_at hl 0 rfl) ?_
    refine va_get (D := D) (ci := 0) (v := .int (nI (tf_F2 g))) (C := RX0) (T := TX0) (N := 8) hx hb hts in_X0 hown hK hP 0 rfl rfl 6 (by decide) (hts _ q28) (fun _ h9 => h9) rfl dX0_most_25 ?_
    refine lv_iadd hx hb dX0_most_28 ?_
    refine tf_top (nI ((tf_F1 g) + (tf_F2 g))) (nI_add _ _) ?_
    refine lv_goto (tgt := 36) hx hb dX0_most_29 (by decide) ?_
    exact tf_iret (wf := wX ad ds) (ca1, ra1, fa1, la1, 1, nI (tf_F1 g), nI (tf_F2 g), nI (tf_F3 g)) hx hb hr rfl hlocks hP hK hD hS (⟨congrArg nI (by unfold tf_mo; omega), ⟨hca1, rfl, rfl, rfl, rfl⟩⟩) dX0_most_36
set_option maxHeartbeats 4000000 in
set_option maxRecDepth 100000 in
/-- besides -/
theorem mX0_besides (l : Launch) (D : va_G) (sz : Nat) (ad : Nat → Nat) (ds : Nat → ClassId) (c0 r0 f0 l0 : Nat → Int32) (kn fi se bo : Int32) (g : Nat → Nat) (hg : tf_ok 21 g) (hc : tf_XS g (c0, r0, f0, l0, kn, fi, se, bo)) (x : Int32) : tf_Mi l D (wX ad ds) (tyX ds) sz (c0, r0, f0, l0, kn, fi, se, bo) yX0_besides cX0_besides 2 (some .int) ({ frames := 4, cells := 0, slots := 0, locals := 95 }) [.ref (ad 0), .int x] (fun z u => z = tf_bs g x ∧ tf_XK g u) := by
  refine tf_go_i (by decide) (Nat.le_of_ble_eq_true rfl) ?_
  intro p e s m below meth c S hr hlocks A hA hP hK hD hS ls hl
  have S : CallFix p m c cX0_besides 2 s _ lw_all RX0 := S
  obtain ⟨hx, hb, hml, hown, hts⟩ := id S
  have hl : lv_has ls 2 [(0, .ref (ad 0)), (1, .int x)] := hl
  refine lv_aload_n hx hb dX0_besides_0 rfl (lv_at hl 0 rfl) ?_
  refine tf_callv (wf := wX ad ds) (u := (c0, r0, f0, l0, kn, fi, se, bo)) (wr := []) (As := []) (rest := []) (ci := 0) (q0 := 0) S hP hK hD hS hA [0, 1, 2, 3, 4] [] [0, 1, 2, 3] rfl (by decide) rfl (by decide) (by decide) rfl (mX0_learn l D _ ad ds c0 r0 f0 l0 kn fi se bo g hg hc) rfl rfl (cwV 0 hts (lw_V q75 q77 qs1 q12 q78) rfl rfl rfl (by decide +kernel) ⟨Nat.le_of_ble_eq_true rfl, Nat.le_of_ble_eq_true rfl⟩) rfl hl.1 rfl (Nat.le_of_ble_eq_true rfl) dX0_besides_1 ⟨Nat.le_of_ble_eq_true rfl, Nat.le_of_ble_eq_true rfl⟩ (fun u' H locs hw hP hD hS => ?_)
  obtain ⟨ca1, ra1, fa1, la1, ka1, xa1, ya1, za1⟩ := u'
  obtain ⟨hca1, hka, hxa, hya, hza⟩ := hw
  obtain rfl : ka1 = 1 := hka
  obtain rfl : xa1 = nI (tf_F1 g) := hxa
  obtain rfl : ya1 = nI (tf_F2 g) := hya
  obtain rfl : za1 = nI (tf_F3 g) := hza
  have hP : va_P D vwCl (wX ad ds (ca1, ra1, fa1, la1, 1, nI (tf_F1 g), nI (tf_F2 g), nI (tf_F3 g))) H := hP
  have hD : va_D A (wX ad ds (ca1, ra1, fa1, la1, 1, nI (tf_F1 g), nI (tf_F2 g), nI (tf_F3 g))) := hD
  have hF := tf_F_bd hg
  have e1 : tf_F1 g = min (tf_lim g 1) (tf_lim g 3) := rfl
  have e2 : tf_F2 g = min (tf_lim g 2) (tf_lim g 3) := rfl
  have e3 : tf_F3 g = tf_lim g 3 := rfl
  refine lv_iload_n hx hb dX0_besides_4 rfl (lv_at hl 1 rfl) ?_
  refine lv_if_lt (tgt := 16) hx hb dX0_besides_5 (by decide) (fun c1 => ?_) (fun c1 => ?_)
  · refine lv_iconst (v := (-1)) hx hb dX0_besides_16 (by decide) ?_
    exact tf_iret (wf := wX ad ds) (ca1, ra1, fa1, la1, 1, nI (tf_F1 g), nI (tf_F2 g), nI (tf_F3 g)) hx hb hr rfl hlocks hP hK hD hS (⟨by unfold tf_bs; rw [if_neg (fun h => h.1 c1)], ⟨hca1, rfl, rfl, rfl, rfl⟩⟩) dX0_besides_17
  · refine lv_iload_n hx hb dX0_besides_8 rfl (lv_at hl 1 rfl) ?_
    refine lv_aload_n hx hb dX0_besides_9 rfl (lv_at hl 0 rfl) ?_
    refine va_get (D := D) (ci := 0) (v := .int (nI (tf_F1 g))) (C := RX0) (T := TX0) (N := 8) hx hb hts in_X0 hown hK hP 0 rfl rfl 5 (by decide) (hts _ q27) (fun _ h9 => h9) rfl dX0_besides_10 ?_
    refine lv_icmp_le (tgt := 18) hx hb dX0_besides_13 (by decide) (fun c2 => ?_) (fun c2 => ?_)
    · obtain ⟨a, ha0, rfl⟩ := nI_of c1
      have c3 := c2
      rw [tf_leN (by omega) (by omega)] at c3
      refine lv_aload_n hx hb dX0_besides_18 rfl (lv_at hl 0 rfl) ?_
      refine va_get (D := D) (ci := 0) (v := .int (nI (tf_F2 g))) (C := RX0) (T := TX0) (N := 8) hx hb hts in_X0 hown hK hP 0 rfl rfl 6 (by decide) (hts _ q28) (fun _ h9 => h9) rfl dX0_besides_19 ?_
      refine lv_aload_n hx hb dX0_besides_22 rfl (lv_at hl 0 rfl) ?_
      refine va_get (D := D) (ci := 0) (v := .int (nI (tf_F3 g))) (C := RX0) (T := TX0) (N := 8) hx hb hts in_X0 hown hK hP 0 rfl rfl 7 (by decide) (hts _ q29) (fun _ h9 => h9) rfl dX0_besides_23 ?_
      refine lv_iload_n hx hb dX0_besides_26 rfl (lv_at hl 1 rfl) ?_
      refine lv_isub hx hb dX0_besides_27 ?_
      refine tf_top (nI (tf_F3 g - a)) (pk_sub (by omega)) ?_
      refine lv_icmp_ge (tgt := 38) hx hb dX0_besides_28 (by decide) (fun c4 => ?_) (fun c4 => ?_)
      · rw [tf_leN (by omega) (by omega)] at c4
        refine lv_aload_n hx hb dX0_besides_38 rfl (lv_at hl 0 rfl) ?_
        refine va_get (D := D) (ci := 0) (v := .int (nI (tf_F3 g))) (C := RX0) (T := TX0) (N := 8) hx hb hts in_X0 hown hK hP 0 rfl rfl 7 (by decide) (hts _ q29) (fun _ h9 => h9) rfl dX0_besides_39 ?_
        refine lv_iload_n hx hb dX0_besides_42 rfl (lv_at hl 1 rfl) ?_
        refine lv_isub hx hb dX0_besides_43 ?_
        refine tf_top (nI (tf_F3 g - a)) (pk_sub (by omega)) ?_
        exact tf_iret (wf := wX ad ds) (ca1, ra1, fa1, la1, 1, nI (tf_F1 g), nI (tf_F2 g), nI (tf_F3 g)) hx hb hr rfl hlocks hP hK hD hS (⟨by rw [tf_bs_nn hg c3]; exact congrArg nI (by omega), ⟨hca1, rfl, rfl, rfl, rfl⟩⟩) dX0_besides_44
      · rw [tf_leN (by omega) (by omega)] at c4
        refine lv_aload_n hx hb dX0_besides_31 rfl (lv_at hl 0 rfl) ?_
        refine va_get (D := D) (ci := 0) (v := .int (nI (tf_F2 g))) (C := RX0) (T := TX0) (N := 8) hx hb hts in_X0 hown hK hP 0 rfl rfl 6 (by decide) (hts _ q28) (fun _ h9 => h9) rfl dX0_besides_32 ?_
        refine lv_goto (tgt := 44) hx hb dX0_besides_35 (by decide) ?_
        exact tf_iret (wf := wX ad ds) (ca1, ra1, fa1, la1, 1, nI (tf_F1 g), nI (tf_F2 g), nI (tf_F3 g)) hx hb hr rfl hlocks hP hK hD hS (⟨by rw [tf_bs_nn hg c3]; exact congrArg nI (by omega), ⟨hca1, rfl, rfl, rfl, rfl⟩⟩) dX0_besides_44
    · refine lv_iconst (v := (-1)) hx hb dX0_besides_16 (by decide) ?_
      exact tf_iret (wf := wX ad ds) (ca1, ra1, fa1, la1, 1, nI (tf_F1 g), nI (tf_F2 g), nI (tf_F3 g)) hx hb hr rfl hlocks hP hK hD hS (⟨by unfold tf_bs; rw [if_neg (fun h => c2 h.2)], ⟨hca1, rfl, rfl, rfl, rfl⟩⟩) dX0_besides_17
set_option maxHeartbeats 4000000 in
set_option maxRecDepth 100000 in
/-- evenly -/
theorem mX0_evenly (l : Launch) (D : va_G) (sz : Nat) (ad : Nat → Nat) (ds : Nat → ClassId) (c0 r0 f0 l0 : Nat → Int32) (kn fi se bo : Int32) (g : Nat → Nat) (hg : tf_ok 21 g) (hc : tf_XS g (c0, r0, f0, l0, kn, fi, se, bo)) : tf_Mi l D (wX ad ds) (tyX ds) sz (c0, r0, f0, l0, kn, fi, se, bo) yX0_evenly cX0_evenly 2 (some .int) ({ frames := 4, cells := 0, slots := 0, locals := 95 }) [.ref (ad 0)] (fun z u => z = nI (tf_ev g) ∧ tf_XK g u) := by
  refine tf_go_i (by decide) (Nat.le_of_ble_eq_true rfl) ?_
  intro p e s m below meth c S hr hlocks A hA hP hK hD hS ls hl
  have S : CallFix p m c cX0_evenly 2 s _ lw_all RX0 := S
  obtain ⟨hx, hb, hml, hown, hts⟩ := id S
  have hl : lv_has ls 2 [(0, .ref (ad 0))] := hl
  refine lv_aload_n hx hb dX0_evenly_0 rfl (lv_at hl 0 rfl) ?_
  refine tf_callv (wf := wX ad ds) (u := (c0, r0, f0, l0, kn, fi, se, bo)) (wr := []) (As := []) (rest := []) (ci := 0) (q0 := 0) S hP hK hD hS hA [0, 1, 2, 3, 4] [] [0, 1, 2, 3] rfl (by decide) rfl (by decide) (by decide) rfl (mX0_learn l D _ ad ds c0 r0 f0 l0 kn fi se bo g hg hc) rfl rfl (cwV 0 hts (lw_V q75 q77 qs1 q12 q78) rfl rfl rfl (by decide +kernel) ⟨Nat.le_of_ble_eq_true rfl, Nat.le_of_ble_eq_true rfl⟩) rfl hl.1 rfl (Nat.le_of_ble_eq_true rfl) dX0_evenly_1 ⟨Nat.le_of_ble_eq_true rfl, Nat.le_of_ble_eq_true rfl⟩ (fun u' H locs hw hP hD hS => ?_)
  obtain ⟨ca1, ra1, fa1, la1, ka1, xa1, ya1, za1⟩ := u'
  obtain ⟨hca1, hka, hxa, hya, hza⟩ := hw
  obtain rfl : ka1 = 1 := hka
  obtain rfl : xa1 = nI (tf_F1 g) := hxa
  obtain rfl : ya1 = nI (tf_F2 g) := hya
  obtain rfl : za1 = nI (tf_F3 g) := hza
  have hP : va_P D vwCl (wX ad ds (ca1, ra1, fa1, la1, 1, nI (tf_F1 g), nI (tf_F2 g), nI (tf_F3 g))) H := hP
  have hD : va_D A (wX ad ds (ca1, ra1, fa1, la1, 1, nI (tf_F1 g), nI (tf_F2 g), nI (tf_F3 g))) := hD
  have hF := tf_F_bd hg
  have e1 : tf_F1 g = min (tf_lim g 1) (tf_lim g 3) := rfl
  have e2 : tf_F2 g = min (tf_lim g 2) (tf_lim g 3) := rfl
  have e3 : tf_F3 g = tf_lim g 3 := rfl
  refine lv_aload_n hx hb dX0_evenly_4 rfl (lv_at hl 0 rfl) ?_
  refine va_get (D := D) (ci := 0) (v := .int (nI (tf_F3 g))) (C := RX0) (T := TX0) (N := 8) hx hb hts in_X0 hown hK hP 0 rfl rfl 7 (by decide) (hts _ q29) (fun _ h9 => h9) rfl dX0_evenly_5 ?_
  refine lv_iconst (v := nI 2) hx hb dX0_evenly_8 (by decide) ?_
  refine lv_idiv hx hb dX0_evenly_9 (by decide) ?_
  refine tf_top (nI (tf_F3 g / 2)) (pk_div (by omega) (by decide) (by decide)) ?_
  refine lv_istore_n (lv' := [(1, .int (nI (tf_F3 g / 2))), (0, .ref (ad 0))]) hx hb dX0_evenly_10 rfl hl (by decide) rfl (fun ls hl => ?_)
  refine lv_aload_n hx hb dX0_evenly_11 rfl (lv_at hl 1 rfl) ?_
  refine va_get (D := D) (ci := 0) (v := .int (nI (tf_F1 g))) (C := RX0) (T := TX0) (N := 8) hx hb hts in_X0 hown hK hP 0 rfl rfl 5 (by decide) (hts _ q27) (fun _ h9 => h9) rfl dX0_evenly_12 ?_
  refine lv_iload_n hx hb dX0_evenly_15 rfl (lv_at hl 0 rfl) ?_
  refine lv_icmp_ge (tgt := 26) hx hb dX0_evenly_16 (by decide) (fun c1 => ?_) (fun c1 => ?_)
  · rw [tf_leN (by omega) (by omega)] at c1
    refine lv_iload_n hx hb dX0_evenly_26 rfl (lv_at hl 0 rfl) ?_
    refine lv_istore_n (lv' := [(1, .int (nI (tf_F3 g / 2))), (0, .ref (ad 0))]) hx hb dX0_evenly_27 rfl hl (by decide) rfl (fun ls hl => ?_)
    refine lv_aload_n hx hb dX0_evenly_28 rfl (lv_at hl 1 rfl) ?_
    refine va_get (D := D) (ci := 0) (v := .int (nI (tf_F2 g))) (C := RX0) (T := TX0) (N := 8) hx hb hts in_X0 hown hK hP 0 rfl rfl 6 (by decide) (hts _ q28) (fun _ h9 => h9) rfl dX0_evenly_29 ?_
    refine lv_iload_n hx hb dX0_evenly_32 rfl (lv_at hl 0 rfl) ?_
    refine lv_icmp_ge (tgt := 43) hx hb dX0_evenly_33 (by decide) (fun c2 => ?_) (fun c2 => ?_)
    · rw [tf_leN (by omega) (by omega)] at c2
      refine lv_iload_n hx hb dX0_evenly_43 rfl (lv_at hl 0 rfl) ?_
      exact tf_iret (wf := wX ad ds) (ca1, ra1, fa1, la1, 1, nI (tf_F1 g), nI (tf_F2 g), nI (tf_F3 g)) hx hb hr rfl hlocks hP hK hD hS (⟨congrArg nI (by unfold tf_ev; omega), ⟨hca1, rfl, rfl, rfl, rfl⟩⟩) dX0_evenly_44
    · rw [tf_leN (by omega) (by omega)] at c2
      refine lv_aload_n hx hb dX0_evenly_36 rfl (lv_at hl 1 rfl) ?_
      refine va_get (D := D) (ci := 0) (v := .int (nI (tf_F2 g))) (C := RX0) (T := TX0) (N := 8) hx hb hts in_X0 hown hK hP 0 rfl rfl 6 (by decide) (hts _ q28) (fun _ h9 => h9) rfl dX0_evenly_37 ?_
      refine lv_goto (tgt := 44) hx hb dX0_evenly_40 (by decide) ?_
      exact tf_iret (wf := wX ad ds) (ca1, ra1, fa1, la1, 1, nI (tf_F1 g), nI (tf_F2 g), nI (tf_F3 g)) hx hb hr rfl hlocks hP hK hD hS (⟨congrArg nI (by unfold tf_ev; omega), ⟨hca1, rfl, rfl, rfl, rfl⟩⟩) dX0_evenly_44
  · rw [tf_leN (by omega) (by omega)] at c1
    refine lv_aload_n hx hb dX0_evenly_19 rfl (lv_at hl 1 rfl) ?_
    refine va_get (D := D) (ci := 0) (v := .int (nI (tf_F1 g))) (C := RX0) (T := TX0) (N := 8) hx hb hts in_X0 hown hK hP 0 rfl rfl 5 (by decide) (hts _ q27) (fun _ h9 => h9) rfl dX0_evenly_20 ?_
    refine lv_goto (tgt := 27) hx hb dX0_evenly_23 (by decide) ?_
    refine lv_istore_n (lv' := [(1, .int (nI (tf_F1 g))), (0, .ref (ad 0))]) hx hb dX0_evenly_27 rfl hl (by decide) rfl (fun ls hl => ?_)
    refine lv_aload_n hx hb dX0_evenly_28 rfl (lv_at hl 1 rfl) ?_
    refine va_get (D := D) (ci := 0) (v := .int (nI (tf_F2 g))) (C := RX0) (T := TX0) (N := 8) hx hb hts in_X0 hown hK hP 0 rfl rfl 6 (by decide) (hts _ q28) (fun _ h9 => h9) rfl dX0_evenly_29 ?_
    refine lv_iload_n hx hb dX0_evenly_32 rfl (lv_at hl 0 rfl) ?_
    refine lv_icmp_ge (tgt := 43) hx hb dX0_evenly_33 (by decide) (fun c2 => ?_) (fun c2 => ?_)
    · rw [tf_leN (by omega) (by omega)] at c2
      refine lv_iload_n hx hb dX0_evenly_43 rfl (lv_at hl 0 rfl) ?_
      exact tf_iret (wf := wX ad ds) (ca1, ra1, fa1, la1, 1, nI (tf_F1 g), nI (tf_F2 g), nI (tf_F3 g)) hx hb hr rfl hlocks hP hK hD hS (⟨congrArg nI (by unfold tf_ev; omega), ⟨hca1, rfl, rfl, rfl, rfl⟩⟩) dX0_evenly_44
    · rw [tf_leN (by omega) (by omega)] at c2
      refine lv_aload_n hx hb dX0_evenly_36 rfl (lv_at hl 1 rfl) ?_
      refine va_get (D := D) (ci := 0) (v := .int (nI (tf_F2 g))) (C := RX0) (T := TX0) (N := 8) hx hb hts in_X0 hown hK hP 0 rfl rfl 6 (by decide) (hts _ q28) (fun _ h9 => h9) rfl dX0_evenly_37 ?_
      refine lv_goto (tgt := 44) hx hb dX0_evenly_40 (by decide) ?_
      exact tf_iret (wf := wX ad ds) (ca1, ra1, fa1, la1, 1, nI (tf_F1 g), nI (tf_F2 g), nI (tf_F3 g)) hx hb hr rfl hlocks hP hK hD hS (⟨congrArg nI (by unfold tf_ev; omega), ⟨hca1, rfl, rfl, rfl, rfl⟩⟩) dX0_evenly_44
set_option maxHeartbeats 4000000 in
set_option maxRecDepth 100000 in
/-- pairs: the loop -/
theorem lX0_pairs (l : Launch) {p : Program} {e : Env} {s : State} {m : MethodId} {args : Array Value} {below : List Frame} {meth : Method} {c : Code} {Q : State → Prop} {D : va_G} {A : Nat → Prop} (ad : Nat → Nat) (ds : Nat → ClassId) (S : CallFix p m c cX0_pairs 3 s args lw_all RX0) (hK : va_K D vwCl (tyX ds) s) (hA : ∀ q : Nat, s.heap.size ≤ q → A q) (g : Nat → Nat) (hg : tf_ok 21 g) (after : ∀ (t : Nat) (c1 r1 f1 l1 : Nat → Int32) (H : Heap) (locs : List Loc) (ls : Array Slot), t = tf_ps g (tf_F1 g + 1) → tf_Rr c1 g → va_P D vwCl (wX ad ds (c1, r1, f1, l1, 1, nI (tf_F1 g), nI (tf_F2 g), nI (tf_F3 g))) H → va_D A (wX ad ds (c1, r1, f1, l1, 1, nI (tf_F1 g), nI (tf_F2 g), nI (tf_F3 g))) → va_S A s.heap H locs → lv_has ls 3 [(0, .ref (ad 0)), (1, .int (nI t))] → W p l e ({ frames := 5, cells := 0, slots := 0, locals := 116 }) s m args below meth c H locs 0 0 Q (F0 m 32 ls [])) : ∀ (n x t : Nat) (c1 r1 f1 l1 : Nat → Int32) (H : Heap) (locs : List Loc), x ≤ tf_F1 g + 1 → tf_F1 g + 2 ≤ x + n → t = tf_ps g x → tf_Rr c1 g → va_P D vwCl (wX ad ds (c1, r1, f1, l1, 1, nI (tf_F1 g), nI (tf_F2 g), nI (tf_F3 g))) H → va_D A (wX ad ds (c1, r1, f1, l1, 1, nI (tf_F1 g), nI (tf_F2 g), nI (tf_F3 g))) → va_S A s.heap H locs → ∀ (ls : Array Slot), lv_has ls 3 [(0, .ref (ad 0)), (1, .int (nI t)), (2, .int (nI x))] → W p l e ({ frames := 5, cells := 0, slots := 0, locals := 116 }) s m args below meth c H locs 0 0 Q (F0 m 8 ls []) := by
  obtain ⟨hx, hb, hml, hown, hts⟩ := id S
  have hF := tf_F_bd hg
  intro n
  induction n with
  | zero => intro x t c1 r1 f1 l1 H locs h1 h2; exact absurd h2 (by omega)
  | succ n ih =>
    intro x t c1 r1 f1 l1 H locs hxF hn ht hc1 hP hD hS ls hl
    refine lv_iload_n hx hb dX0_pairs_8 rfl (lv_at hl 2 rfl) ?_
    refine lv_aload_n hx hb dX0_pairs_9 rfl (lv_at hl 0 rfl) ?_
    refine va_get (D := D) (ci := 0) (v := .int (nI (tf_F1 g))) (C := RX0) (T := TX0) (N := 8) hx hb hts in_X0 hown hK hP 0 rfl rfl 5 (by decide) (hts _ q27) (fun _ h9 => h9) rfl dX0_pairs_10 ?_
    refine lv_icmp_gt (tgt := 32) hx hb dX0_pairs_13 (by decide) (fun q1 => ?_) (fun q1 => ?_)
    · rw [tf_ltN (by omega) (by omega)] at q1
      obtain rfl : x = tf_F1 g + 1 := by omega
      exact after t c1 r1 f1 l1 H locs ls ht hc1 hP hD hS (lv_sub hl [0, 1] rfl)
    · rw [tf_ltN (by omega) (by omega)] at q1
      refine lv_iload_n hx hb dX0_pairs_16 rfl (lv_at hl 1 rfl) ?_
      refine lv_iconst (v := nI 1) hx hb dX0_pairs_17 (by decide) ?_
      refine lv_aload_n hx hb dX0_pairs_18 rfl (lv_at hl 0 rfl) ?_
      refine lv_iload_n hx hb dX0_pairs_19 rfl (lv_at hl 2 rfl) ?_
      refine tf_calli (wf := wX ad ds) (u := (c1, r1, f1, l1, 1, nI (tf_F1 g), nI (tf_F2 g), nI (tf_F3 g))) (wr := []) (As := [.int (nI x)]) (rest := [.int (nI 1), .int (nI t)]) (ci := 0) (q0 := 0) S hP hK hD hS hA [0, 1, 2, 3, 4] [] [0, 1, 2, 3] rfl (by decide) rfl (by decide) (by decide) rfl (mX0_besides l D _ ad ds c1 r1 f1 l1 1 (nI (tf_F1 g)) (nI (tf_F2 g)) (nI (tf_F3 g)) g hg ⟨hc1, Or.inr ⟨rfl, rfl, rfl, rfl⟩⟩ (nI x)) rfl rfl (cwV 1 hts (lw_V q112 q101 q102 q12 q103) rfl rfl rfl (by decide +kernel) ⟨Nat.le_of_ble_eq_true rfl, Nat.le_of_ble_eq_true rfl⟩) rfl hl.1 rfl (Nat.le_of_ble_eq_true rfl) dX0_pairs_20 ⟨Nat.le_of_ble_eq_true rfl, Nat.le_of_ble_eq_true rfl⟩ (fun r_1 u' H locs hw hP hD hS => ?_)
      obtain ⟨hz, hw⟩ := hw
      rw [tf_bs_nn hg (by omega)] at hz
      subst hz
      obtain ⟨ca2, ra2, fa2, la2, ka2, xa2, ya2, za2⟩ := u'
      obtain ⟨hca2, hka, hxa, hya, hza⟩ := hw
      obtain rfl : ka2 = 1 := hka
      obtain rfl : xa2 = nI (tf_F1 g) := hxa
      obtain rfl : ya2 = nI (tf_F2 g) := hya
      obtain rfl : za2 = nI (tf_F3 g) := hza
      have hP : va_P D vwCl (wX ad ds (ca2, ra2, fa2, la2, 1, nI (tf_F1 g), nI (tf_F2 g), nI (tf_F3 g))) H := hP
      have hD : va_D A (wX ad ds (ca2, ra2, fa2, la2, 1, nI (tf_F1 g), nI (tf_F2 g), nI (tf_F3 g))) := hD
      refine lv_iadd hx hb dX0_pairs_23 ?_
      refine tf_top (nI (1 + (min (tf_F2 g) (tf_F3 g - x)))) (nI_add _ _) ?_
      refine lv_iadd hx hb dX0_pairs_24 ?_
      refine tf_top (nI (t + (1 + (min (tf_F2 g) (tf_F3 g - x))))) (nI_add _ _) ?_
      refine lv_istore_n (lv' := [(1, .int (nI (t + (1 + (min (tf_F2 g) (tf_F3 g - x)))))), (0, .ref (ad 0)), (2, .int (nI x))]) hx hb dX0_pairs_25 rfl hl (by decide) rfl (fun ls hl => ?_)
      refine lv_iinc (v := nI (x + 1)) (lv' := [(2, .int (nI (x + 1))), (1, .int (nI (t + (1 + (min (tf_F2 g) (tf_F3 g - x)))))), (0, .ref (ad 0))]) hx hb dX0_pairs_26 hl (k := 2) rfl (tf_inc1 _) (by decide) rfl (fun ls hl => ?_)
      refine lv_goto (tgt := 8) hx hb dX0_pairs_29 (by decide) ?_
      exact ih (x + 1) _ ca2 ra2 fa2 la2 H locs (by omega) (by omega) (by rw [ht, tf_ps_s]) hca2 hP hD hS ls (lv_sub hl [2, 1, 0] rfl)
set_option maxHeartbeats 4000000 in
set_option maxRecDepth 100000 in
/-- pairs -/
theorem mX0_pairs (l : Launch) (D : va_G) (sz : Nat) (ad : Nat → Nat) (ds : Nat → ClassId) (c0 r0 f0 l0 : Nat → Int32) (kn fi se bo : Int32) (g : Nat → Nat) (hg : tf_ok 21 g) (hc : tf_XS g (c0, r0, f0, l0, kn, fi, se, bo)) : tf_Mi l D (wX ad ds) (tyX ds) sz (c0, r0, f0, l0, kn, fi, se, bo) yX0_pairs cX0_pairs 3 (some .int) ({ frames := 5, cells := 0, slots := 0, locals := 116 }) [.ref (ad 0)] (fun z u => z = nI (tf_ps g (tf_F1 g + 1)) ∧ tf_XK g u) := by
  refine tf_go_i (by decide) (Nat.le_of_ble_eq_true rfl) ?_
  intro p e s m below meth c S hr hlocks A hA hP hK hD hS ls hl
  have S : CallFix p m c cX0_pairs 3 s _ lw_all RX0 := S
  obtain ⟨hx, hb, hml, hown, hts⟩ := id S
  have hl : lv_has ls 3 [(0, .ref (ad 0))] := hl
  refine lv_aload_n hx hb dX0_pairs_0 rfl (lv_at hl 0 rfl) ?_
  refine tf_callv (wf := wX ad ds) (u := (c0, r0, f0, l0, kn, fi, se, bo)) (wr := []) (As := []) (rest := []) (ci := 0) (q0 := 0) S hP hK hD hS hA [0, 1, 2, 3, 4] [] [0, 1, 2, 3] rfl (by decide) rfl (by decide) (by decide) rfl (mX0_learn l D _ ad ds c0 r0 f0 l0 kn fi se bo g hg hc) rfl rfl (cwV 0 hts (lw_V q75 q77 qs1 q12 q78) rfl rfl rfl (by decide +kernel) ⟨Nat.le_of_ble_eq_true rfl, Nat.le_of_ble_eq_true rfl⟩) rfl hl.1 rfl (Nat.le_of_ble_eq_true rfl) dX0_pairs_1 ⟨Nat.le_of_ble_eq_true rfl, Nat.le_of_ble_eq_true rfl⟩ (fun u' H locs hw hP hD hS => ?_)
  obtain ⟨ca1, ra1, fa1, la1, ka1, xa1, ya1, za1⟩ := u'
  obtain ⟨hca1, hka, hxa, hya, hza⟩ := hw
  obtain rfl : ka1 = 1 := hka
  obtain rfl : xa1 = nI (tf_F1 g) := hxa
  obtain rfl : ya1 = nI (tf_F2 g) := hya
  obtain rfl : za1 = nI (tf_F3 g) := hza
  have hP : va_P D vwCl (wX ad ds (ca1, ra1, fa1, la1, 1, nI (tf_F1 g), nI (tf_F2 g), nI (tf_F3 g))) H := hP
  have hD : va_D A (wX ad ds (ca1, ra1, fa1, la1, 1, nI (tf_F1 g), nI (tf_F2 g), nI (tf_F3 g))) := hD
  refine lv_iconst (v := nI 0) hx hb dX0_pairs_4 (by decide) ?_
  refine lv_istore_n (lv' := [(1, .int (nI 0)), (0, .ref (ad 0))]) hx hb dX0_pairs_5 rfl hl (by decide) rfl (fun ls hl => ?_)
  refine lv_iconst (v := nI 0) hx hb dX0_pairs_6 (by decide) ?_
  refine lv_istore_n (lv' := [(2, .int (nI 0)), (1, .int (nI 0)), (0, .ref (ad 0))]) hx hb dX0_pairs_7 rfl hl (by decide) rfl (fun ls hl => ?_)
  refine lX0_pairs l ad ds S hK hA g hg (fun t c2 r2 f2 l2 H locs ls ht hc2 hP hD hS hl => ?_) (tf_F1 g + 2) 0 0 ca1 ra1 fa1 la1 _ _ (by omega) (by omega) rfl hca1 hP hD hS ls (lv_sub hl [2, 1, 0] rfl)
  refine lv_iload_n hx hb dX0_pairs_32 rfl (lv_at hl 1 rfl) ?_
  exact tf_iret (wf := wX ad ds) (c2, r2, f2, l2, 1, nI (tf_F1 g), nI (tf_F2 g), nI (tf_F3 g)) hx hb hr rfl hlocks hP hK hD hS (⟨by rw [ht], hc2, rfl, rfl, rfl, rfl⟩) dX0_pairs_33
set_option maxHeartbeats 4000000 in
set_option maxRecDepth 100000 in
/-- change -/
theorem mX0_change (l : Launch) (D : va_G) (sz : Nat) (ad : Nat → Nat) (ds : Nat → ClassId) (c0 r0 f0 l0 : Nat → Int32) (kn fi se bo : Int32) (g : Nat → Nat) (hg : tf_ok 21 g) (hc : tf_XS g (c0, r0, f0, l0, kn, fi, se, bo)) (i j v : Nat) (hi : i < 6) (hj : j < 6) (hv : v ≤ 21) : tf_Mi l D (wX ad ds) (tyX ds) sz (c0, r0, f0, l0, kn, fi, se, bo) yX0_change cX0_change 7 (some .int) ({ frames := 5, cells := 0, slots := 0, locals := 115 }) [.ref (ad 0), .int (nI i), .int (nI j), .int (nI v)] (fun z u => z = nI (tf_mo (tf_up g i j v)) - nI (tf_mo g) ∧ tf_XS g u) := by
  refine tf_go_i (by decide) (Nat.le_of_ble_eq_true rfl) ?_
  intro p e s m below meth c S hr hlocks A hA hP hK hD hS ls hl
  have S : CallFix p m c cX0_change 7 s _ lw_all RX0 := S
  obtain ⟨hx, hb, hml, hown, hts⟩ := id S
  have hl : lv_has ls 7 [(0, .ref (ad 0)), (1, .int (nI i)), (2, .int (nI j)), (3, .int (nI v))] := hl
  refine lv_aload_n hx hb dX0_change_0 rfl (lv_at hl 0 rfl) ?_
  refine tf_calli (wf := wX ad ds) (u := (c0, r0, f0, l0, kn, fi, se, bo)) (wr := []) (As := []) (rest := []) (ci := 0) (q0 := 0) S hP hK hD hS hA [0, 1, 2, 3, 4] [] [0, 1, 2, 3] rfl (by decide) rfl (by decide) (by decide) rfl (mX0_most l D _ ad ds c0 r0 f0 l0 kn fi se bo g hg (hc)) rfl rfl (cwV 0 hts (lw_V q121 q97 q98 q12 q99) rfl rfl rfl (by decide +kernel) ⟨Nat.le_of_ble_eq_true rfl, Nat.le_of_ble_eq_true rfl⟩) rfl hl.1 rfl (Nat.le_of_ble_eq_true rfl) dX0_change_1 ⟨Nat.le_of_ble_eq_true rfl, Nat.le_of_ble_eq_true rfl⟩ (fun r_1 u' H locs hw hP hD hS => ?_)
  obtain ⟨hz, hw⟩ := hw
  subst hz
  obtain ⟨ca1, ra1, fa1, la1, ka1, xa1, ya1, za1⟩ := u'
  obtain ⟨hca1, hka, hxa, hya, hza⟩ := hw
  obtain rfl : ka1 = 1 := hka
  obtain rfl : xa1 = nI (tf_F1 g) := hxa
  obtain rfl : ya1 = nI (tf_F2 g) := hya
  obtain rfl : za1 = nI (tf_F3 g) := hza
  have hP : va_P D vwCl (wX ad ds (ca1, ra1, fa1, la1, 1, nI (tf_F1 g), nI (tf_F2 g), nI (tf_F3 g))) H := hP
  have hD : va_D A (wX ad ds (ca1, ra1, fa1, la1, 1, nI (tf_F1 g), nI (tf_F2 g), nI (tf_F3 g))) := hD
  have hgb := hg.2 (6 * i + j) (by omega)
  refine lv_istore (lv' := [(4, .int (nI (tf_mo g))), (0, .ref (ad 0)), (1, .int (nI i)), (2, .int (nI j)), (3, .int (nI v))]) hx hb dX0_change_4 hl (by decide) rfl (fun ls hl => ?_)
  refine lv_aload_n hx hb dX0_change_6 rfl (lv_at hl 1 rfl) ?_
  refine va_get (D := D) (ci := 0) (v := .ref (ad 1)) (C := RX0) (T := TX0) (N := 8) hx hb hts in_X0 hown hK hP 0 rfl rfl 0 (by decide) (hts _ q22) (fun _ h9 => h9) rfl dX0_change_7 ?_
  refine lv_iload_n hx hb dX0_change_10 rfl (lv_at hl 2 rfl) ?_
  refine lv_bipush (v := nI 6) hx hb dX0_change_11 (by decide) ?_
  refine lv_imul hx hb dX0_change_13 ?_
  refine lv_iload_n hx hb dX0_change_14 rfl (lv_at hl 3 rfl) ?_
  refine lv_iadd hx hb dX0_change_15 ?_
  refine tf_top (nI (6 * i + j)) (tf_ix _ _) ?_
  refine tf_bald (v := nI (g (6 * i + j))) hx hb hK hP 1 0 rfl rfl (k := 6 * i + j) (by omega) (by decide) (hca1 _ (by omega)) dX0_change_16 ?_
  refine lv_istore (lv' := [(5, .int (nI (g (6 * i + j)))), (4, .int (nI (tf_mo g))), (0, .ref (ad 0)), (1, .int (nI i)), (2, .int (nI j)), (3, .int (nI v))]) hx hb dX0_change_17 hl (by decide) rfl (fun ls hl => ?_)
  refine lv_aload_n hx hb dX0_change_19 rfl (lv_at hl 2 rfl) ?_
  refine lv_iload_n hx hb dX0_change_20 rfl (lv_at hl 3 rfl) ?_
  refine lv_iload_n hx hb dX0_change_21 rfl (lv_at hl 4 rfl) ?_
  refine lv_iload_n hx hb dX0_change_22 rfl (lv_at hl 5 rfl) ?_
  refine tf_callv (wf := wX ad ds) (u := (ca1, ra1, fa1, la1, 1, nI (tf_F1 g), nI (tf_F2 g), nI (tf_F3 g))) (wr := []) (As := [.int (nI i), .int (nI j), .int (nI v)]) (rest := []) (ci := 0) (q0 := 0) S hP hK hD hS hA [0, 1, 2, 3, 4] [] [0, 1, 2, 3] rfl (by decide) rfl (by decide) (by decide) rfl (mX0_put l D _ ad ds ca1 ra1 fa1 la1 1 (nI (tf_F1 g)) (nI (tf_F2 g)) (nI (tf_F3 g)) i j v hi hj (by omega)) rfl rfl (cwV 3 hts (lw_V q56 q58 qs0 q12 q59) rfl rfl rfl (by decide +kernel) ⟨Nat.le_of_ble_eq_true rfl, Nat.le_of_ble_eq_true rfl⟩) rfl hl.1 rfl (Nat.le_of_ble_eq_true rfl) dX0_change_23 ⟨Nat.le_of_ble_eq_true rfl, Nat.le_of_ble_eq_true rfl⟩ (fun u' H locs hw hP hD hS => ?_)
  subst hw
  have hP : va_P D vwCl (wX ad ds (upd (upd ca1 (6 * i + j) (nI v)) (6 * j + i) (nI v), ra1, fa1, la1, 0, nI (tf_F1 g), nI (tf_F2 g), nI (tf_F3 g))) H := hP
  have hD : va_D A (wX ad ds (upd (upd ca1 (6 * i + j) (nI v)) (6 * j + i) (nI v), ra1, fa1, la1, 0, nI (tf_F1 g), nI (tf_F2 g), nI (tf_F3 g))) := hD
  have hg2 := tf_ok_up hg hi hj hv
  refine lv_aload_n hx hb dX0_change_26 rfl (lv_at hl 2 rfl) ?_
  refine tf_calli (wf := wX ad ds) (u := (upd (upd ca1 (6 * i + j) (nI v)) (6 * j + i) (nI v), ra1, fa1, la1, 0, nI (tf_F1 g), nI (tf_F2 g), nI (tf_F3 g))) (wr := []) (As := []) (rest := []) (ci := 0) (q0 := 0) S hP hK hD hS hA [0, 1, 2, 3, 4] [] [0, 1, 2, 3] rfl (by decide) rfl (by decide) (by decide) rfl (mX0_most l D _ ad ds (upd (upd ca1 (6 * i + j) (nI v)) (6 * j + i) (nI v)) ra1 fa1 la1 0 (nI (tf_F1 g)) (nI (tf_F2 g)) (nI (tf_F3 g)) (tf_up g i j v) hg2 (⟨tf_Rr_up hca1 i j v, Or.inl rfl⟩)) rfl rfl (cwV 0 hts (lw_V q121 q97 q98 q12 q99) rfl rfl rfl (by decide +kernel) ⟨Nat.le_of_ble_eq_true rfl, Nat.le_of_ble_eq_true rfl⟩) rfl hl.1 rfl (Nat.le_of_ble_eq_true rfl) dX0_change_27 ⟨Nat.le_of_ble_eq_true rfl, Nat.le_of_ble_eq_true rfl⟩ (fun r_2 u' H locs hw hP hD hS => ?_)
  obtain ⟨hz, hw⟩ := hw
  subst hz
  obtain ⟨ca2, ra2, fa2, la2, ka2, xa2, ya2, za2⟩ := u'
  obtain ⟨hca2, hka, hxa, hya, hza⟩ := hw
  obtain rfl : ka2 = 1 := hka
  obtain rfl : xa2 = nI (tf_F1 (tf_up g i j v)) := hxa
  obtain rfl : ya2 = nI (tf_F2 (tf_up g i j v)) := hya
  obtain rfl : za2 = nI (tf_F3 (tf_up g i j v)) := hza
  have hP : va_P D vwCl (wX ad ds (ca2, ra2, fa2, la2, 1, nI (tf_F1 (tf_up g i j v)), nI (tf_F2 (tf_up g i j v)), nI (tf_F3 (tf_up g i j v)))) H := hP
  have hD : va_D A (wX ad ds (ca2, ra2, fa2, la2, 1, nI (tf_F1 (tf_up g i j v)), nI (tf_F2 (tf_up g i j v)), nI (tf_F3 (tf_up g i j v)))) := hD
  refine lv_istore (lv' := [(6, .int (nI (tf_mo (tf_up g i j v)))), (5, .int (nI (g (6 * i + j)))), (4, .int (nI (tf_mo g))), (0, .ref (ad 0)), (1, .int (nI i)), (2, .int (nI j)), (3, .int (nI v))]) hx hb dX0_change_30 hl (by decide) rfl (fun ls hl => ?_)
  refine lv_aload_n hx hb dX0_change_32 rfl (lv_at hl 3 rfl) ?_
  refine lv_iload_n hx hb dX0_change_33 rfl (lv_at hl 4 rfl) ?_
  refine lv_iload_n hx hb dX0_change_34 rfl (lv_at hl 5 rfl) ?_
  refine lv_iload hx hb dX0_change_35 (lv_at hl 1 rfl) ?_
  refine tf_callv (wf := wX ad ds) (u := (ca2, ra2, fa2, la2, 1, nI (tf_F1 (tf_up g i j v)), nI (tf_F2 (tf_up g i j v)), nI (tf_F3 (tf_up g i j v)))) (wr := []) (As := [.int (nI i), .int (nI j), .int (nI (g (6 * i + j)))]) (rest := []) (ci := 0) (q0 := 0) S hP hK hD hS hA [0, 1, 2, 3, 4] [] [0, 1, 2, 3] rfl (by decide) rfl (by decide) (by decide) rfl (mX0_put l D _ ad ds ca2 ra2 fa2 la2 1 (nI (tf_F1 (tf_up g i j v))) (nI (tf_F2 (tf_up g i j v))) (nI (tf_F3 (tf_up g i j v))) i j (g (6 * i + j)) hi hj (by omega)) rfl rfl (cwV 3 hts (lw_V q56 q58 qs0 q12 q59) rfl rfl rfl (by decide +kernel) ⟨Nat.le_of_ble_eq_true rfl, Nat.le_of_ble_eq_true rfl⟩) rfl hl.1 rfl (Nat.le_of_ble_eq_true rfl) dX0_change_37 ⟨Nat.le_of_ble_eq_true rfl, Nat.le_of_ble_eq_true rfl⟩ (fun u' H locs hw hP hD hS => ?_)
  subst hw
  have hP : va_P D vwCl (wX ad ds (upd (upd ca2 (6 * i + j) (nI (g (6 * i + j)))) (6 * j + i) (nI (g (6 * i + j))), ra2, fa2, la2, 0, nI (tf_F1 (tf_up g i j v)), nI (tf_F2 (tf_up g i j v)), nI (tf_F3 (tf_up g i j v)))) H := hP
  have hD : va_D A (wX ad ds (upd (upd ca2 (6 * i + j) (nI (g (6 * i + j)))) (6 * j + i) (nI (g (6 * i + j))), ra2, fa2, la2, 0, nI (tf_F1 (tf_up g i j v)), nI (tf_F2 (tf_up g i j v)), nI (tf_F3 (tf_up g i j v)))) := hD
  refine lv_iload hx hb dX0_change_40 (lv_at hl 0 rfl) ?_
  refine lv_iload hx hb dX0_change_42 (lv_at hl 2 rfl) ?_
  refine lv_isub hx hb dX0_change_44 ?_
  exact tf_iret (wf := wX ad ds) (upd (upd ca2 (6 * i + j) (nI (g (6 * i + j)))) (6 * j + i) (nI (g (6 * i + j))), ra2, fa2, la2, 0, nI (tf_F1 (tf_up g i j v)), nI (tf_F2 (tf_up g i j v)), nI (tf_F3 (tf_up g i j v))) hx hb hr rfl hlocks hP hK hD hS (⟨rfl, by have h := tf_Rr_up hca2 i j (g (6 * i + j)); rw [tf_up_back hg hi hj] at h; exact h, Or.inl rfl⟩) dX0_change_45
set_option maxHeartbeats 4000000 in
set_option maxRecDepth 100000 in
/-- worth -/
theorem mX0_worth (l : Launch) (D : va_G) (sz : Nat) (ad : Nat → Nat) (ds : Nat → ClassId) (c0 r0 f0 l0 : Nat → Int32) (kn fi se bo : Int32) (g : Nat → Nat) (hg : tf_ok 20 g) (hc : tf_XS g (c0, r0, f0, l0, kn, fi, se, bo)) (a b : Int32) : tf_Mi l D (wX ad ds) (tyX ds) sz (c0, r0, f0, l0, kn, fi, se, bo) yX0_worth cX0_worth 3 (some .int) ({ frames := 6, cells := 0, slots := 0, locals := 141 }) [.ref (ad 0), .int a, .int b] (fun z u => z = tf_wo g a b ∧ tf_XS g u) := by
  refine tf_go_i (by decide) (Nat.le_of_ble_eq_true rfl) ?_
  intro p e s m below meth c S hr hlocks A hA hP hK hD hS ls hl
  have S : CallFix p m c cX0_worth 3 s _ lw_all RX0 := S
  obtain ⟨hx, hb, hml, hown, hts⟩ := id S
  have hl : lv_has ls 3 [(0, .ref (ad 0)), (1, .int a), (2, .int b)] := hl
  refine lv_iload_n hx hb dX0_worth_0 rfl (lv_at hl 1 rfl) ?_
  refine lv_iload_n hx hb dX0_worth_1 rfl (lv_at hl 2 rfl) ?_
  refine tf_callRS (As := [.int a, .int b]) (rest := []) S tf_P0 (hK.sub (tys' := []) [] rfl) tf_D0 (mX0_isPair l D _ a b) (va_cwS 2 hts (lw_S q53 q54 q12 q55) rfl rfl rfl (by decide +kernel) ⟨Nat.le_of_ble_eq_true rfl, Nat.le_of_ble_eq_true rfl⟩) rfl hl.1 rfl (Nat.le_of_ble_eq_true rfl) dX0_worth_2 ⟨Nat.le_of_ble_eq_true rfl, Nat.le_of_ble_eq_true rfl⟩ ?_
  refine lv_if_eq (tgt := 30) hx hb dX0_worth_5 (by decide) (fun c1 => ?_) (fun c1 => ?_)
  · have c1 := tf_be c1
    refine lv_iconst (v := (-1)) hx hb dX0_worth_30 (by decide) ?_
    exact tf_iret (wf := wX ad ds) (c0, r0, f0, l0, kn, fi, se, bo) hx hb hr rfl hlocks hP hK hD hS (⟨by unfold tf_wo; rw [if_neg (by rw [c1]; decide)], hc⟩) dX0_worth_31
  · have c1 := tf_bne c1
    obtain ⟨i, j, hi, hj, hij, rfl, rfl⟩ := tf_pr_of c1
    have hgb := hg.2 (6 * i + j) (by omega)
    refine lv_aload_n hx hb dX0_worth_8 rfl (lv_at hl 0 rfl) ?_
    refine lv_iload_n hx hb dX0_worth_9 rfl (lv_at hl 1 rfl) ?_
    refine lv_iload_n hx hb dX0_worth_10 rfl (lv_at hl 2 rfl) ?_
    refine lv_aload_n hx hb dX0_worth_11 rfl (lv_at hl 0 rfl) ?_
    refine va_get (D := D) (ci := 0) (v := .ref (ad 1)) (C := RX0) (T := TX0) (N := 8) hx hb hts in_X0 hown hK hP 0 rfl rfl 0 (by decide) (hts _ q22) (fun _ h9 => h9) rfl dX0_worth_12 ?_
    refine lv_iload_n hx hb dX0_worth_15 rfl (lv_at hl 1 rfl) ?_
    refine lv_bipush (v := nI 6) hx hb dX0_worth_16 (by decide) ?_
    refine lv_imul hx hb dX0_worth_18 ?_
    refine lv_iload_n hx hb dX0_worth_19 rfl (lv_at hl 2 rfl) ?_
    refine lv_iadd hx hb dX0_worth_20 ?_
    refine tf_top (nI (6 * i + j)) (tf_ix _ _) ?_
    refine tf_bald (v := nI (g (6 * i + j))) hx hb hK hP 1 0 rfl rfl (k := 6 * i + j) (by omega) (by decide) (hc.1 _ (by omega)) dX0_worth_21 ?_
    refine lv_iconst (v := nI 1) hx hb dX0_worth_22 (by decide) ?_
    refine lv_iadd hx hb dX0_worth_23 ?_
    refine tf_top (nI ((g (6 * i + j)) + 1)) (nI_add _ _) ?_
    refine tf_calli (wf := wX ad ds) (u := (c0, r0, f0, l0, kn, fi, se, bo)) (wr := []) (As := [.int (nI i), .int (nI j), .int (nI ((g (6 * i + j)) + 1))]) (rest := []) (ci := 0) (q0 := 0) S hP hK hD hS hA [0, 1, 2, 3, 4] [] [0, 1, 2, 3] rfl (by decide) rfl (by decide) (by decide) rfl (mX0_change l D _ ad ds c0 r0 f0 l0 kn fi se bo g (tf_ok_mono hg (by decide)) hc i j (g (6 * i + j) + 1) hi hj (by omega)) rfl rfl (cwV 3 hts (lw_V q117 q119 qs5 q12 q120) rfl rfl rfl (by decide +kernel) ⟨Nat.le_of_ble_eq_true rfl, Nat.le_of_ble_eq_true rfl⟩) rfl hl.1 rfl (Nat.le_of_ble_eq_true rfl) dX0_worth_24 ⟨Nat.le_of_ble_eq_true rfl, Nat.le_of_ble_eq_true rfl⟩ (fun r_1 u' H locs hw hP hD hS => ?_)
    obtain ⟨c_2, r_3, f_4, l_5, kn_6, fi_7, se_8, bo_9⟩ := u'
    have hP : va_P D vwCl (wX ad ds (c_2, r_3, f_4, l_5, kn_6, fi_7, se_8, bo_9)) H := hP
    have hD : va_D A (wX ad ds (c_2, r_3, f_4, l_5, kn_6, fi_7, se_8, bo_9)) := hD
    obtain ⟨hz, hw⟩ := hw
    subst hz
    refine lv_goto (tgt := 31) hx hb dX0_worth_27 (by decide) ?_
    exact tf_iret (wf := wX ad ds) (c_2, r_3, f_4, l_5, kn_6, fi_7, se_8, bo_9) hx hb hr rfl hlocks hP hK hD hS (⟨by unfold tf_wo; rw [if_pos c1, nI_clamp (by omega), nI_clamp (by omega)], hw⟩) dX0_worth_31
set_option maxHeartbeats 4000000 in
set_option maxRecDepth 100000 in
/-- loss -/
theorem mX0_loss (l : Launch) (D : va_G) (sz : Nat) (ad : Nat → Nat) (ds : Nat → ClassId) (c0 r0 f0 l0 : Nat → Int32) (kn fi se bo : Int32) (g : Nat → Nat) (hg : tf_ok 20 g) (hc : tf_XS g (c0, r0, f0, l0, kn, fi, se, bo)) (a b : Int32) : tf_Mi l D (wX ad ds) (tyX ds) sz (c0, r0, f0, l0, kn, fi, se, bo) yX0_loss cX0_loss 3 (some .int) ({ frames := 6, cells := 0, slots := 0, locals := 141 }) [.ref (ad 0), .int a, .int b] (fun z u => z = tf_lo g a b ∧ tf_XS g u) := by
  refine tf_go_i (by decide) (Nat.le_of_ble_eq_true rfl) ?_
  intro p e s m below meth c S hr hlocks A hA hP hK hD hS ls hl
  have S : CallFix p m c cX0_loss 3 s _ lw_all RX0 := S
  obtain ⟨hx, hb, hml, hown, hts⟩ := id S
  have hl : lv_has ls 3 [(0, .ref (ad 0)), (1, .int a), (2, .int b)] := hl
  refine lv_iload_n hx hb dX0_loss_0 rfl (lv_at hl 1 rfl) ?_
  refine lv_iload_n hx hb dX0_loss_1 rfl (lv_at hl 2 rfl) ?_
  refine tf_callRS (As := [.int a, .int b]) (rest := []) S tf_P0 (hK.sub (tys' := []) [] rfl) tf_D0 (mX0_isPair l D _ a b) (va_cwS 2 hts (lw_S q53 q54 q12 q55) rfl rfl rfl (by decide +kernel) ⟨Nat.le_of_ble_eq_true rfl, Nat.le_of_ble_eq_true rfl⟩) rfl hl.1 rfl (Nat.le_of_ble_eq_true rfl) dX0_loss_2 ⟨Nat.le_of_ble_eq_true rfl, Nat.le_of_ble_eq_true rfl⟩ ?_
  refine lv_if_eq (tgt := 19) hx hb dX0_loss_5 (by decide) (fun c1 => ?_) (fun c1 => ?_)
  · have c1 := tf_be c1
    refine lv_iconst (v := (-1)) hx hb dX0_loss_19 (by decide) ?_
    exact tf_iret (wf := wX ad ds) (c0, r0, f0, l0, kn, fi, se, bo) hx hb hr rfl hlocks hP hK hD hS (⟨by unfold tf_lo; rw [if_neg (by rw [c1]; decide)], hc⟩) dX0_loss_20
  · have c1 := tf_bne c1
    obtain ⟨i, j, hi, hj, hij, rfl, rfl⟩ := tf_pr_of c1
    refine lv_aload_n hx hb dX0_loss_8 rfl (lv_at hl 0 rfl) ?_
    refine lv_iload_n hx hb dX0_loss_9 rfl (lv_at hl 1 rfl) ?_
    refine lv_iload_n hx hb dX0_loss_10 rfl (lv_at hl 2 rfl) ?_
    refine lv_iconst (v := nI 0) hx hb dX0_loss_11 (by decide) ?_
    refine tf_calli (wf := wX ad ds) (u := (c0, r0, f0, l0, kn, fi, se, bo)) (wr := []) (As := [.int (nI i), .int (nI j), .int (nI 0)]) (rest := []) (ci := 0) (q0 := 0) S hP hK hD hS hA [0, 1, 2, 3, 4] [] [0, 1, 2, 3] rfl (by decide) rfl (by decide) (by decide) rfl (mX0_change l D _ ad ds c0 r0 f0 l0 kn fi se bo g (tf_ok_mono hg (by decide)) hc i j 0 hi hj (by omega)) rfl rfl (cwV 3 hts (lw_V q117 q119 qs5 q12 q120) rfl rfl rfl (by decide +kernel) ⟨Nat.le_of_ble_eq_true rfl, Nat.le_of_ble_eq_true rfl⟩) rfl hl.1 rfl (Nat.le_of_ble_eq_true rfl) dX0_loss_12 ⟨Nat.le_of_ble_eq_true rfl, Nat.le_of_ble_eq_true rfl⟩ (fun r_1 u' H locs hw hP hD hS => ?_)
    obtain ⟨c_2, r_3, f_4, l_5, kn_6, fi_7, se_8, bo_9⟩ := u'
    have hP : va_P D vwCl (wX ad ds (c_2, r_3, f_4, l_5, kn_6, fi_7, se_8, bo_9)) H := hP
    have hD : va_D A (wX ad ds (c_2, r_3, f_4, l_5, kn_6, fi_7, se_8, bo_9)) := hD
    obtain ⟨hz, hw⟩ := hw
    subst hz
    refine lv_ineg hx hb dX0_loss_15 ?_
    refine tf_top (nI (tf_mo g) - nI (tf_mo (tf_up g i j 0))) (tf_negsub _ _) ?_
    refine lv_goto (tgt := 20) hx hb dX0_loss_16 (by decide) ?_
    exact tf_iret (wf := wX ad ds) (c_2, r_3, f_4, l_5, kn_6, fi_7, se_8, bo_9) hx hb hr rfl hlocks hP hK hD hS (⟨by unfold tf_lo; rw [if_pos c1, nI_clamp (by omega), nI_clamp (by omega)], hw⟩) dX0_loss_20
set_option maxHeartbeats 4000000 in
set_option maxRecDepth 100000 in
/-- full -/
theorem mX0_full (l : Launch) (D : va_G) (sz : Nat) (ad : Nat → Nat) (ds : Nat → ClassId) (c0 r0 f0 l0 : Nat → Int32) (kn fi se bo : Int32) (g : Nat → Nat) (hg : tf_ok 21 g) (hc : tf_XS g (c0, r0, f0, l0, kn, fi, se, bo)) (x y : Int32) : tf_Mi l D (wX ad ds) (tyX ds) sz (c0, r0, f0, l0, kn, fi, se, bo) yX0_full cX0_full 5 (some .boolean) ({ frames := 5, cells := 0, slots := 0, locals := 117 }) [.ref (ad 0), .int x, .int y] (fun z u => z = tf_b (tf_fu g x y) ∧ tf_XK g u) := by
  refine tf_go_i (by decide) (Nat.le_of_ble_eq_true rfl) ?_
  intro p e s m below meth c S hr hlocks A hA hP hK hD hS ls hl
  have S : CallFix p m c cX0_full 5 s _ lw_all RX0 := S
  obtain ⟨hx, hb, hml, hown, hts⟩ := id S
  have hl : lv_has ls 5 [(0, .ref (ad 0)), (1, .int x), (2, .int y)] := hl
  refine lv_aload_n hx hb dX0_full_0 rfl (lv_at hl 0 rfl) ?_
  refine lv_iload_n hx hb dX0_full_1 rfl (lv_at hl 1 rfl) ?_
  refine lv_iload_n hx hb dX0_full_2 rfl (lv_at hl 2 rfl) ?_
  refine tf_calli (wf := wX ad ds) (u := (c0, r0, f0, l0, kn, fi, se, bo)) (wr := []) (As := [.int x, .int y]) (rest := []) (ci := 0) (q0 := 0) S hP hK hD hS hA [0, 1, 2, 3, 4] [] [0, 1, 2, 3] rfl (by decide) rfl (by decide) (by decide) rfl (mX0_carries l D _ ad ds c0 r0 f0 l0 kn fi se bo g hg (hc) x y) rfl rfl (cwV 2 hts (lw_V q130 q72 q73 q12 q74) rfl rfl rfl (by decide +kernel) ⟨Nat.le_of_ble_eq_true rfl, Nat.le_of_ble_eq_true rfl⟩) rfl hl.1 rfl (Nat.le_of_ble_eq_true rfl) dX0_full_3 ⟨Nat.le_of_ble_eq_true rfl, Nat.le_of_ble_eq_true rfl⟩ (fun r_1 u' H locs hw hP hD hS => ?_)
  obtain ⟨hz, hw⟩ := hw
  subst hz
  obtain ⟨ca1, ra1, fa1, la1, ka1, xa1, ya1, za1⟩ := u'
  obtain ⟨hca1, hka, hxa, hya, hza⟩ := hw
  obtain rfl : ka1 = 1 := hka
  obtain rfl : xa1 = nI (tf_F1 g) := hxa
  obtain rfl : ya1 = nI (tf_F2 g) := hya
  obtain rfl : za1 = nI (tf_F3 g) := hza
  have hP : va_P D vwCl (wX ad ds (ca1, ra1, fa1, la1, 1, nI (tf_F1 g), nI (tf_F2 g), nI (tf_F3 g))) H := hP
  have hD : va_D A (wX ad ds (ca1, ra1, fa1, la1, 1, nI (tf_F1 g), nI (tf_F2 g), nI (tf_F3 g))) := hD
  refine lv_if_ne (tgt := 11) hx hb dX0_full_6 (by decide) (fun c1 => ?_) (fun c1 => ?_)
  · have c1 := tf_bne c1
    obtain ⟨a, b, ha0, hb0, rfl, rfl⟩ := tf_car_of c1
    have hcar := c1
    rw [tf_car_nn g ha0 hb0] at hcar
    have hcar := of_decide_eq_true hcar
    have hF := tf_F_bd hg
    have e1 : tf_F1 g = min (tf_lim g 1) (tf_lim g 3) := rfl
    have e2 : tf_F2 g = min (tf_lim g 2) (tf_lim g 3) := rfl
    have e3 : tf_F3 g = tf_lim g 3 := rfl
    have hfu : tf_fu g (nI a) (nI b) = (!(tf_car g (nI (a + 1)) (nI b)) && !(tf_car g (nI a) (nI (b + 1)))) := by unfold tf_fu; rw [c1, nI_1, nI_1, Bool.true_and]
    have n1 : tf_F1 g ≤ a → tf_car g (nI (a + 1)) (nI b) = false := fun q => by rw [tf_car_nn g (by omega) hb0]; exact decide_eq_false (fun h => by omega)
    have n2 : tf_F2 g ≤ b → tf_car g (nI a) (nI (b + 1)) = false := fun q => by rw [tf_car_nn g ha0 (by omega)]; exact decide_eq_false (fun h => by omega)
    refine lv_iload_n hx hb dX0_full_11 rfl (lv_at hl 1 rfl) ?_
    refine lv_aload_n hx hb dX0_full_12 rfl (lv_at hl 0 rfl) ?_
    refine va_get (D := D) (ci := 0) (v := .int (nI (tf_F1 g))) (C := RX0) (T := TX0) (N := 8) hx hb hts in_X0 hown hK hP 0 rfl rfl 5 (by decide) (hts _ q27) (fun _ h9 => h9) rfl dX0_full_13 ?_
    refine lv_icmp_ge (tgt := 34) hx hb dX0_full_16 (by decide) (fun c3 => ?_) (fun c3 => ?_)
    · rw [tf_leN (by omega) (by omega)] at c3
      have m1 := n1 c3
      refine lv_iconst (v := nI 0) hx hb dX0_full_34 (by decide) ?_
      refine lv_istore_n (lv' := [(3, .int (nI 0)), (0, .ref (ad 0)), (1, .int (nI a)), (2, .int (nI b))]) hx hb dX0_full_35 rfl hl (by decide) rfl (fun ls hl => ?_)
      refine lv_iload_n hx hb dX0_full_36 rfl (lv_at hl 3 rfl) ?_
      refine lv_aload_n hx hb dX0_full_37 rfl (lv_at hl 1 rfl) ?_
      refine va_get (D := D) (ci := 0) (v := .int (nI (tf_F2 g))) (C := RX0) (T := TX0) (N := 8) hx hb hts in_X0 hown hK hP 0 rfl rfl 6 (by decide) (hts _ q28) (fun _ h9 => h9) rfl dX0_full_38 ?_
      refine lv_icmp_ge (tgt := 59) hx hb dX0_full_41 (by decide) (fun c4 => ?_) (fun c4 => ?_)
      · rw [tf_leN (by omega) (by omega)] at c4
        have m2 := n2 c4
        refine lv_iconst (v := nI 0) hx hb dX0_full_59 (by decide) ?_
        refine lv_istore (lv' := [(4, .int (nI 0)), (3, .int (nI 0)), (0, .ref (ad 0)), (1, .int (nI a)), (2, .int (nI b))]) hx hb dX0_full_60 hl (by decide) rfl (fun ls hl => ?_)
        refine lv_iload_n hx hb dX0_full_62 rfl (lv_at hl 1 rfl) ?_
        refine lv_if_ne (tgt := 75) hx hb dX0_full_63 (by decide) (fun c6 => ?_) (fun c6 => ?_)
        · exact absurd rfl c6
        · refine lv_iload hx hb dX0_full_66 (lv_at hl 0 rfl) ?_
          refine lv_if_ne (tgt := 75) hx hb dX0_full_68 (by decide) (fun c7 => ?_) (fun c7 => ?_)
          · exact absurd rfl c7
          · refine lv_iconst (v := nI 1) hx hb dX0_full_71 (by decide) ?_
            refine lv_goto (tgt := 76) hx hb dX0_full_72 (by decide) ?_
            exact tf_iret (wf := wX ad ds) (ca1, ra1, fa1, la1, 1, nI (tf_F1 g), nI (tf_F2 g), nI (tf_F3 g)) hx hb hr rfl hlocks hP hK hD hS (⟨tf_b1 (by rw [hfu, m1, m2]; rfl), ⟨hca1, rfl, rfl, rfl, rfl⟩⟩) dX0_full_76
      · rw [tf_leN (by omega) (by omega)] at c4
        refine lv_aload_n hx hb dX0_full_44 rfl (lv_at hl 1 rfl) ?_
        refine lv_iload_n hx hb dX0_full_45 rfl (lv_at hl 2 rfl) ?_
        refine lv_iload_n hx hb dX0_full_46 rfl (lv_at hl 3 rfl) ?_
        refine lv_iconst (v := nI 1) hx hb dX0_full_47 (by decide) ?_
        refine lv_iadd hx hb dX0_full_48 ?_
        refine tf_top (nI (b + 1)) (nI_add _ _) ?_
        refine tf_calli (wf := wX ad ds) (u := (ca1, ra1, fa1, la1, 1, nI (tf_F1 g), nI (tf_F2 g), nI (tf_F3 g))) (wr := []) (As := [.int (nI a), .int (nI (b + 1))]) (rest := []) (ci := 0) (q0 := 0) S hP hK hD hS hA [0, 1, 2, 3, 4] [] [0, 1, 2, 3] rfl (by decide) rfl (by decide) (by decide) rfl (mX0_carries l D _ ad ds ca1 ra1 fa1 la1 1 (nI (tf_F1 g)) (nI (tf_F2 g)) (nI (tf_F3 g)) g hg (⟨hca1, Or.inr ⟨rfl, rfl, rfl, rfl⟩⟩) (nI a) (nI (b + 1))) rfl rfl (cwV 2 hts (lw_V q130 q72 q73 q12 q74) rfl rfl rfl (by decide +kernel) ⟨Nat.le_of_ble_eq_true rfl, Nat.le_of_ble_eq_true rfl⟩) rfl hl.1 rfl (Nat.le_of_ble_eq_true rfl) dX0_full_49 ⟨Nat.le_of_ble_eq_true rfl, Nat.le_of_ble_eq_true rfl⟩ (fun r_2 u' H locs hw hP hD hS => ?_)
        obtain ⟨hz, hw⟩ := hw
        subst hz
        obtain ⟨ca1b, ra1b, fa1b, la1b, ka1b, xa1b, ya1b, za1b⟩ := u'
        obtain ⟨hca1b, hka, hxa, hya, hza⟩ := hw
        obtain rfl : ka1b = 1 := hka
        obtain rfl : xa1b = nI (tf_F1 g) := hxa
        obtain rfl : ya1b = nI (tf_F2 g) := hya
        obtain rfl : za1b = nI (tf_F3 g) := hza
        have hP : va_P D vwCl (wX ad ds (ca1b, ra1b, fa1b, la1b, 1, nI (tf_F1 g), nI (tf_F2 g), nI (tf_F3 g))) H := hP
        have hD : va_D A (wX ad ds (ca1b, ra1b, fa1b, la1b, 1, nI (tf_F1 g), nI (tf_F2 g), nI (tf_F3 g))) := hD
        refine lv_if_eq (tgt := 59) hx hb dX0_full_52 (by decide) (fun m2 => ?_) (fun m2 => ?_)
        · have m2 := tf_be m2
          refine lv_iconst (v := nI 0) hx hb dX0_full_59 (by decide) ?_
          refine lv_istore (lv' := [(4, .int (nI 0)), (3, .int (nI 0)), (0, .ref (ad 0)), (1, .int (nI a)), (2, .int (nI b))]) hx hb dX0_full_60 hl (by decide) rfl (fun ls hl => ?_)
          refine lv_iload_n hx hb dX0_full_62 rfl (lv_at hl 1 rfl) ?_
          refine lv_if_ne (tgt := 75) hx hb dX0_full_63 (by decide) (fun c6 => ?_) (fun c6 => ?_)
          · exact absurd rfl c6
          · refine lv_iload hx hb dX0_full_66 (lv_at hl 0 rfl) ?_
            refine lv_if_ne (tgt := 75) hx hb dX0_full_68 (by decide) (fun c7 => ?_) (fun c7 => ?_)
            · exact absurd rfl c7
            · refine lv_iconst (v := nI 1) hx hb dX0_full_71 (by decide) ?_
              refine lv_goto (tgt := 76) hx hb dX0_full_72 (by decide) ?_
              exact tf_iret (wf := wX ad ds) (ca1b, ra1b, fa1b, la1b, 1, nI (tf_F1 g), nI (tf_F2 g), nI (tf_F3 g)) hx hb hr rfl hlocks hP hK hD hS (⟨tf_b1 (by rw [hfu, m1, m2]; rfl), ⟨hca1b, rfl, rfl, rfl, rfl⟩⟩) dX0_full_76
        · have m2 := tf_bne m2
          refine lv_iconst (v := nI 1) hx hb dX0_full_55 (by decide) ?_
          refine lv_goto (tgt := 60) hx hb dX0_full_56 (by decide) ?_
          refine lv_istore (lv' := [(4, .int (nI 1)), (3, .int (nI 0)), (0, .ref (ad 0)), (1, .int (nI a)), (2, .int (nI b))]) hx hb dX0_full_60 hl (by decide) rfl (fun ls hl => ?_)
          refine lv_iload_n hx hb dX0_full_62 rfl (lv_at hl 1 rfl) ?_
          refine lv_if_ne (tgt := 75) hx hb dX0_full_63 (by decide) (fun c6 => ?_) (fun c6 => ?_)
          · exact absurd rfl c6
          · refine lv_iload hx hb dX0_full_66 (lv_at hl 0 rfl) ?_
            refine lv_if_ne (tgt := 75) hx hb dX0_full_68 (by decide) (fun c7 => ?_) (fun c7 => ?_)
            · refine lv_iconst (v := nI 0) hx hb dX0_full_75 (by decide) ?_
              exact tf_iret (wf := wX ad ds) (ca1b, ra1b, fa1b, la1b, 1, nI (tf_F1 g), nI (tf_F2 g), nI (tf_F3 g)) hx hb hr rfl hlocks hP hK hD hS (⟨tf_b0 (by rw [hfu, m1, m2]; rfl), ⟨hca1b, rfl, rfl, rfl, rfl⟩⟩) dX0_full_76
            · exact absurd c7 (by decide)
    · rw [tf_leN (by omega) (by omega)] at c3
      refine lv_aload_n hx hb dX0_full_19 rfl (lv_at hl 0 rfl) ?_
      refine lv_iload_n hx hb dX0_full_20 rfl (lv_at hl 1 rfl) ?_
      refine lv_iconst (v := nI 1) hx hb dX0_full_21 (by decide) ?_
      refine lv_iadd hx hb dX0_full_22 ?_
      refine tf_top (nI (a + 1)) (nI_add _ _) ?_
      refine lv_iload_n hx hb dX0_full_23 rfl (lv_at hl 2 rfl) ?_
      refine tf_calli (wf := wX ad ds) (u := (ca1, ra1, fa1, la1, 1, nI (tf_F1 g), nI (tf_F2 g), nI (tf_F3 g))) (wr := []) (As := [.int (nI (a + 1)), .int (nI b)]) (rest := []) (ci := 0) (q0 := 0) S hP hK hD hS hA [0, 1, 2, 3, 4] [] [0, 1, 2, 3] rfl (by decide) rfl (by decide) (by decide) rfl (mX0_carries l D _ ad ds ca1 ra1 fa1 la1 1 (nI (tf_F1 g)) (nI (tf_F2 g)) (nI (tf_F3 g)) g hg (⟨hca1, Or.inr ⟨rfl, rfl, rfl, rfl⟩⟩) (nI (a + 1)) (nI b)) rfl rfl (cwV 2 hts (lw_V q130 q72 q73 q12 q74) rfl rfl rfl (by decide +kernel) ⟨Nat.le_of_ble_eq_true rfl, Nat.le_of_ble_eq_true rfl⟩) rfl hl.1 rfl (Nat.le_of_ble_eq_true rfl) dX0_full_24 ⟨Nat.le_of_ble_eq_true rfl, Nat.le_of_ble_eq_true rfl⟩ (fun r_3 u' H locs hw hP hD hS => ?_)
      obtain ⟨hz, hw⟩ := hw
      subst hz
      obtain ⟨ca2, ra2, fa2, la2, ka2, xa2, ya2, za2⟩ := u'
      obtain ⟨hca2, hka, hxa, hya, hza⟩ := hw
      obtain rfl : ka2 = 1 := hka
      obtain rfl : xa2 = nI (tf_F1 g) := hxa
      obtain rfl : ya2 = nI (tf_F2 g) := hya
      obtain rfl : za2 = nI (tf_F3 g) := hza
      have hP : va_P D vwCl (wX ad ds (ca2, ra2, fa2, la2, 1, nI (tf_F1 g), nI (tf_F2 g), nI (tf_F3 g))) H := hP
      have hD : va_D A (wX ad ds (ca2, ra2, fa2, la2, 1, nI (tf_F1 g), nI (tf_F2 g), nI (tf_F3 g))) := hD
      refine lv_if_eq (tgt := 34) hx hb dX0_full_27 (by decide) (fun m1 => ?_) (fun m1 => ?_)
      · have m1 := tf_be m1
        refine lv_iconst (v := nI 0) hx hb dX0_full_34 (by decide) ?_
        refine lv_istore_n (lv' := [(3, .int (nI 0)), (0, .ref (ad 0)), (1, .int (nI a)), (2, .int (nI b))]) hx hb dX0_full_35 rfl hl (by decide) rfl (fun ls hl => ?_)
        refine lv_iload_n hx hb dX0_full_36 rfl (lv_at hl 3 rfl) ?_
        refine lv_aload_n hx hb dX0_full_37 rfl (lv_at hl 1 rfl) ?_
        refine va_get (D := D) (ci := 0) (v := .int (nI (tf_F2 g))) (C := RX0) (T := TX0) (N := 8) hx hb hts in_X0 hown hK hP 0 rfl rfl 6 (by decide) (hts _ q28) (fun _ h9 => h9) rfl dX0_full_38 ?_
        refine lv_icmp_ge (tgt := 59) hx hb dX0_full_41 (by decide) (fun c4 => ?_) (fun c4 => ?_)
        · rw [tf_leN (by omega) (by omega)] at c4
          have m2 := n2 c4
          refine lv_iconst (v := nI 0) hx hb dX0_full_59 (by decide) ?_
          refine lv_istore (lv' := [(4, .int (nI 0)), (3, .int (nI 0)), (0, .ref (ad 0)), (1, .int (nI a)), (2, .int (nI b))]) hx hb dX0_full_60 hl (by decide) rfl (fun ls hl => ?_)
          refine lv_iload_n hx hb dX0_full_62 rfl (lv_at hl 1 rfl) ?_
          refine lv_if_ne (tgt := 75) hx hb dX0_full_63 (by decide) (fun c6 => ?_) (fun c6 => ?_)
          · exact absurd rfl c6
          · refine lv_iload hx hb dX0_full_66 (lv_at hl 0 rfl) ?_
            refine lv_if_ne (tgt := 75) hx hb dX0_full_68 (by decide) (fun c7 => ?_) (fun c7 => ?_)
            · exact absurd rfl c7
            · refine lv_iconst (v := nI 1) hx hb dX0_full_71 (by decide) ?_
              refine lv_goto (tgt := 76) hx hb dX0_full_72 (by decide) ?_
              exact tf_iret (wf := wX ad ds) (ca2, ra2, fa2, la2, 1, nI (tf_F1 g), nI (tf_F2 g), nI (tf_F3 g)) hx hb hr rfl hlocks hP hK hD hS (⟨tf_b1 (by rw [hfu, m1, m2]; rfl), ⟨hca2, rfl, rfl, rfl, rfl⟩⟩) dX0_full_76
        · rw [tf_leN (by omega) (by omega)] at c4
          refine lv_aload_n hx hb dX0_full_44 rfl (lv_at hl 1 rfl) ?_
          refine lv_iload_n hx hb dX0_full_45 rfl (lv_at hl 2 rfl) ?_
          refine lv_iload_n hx hb dX0_full_46 rfl (lv_at hl 3 rfl) ?_
          refine lv_iconst (v := nI 1) hx hb dX0_full_47 (by decide) ?_
          refine lv_iadd hx hb dX0_full_48 ?_
          refine tf_top (nI (b + 1)) (nI_add _ _) ?_
          refine tf_calli (wf := wX ad ds) (u := (ca2, ra2, fa2, la2, 1, nI (tf_F1 g), nI (tf_F2 g), nI (tf_F3 g))) (wr := []) (As := [.int (nI a), .int (nI (b + 1))]) (rest := []) (ci := 0) (q0 := 0) S hP hK hD hS hA [0, 1, 2, 3, 4] [] [0, 1, 2, 3] rfl (by decide) rfl (by decide) (by decide) rfl (mX0_carries l D _ ad ds ca2 ra2 fa2 la2 1 (nI (tf_F1 g)) (nI (tf_F2 g)) (nI (tf_F3 g)) g hg (⟨hca2, Or.inr ⟨rfl, rfl, rfl, rfl⟩⟩) (nI a) (nI (b + 1))) rfl rfl (cwV 2 hts (lw_V q130 q72 q73 q12 q74) rfl rfl rfl (by decide +kernel) ⟨Nat.le_of_ble_eq_true rfl, Nat.le_of_ble_eq_true rfl⟩) rfl hl.1 rfl (Nat.le_of_ble_eq_true rfl) dX0_full_49 ⟨Nat.le_of_ble_eq_true rfl, Nat.le_of_ble_eq_true rfl⟩ (fun r_4 u' H locs hw hP hD hS => ?_)
          obtain ⟨hz, hw⟩ := hw
          subst hz
          obtain ⟨ca2b, ra2b, fa2b, la2b, ka2b, xa2b, ya2b, za2b⟩ := u'
          obtain ⟨hca2b, hka, hxa, hya, hza⟩ := hw
          obtain rfl : ka2b = 1 := hka
          obtain rfl : xa2b = nI (tf_F1 g) := hxa
          obtain rfl : ya2b = nI (tf_F2 g) := hya
          obtain rfl : za2b = nI (tf_F3 g) := hza
          have hP : va_P D vwCl (wX ad ds (ca2b, ra2b, fa2b, la2b, 1, nI (tf_F1 g), nI (tf_F2 g), nI (tf_F3 g))) H := hP
          have hD : va_D A (wX ad ds (ca2b, ra2b, fa2b, la2b, 1, nI (tf_F1 g), nI (tf_F2 g), nI (tf_F3 g))) := hD
          refine lv_if_eq (tgt := 59) hx hb dX0_full_52 (by decide) (fun m2 => ?_) (fun m2 => ?_)
          · have m2 := tf_be m2
            refine lv_iconst (v := nI 0) hx hb dX0_full_59 (by decide) ?_
            refine lv_istore (lv' := [(4, .int (nI 0)), (3, .int (nI 0)), (0, .ref (ad 0)), (1, .int (nI a)), (2, .int (nI b))]) hx hb dX0_full_60 hl (by decide) rfl (fun ls hl => ?_)
            refine lv_iload_n hx hb dX0_full_62 rfl (lv_at hl 1 rfl) ?_
            refine lv_if_ne (tgt := 75) hx hb dX0_full_63 (by decide) (fun c6 => ?_) (fun c6 => ?_)
            · exact absurd rfl c6
            · refine lv_iload hx hb dX0_full_66 (lv_at hl 0 rfl) ?_
              refine lv_if_ne (tgt := 75) hx hb dX0_full_68 (by decide) (fun c7 => ?_) (fun c7 => ?_)
              · exact absurd rfl c7
              · refine lv_iconst (v := nI 1) hx hb dX0_full_71 (by decide) ?_
                refine lv_goto (tgt := 76) hx hb dX0_full_72 (by decide) ?_
                exact tf_iret (wf := wX ad ds) (ca2b, ra2b, fa2b, la2b, 1, nI (tf_F1 g), nI (tf_F2 g), nI (tf_F3 g)) hx hb hr rfl hlocks hP hK hD hS (⟨tf_b1 (by rw [hfu, m1, m2]; rfl), ⟨hca2b, rfl, rfl, rfl, rfl⟩⟩) dX0_full_76
          · have m2 := tf_bne m2
            refine lv_iconst (v := nI 1) hx hb dX0_full_55 (by decide) ?_
            refine lv_goto (tgt := 60) hx hb dX0_full_56 (by decide) ?_
            refine lv_istore (lv' := [(4, .int (nI 1)), (3, .int (nI 0)), (0, .ref (ad 0)), (1, .int (nI a)), (2, .int (nI b))]) hx hb dX0_full_60 hl (by decide) rfl (fun ls hl => ?_)
            refine lv_iload_n hx hb dX0_full_62 rfl (lv_at hl 1 rfl) ?_
            refine lv_if_ne (tgt := 75) hx hb dX0_full_63 (by decide) (fun c6 => ?_) (fun c6 => ?_)
            · exact absurd rfl c6
            · refine lv_iload hx hb dX0_full_66 (lv_at hl 0 rfl) ?_
              refine lv_if_ne (tgt := 75) hx hb dX0_full_68 (by decide) (fun c7 => ?_) (fun c7 => ?_)
              · refine lv_iconst (v := nI 0) hx hb dX0_full_75 (by decide) ?_
                exact tf_iret (wf := wX ad ds) (ca2b, ra2b, fa2b, la2b, 1, nI (tf_F1 g), nI (tf_F2 g), nI (tf_F3 g)) hx hb hr rfl hlocks hP hK hD hS (⟨tf_b0 (by rw [hfu, m1, m2]; rfl), ⟨hca2b, rfl, rfl, rfl, rfl⟩⟩) dX0_full_76
              · exact absurd c7 (by decide)
      · have m1 := tf_bne m1
        refine lv_iconst (v := nI 1) hx hb dX0_full_30 (by decide) ?_
        refine lv_goto (tgt := 35) hx hb dX0_full_31 (by decide) ?_
        refine lv_istore_n (lv' := [(3, .int (nI 1)), (0, .ref (ad 0)), (1, .int (nI a)), (2, .int (nI b))]) hx hb dX0_full_35 rfl hl (by decide) rfl (fun ls hl => ?_)
        refine lv_iload_n hx hb dX0_full_36 rfl (lv_at hl 3 rfl) ?_
        refine lv_aload_n hx hb dX0_full_37 rfl (lv_at hl 1 rfl) ?_
        refine va_get (D := D) (ci := 0) (v := .int (nI (tf_F2 g))) (C := RX0) (T := TX0) (N := 8) hx hb hts in_X0 hown hK hP 0 rfl rfl 6 (by decide) (hts _ q28) (fun _ h9 => h9) rfl dX0_full_38 ?_
        refine lv_icmp_ge (tgt := 59) hx hb dX0_full_41 (by decide) (fun c4 => ?_) (fun c4 => ?_)
        · rw [tf_leN (by omega) (by omega)] at c4
          have m2 := n2 c4
          refine lv_iconst (v := nI 0) hx hb dX0_full_59 (by decide) ?_
          refine lv_istore (lv' := [(4, .int (nI 0)), (3, .int (nI 1)), (0, .ref (ad 0)), (1, .int (nI a)), (2, .int (nI b))]) hx hb dX0_full_60 hl (by decide) rfl (fun ls hl => ?_)
          refine lv_iload_n hx hb dX0_full_62 rfl (lv_at hl 1 rfl) ?_
          refine lv_if_ne (tgt := 75) hx hb dX0_full_63 (by decide) (fun c6 => ?_) (fun c6 => ?_)
          · refine lv_iconst (v := nI 0) hx hb dX0_full_75 (by decide) ?_
            exact tf_iret (wf := wX ad ds) (ca2, ra2, fa2, la2, 1, nI (tf_F1 g), nI (tf_F2 g), nI (tf_F3 g)) hx hb hr rfl hlocks hP hK hD hS (⟨tf_b0 (by rw [hfu, m1]; rfl), ⟨hca2, rfl, rfl, rfl, rfl⟩⟩) dX0_full_76
          · exact absurd c6 (by decide)
        · rw [tf_leN (by omega) (by omega)] at c4
          refine lv_aload_n hx hb dX0_full_44 rfl (lv_at hl 1 rfl) ?_
          refine lv_iload_n hx hb dX0_full_45 rfl (lv_at hl 2 rfl) ?_
          refine lv_iload_n hx hb dX0_full_46 rfl (lv_at hl 3 rfl) ?_
          refine lv_iconst (v := nI 1) hx hb dX0_full_47 (by decide) ?_
          refine lv_iadd hx hb dX0_full_48 ?_
          refine tf_top (nI (b + 1)) (nI_add _ _) ?_
          refine tf_calli (wf := wX ad ds) (u := (ca2, ra2, fa2, la2, 1, nI (tf_F1 g), nI (tf_F2 g), nI (tf_F3 g))) (wr := []) (As := [.int (nI a), .int (nI (b + 1))]) (rest := []) (ci := 0) (q0 := 0) S hP hK hD hS hA [0, 1, 2, 3, 4] [] [0, 1, 2, 3] rfl (by decide) rfl (by decide) (by decide) rfl (mX0_carries l D _ ad ds ca2 ra2 fa2 la2 1 (nI (tf_F1 g)) (nI (tf_F2 g)) (nI (tf_F3 g)) g hg (⟨hca2, Or.inr ⟨rfl, rfl, rfl, rfl⟩⟩) (nI a) (nI (b + 1))) rfl rfl (cwV 2 hts (lw_V q130 q72 q73 q12 q74) rfl rfl rfl (by decide +kernel) ⟨Nat.le_of_ble_eq_true rfl, Nat.le_of_ble_eq_true rfl⟩) rfl hl.1 rfl (Nat.le_of_ble_eq_true rfl) dX0_full_49 ⟨Nat.le_of_ble_eq_true rfl, Nat.le_of_ble_eq_true rfl⟩ (fun r_5 u' H locs hw hP hD hS => ?_)
          obtain ⟨hz, hw⟩ := hw
          subst hz
          obtain ⟨ca2b, ra2b, fa2b, la2b, ka2b, xa2b, ya2b, za2b⟩ := u'
          obtain ⟨hca2b, hka, hxa, hya, hza⟩ := hw
          obtain rfl : ka2b = 1 := hka
          obtain rfl : xa2b = nI (tf_F1 g) := hxa
          obtain rfl : ya2b = nI (tf_F2 g) := hya
          obtain rfl : za2b = nI (tf_F3 g) := hza
          have hP : va_P D vwCl (wX ad ds (ca2b, ra2b, fa2b, la2b, 1, nI (tf_F1 g), nI (tf_F2 g), nI (tf_F3 g))) H := hP
          have hD : va_D A (wX ad ds (ca2b, ra2b, fa2b, la2b, 1, nI (tf_F1 g), nI (tf_F2 g), nI (tf_F3 g))) := hD
          refine lv_if_eq (tgt := 59) hx hb dX0_full_52 (by decide) (fun m2 => ?_) (fun m2 => ?_)
          · have m2 := tf_be m2
            refine lv_iconst (v := nI 0) hx hb dX0_full_59 (by decide) ?_
            refine lv_istore (lv' := [(4, .int (nI 0)), (3, .int (nI 1)), (0, .ref (ad 0)), (1, .int (nI a)), (2, .int (nI b))]) hx hb dX0_full_60 hl (by decide) rfl (fun ls hl => ?_)
            refine lv_iload_n hx hb dX0_full_62 rfl (lv_at hl 1 rfl) ?_
            refine lv_if_ne (tgt := 75) hx hb dX0_full_63 (by decide) (fun c6 => ?_) (fun c6 => ?_)
            · refine lv_iconst (v := nI 0) hx hb dX0_full_75 (by decide) ?_
              exact tf_iret (wf := wX ad ds) (ca2b, ra2b, fa2b, la2b, 1, nI (tf_F1 g), nI (tf_F2 g), nI (tf_F3 g)) hx hb hr rfl hlocks hP hK hD hS (⟨tf_b0 (by rw [hfu, m1]; rfl), ⟨hca2b, rfl, rfl, rfl, rfl⟩⟩) dX0_full_76
            · exact absurd c6 (by decide)
          · have m2 := tf_bne m2
            refine lv_iconst (v := nI 1) hx hb dX0_full_55 (by decide) ?_
            refine lv_goto (tgt := 60) hx hb dX0_full_56 (by decide) ?_
            refine lv_istore (lv' := [(4, .int (nI 1)), (3, .int (nI 1)), (0, .ref (ad 0)), (1, .int (nI a)), (2, .int (nI b))]) hx hb dX0_full_60 hl (by decide) rfl (fun ls hl => ?_)
            refine lv_iload_n hx hb dX0_full_62 rfl (lv_at hl 1 rfl) ?_
            refine lv_if_ne (tgt := 75) hx hb dX0_full_63 (by decide) (fun c6 => ?_) (fun c6 => ?_)
            · refine lv_iconst (v := nI 0) hx hb dX0_full_75 (by decide) ?_
              exact tf_iret (wf := wX ad ds) (ca2b, ra2b, fa2b, la2b, 1, nI (tf_F1 g), nI (tf_F2 g), nI (tf_F3 g)) hx hb hr rfl hlocks hP hK hD hS (⟨tf_b0 (by rw [hfu, m1]; rfl), ⟨hca2b, rfl, rfl, rfl, rfl⟩⟩) dX0_full_76
            · exact absurd c6 (by decide)
  · have c1 := tf_be c1
    refine lv_iconst (v := nI 0) hx hb dX0_full_9 (by decide) ?_
    exact tf_iret (wf := wX ad ds) (ca1, ra1, fa1, la1, 1, nI (tf_F1 g), nI (tf_F2 g), nI (tf_F3 g)) hx hb hr rfl hlocks hP hK hD hS (⟨tf_b0 (by unfold tf_fu; rw [c1]; rfl), ⟨hca1, rfl, rfl, rfl, rfl⟩⟩) dX0_full_10
end
section
/-! pure: what the model's loops find -/
def tf_ft (g : Nat → Nat) (x y : Nat) : Bool := decide (x ≤ tf_lim g 1 ∧ y ≤ tf_lim g 2 ∧ x + y ≤ tf_lim g 3)
theorem tf_5 (a : Int32) : (nI 5 < a) = (nI 6 ≤ a) := by
  rw [Int32.lt_iff_toInt_lt, Int32.le_iff_toInt_le, nI_toInt (by decide), nI_toInt (by decide)]
  exact propext ⟨fun h => by omega, fun h => by omega⟩
theorem tf_lin_s (g : Nat → Nat) (T : Nat) {i : Nat} : tf_lin g T (i + 1) = tf_lin g T i + (if T.testBit (i / 6) = true ∧ T.testBit (i % 6) = false then g i else 0) := by
  show tf_lin g T i + tf_t g T (i / 6) (i % 6) = _
  unfold tf_t
  rw [show 6 * (i / 6) + i % 6 = i by omega]
theorem tf_w_no1 {g : Nat → Nat} {x y : Int32} {i : Nat} (hi : i < 36) (b1 : ¬ (x >>> (nI (i / 6) &&& 31)) &&& nI 1 = nI 1) (h : ∀ T, T < 64 → x = nI T → y = nI (tf_lin g T i)) : ∀ T, T < 64 → x = nI T → y = nI (tf_lin g T (i + 1)) := by
  intro T hT hx
  rw [hx, tf_in T hT _ (by omega)] at b1
  have hb : T.testBit (i / 6) = false := by
    cases q : T.testBit (i / 6) with
    | false => rfl
    | true => rw [q] at b1; exact absurd rfl b1
  rw [h T hT hx, tf_lin_s, hb, if_neg (by simp)]
  rfl
theorem tf_w_no2 {g : Nat → Nat} {x y : Int32} {i : Nat} (hi : i < 36) (b2 : ¬ (x >>> (nI (i % 6) &&& 31)) &&& nI 1 = 0) (h : ∀ T, T < 64 → x = nI T → y = nI (tf_lin g T i)) : ∀ T, T < 64 → x = nI T → y = nI (tf_lin g T (i + 1)) := by
  intro T hT hx
  rw [hx, tf_in T hT _ (by omega)] at b2
  have hb : T.testBit (i % 6) = true := by
    cases q : T.testBit (i % 6) with
    | true => rfl
    | false => rw [q] at b2; exact absurd rfl b2
  rw [h T hT hx, tf_lin_s, hb, if_neg (by simp)]
  rfl
theorem tf_w_yes {g : Nat → Nat} {x y : Int32} {i : Nat} (hi : i < 36) (b1 : (x >>> (nI (i / 6) &&& 31)) &&& nI 1 = nI 1) (b2 : (x >>> (nI (i % 6) &&& 31)) &&& nI 1 = 0) (h : ∀ T, T < 64 → x = nI T → y = nI (tf_lin g T i)) : ∀ T, T < 64 → x = nI T → y + nI (g i) = nI (tf_lin g T (i + 1)) := by
  intro T hT hx
  rw [hx, tf_in T hT _ (by omega)] at b1
  rw [hx, tf_in T hT _ (by omega)] at b2
  have h1 : T.testBit (i / 6) = true := by
    cases q : T.testBit (i / 6) with
    | true => rfl
    | false => rw [q] at b1; exact absurd b1 (by decide)
  have h2 : T.testBit (i % 6) = false := by
    cases q : T.testBit (i % 6) with
    | false => rfl
    | true => rw [q] at b2; exact absurd b2 (by decide)
  rw [h T hT hx, tf_lin_s, if_pos ⟨h1, h2⟩, nI_add]
theorem tf_wiR_nn {g : Nat → Nat} {T : Nat} (hT : T < 64) : tf_wiR g (nI T) = nI (tf_wid g T) := by
  unfold tf_wiR
  rw [if_neg, nI_clamp (by omega)]
  intro h
  rcases h with h | h
  · exact nI_pos (by omega) h
  · exact h (nI_le (by omega) (by decide))
theorem tf_fx : ∀ n, n < 64 → nI n ^^^ (nI n >>> (nI 1 &&& 31)) = nI (n ^^^ (n >>> 1)) := by decide +kernel
theorem tf_kd : ∀ n, n < 64 → (nI (n ^^^ (n >>> 1)) &&& nI 1) ||| (((nI (n ^^^ (n >>> 1)) >>> (nI 2 &&& 31)) &&& nI 1) <<< (nI 1 &&& 31)) = nI (tf_kind n) := by decide +kernel
theorem tf_lm_up {g : Nat → Nat} {lm : Nat → Int32} {n v : Nat} (h : ∀ k, k < 4 → lm k = nI (tf_lm g n k)) (hv : v = if tf_wid g n < tf_lm g n (tf_kind n) then tf_wid g n else tf_lm g n (tf_kind n)) : ∀ k, k < 4 → upd lm (tf_kind n) (nI v) k = nI (tf_lm g (n + 1) k) := by
  intro k hk
  rw [tf_lm_s]
  by_cases c : k = tf_kind n
  · rw [if_pos c.symm, c, pk_us, hv]
  · rw [if_neg (fun q => c q.symm), pk_un c]
    exact h k hk
/-- the last number under n that has P, or d -/
def tf_mx (d : Int32) (P : Nat → Bool) : Nat → Int32
  | 0 => d
  | n + 1 => if P n = true then nI n else tf_mx d P n
theorem tf_mx_y {d : Int32} {P : Nat → Bool} {n : Nat} (h : P n = true) : nI n = tf_mx d P (n + 1) := by
  show nI n = if P n = true then nI n else tf_mx d P n
  rw [if_pos h]
theorem tf_mx_n {d : Int32} {P : Nat → Bool} {n : Nat} (h : P n = false) : tf_mx d P n = tf_mx d P (n + 1) := by
  show tf_mx d P n = if P n = true then nI n else tf_mx d P n
  rw [if_neg (by rw [h]; decide)]
theorem tf_mx_0 {d : Int32} {P : Nat → Bool} : ∀ {n : Nat}, (∀ k, k < n → P k = false) → tf_mx d P n = d := by
  intro n
  induction n with
  | zero => intro _; rfl
  | succ n ih =>
    intro h
    rw [← tf_mx_n (h n (by omega))]
    exact ih (fun k hk => h k (by omega))
theorem tf_mx_F {d : Int32} {P : Nat → Bool} {F : Nat} : ∀ {n : Nat}, F < n → (∀ k, k < n → P k = decide (k ≤ F)) → tf_mx d P n = nI F := by
  intro n
  induction n with
  | zero => intro h; omega
  | succ n ih =>
    intro hF h
    by_cases c : F = n
    · rw [c]
      exact (tf_mx_y (by rw [h n (by omega), c]; simp)).symm
    · rw [← tf_mx_n (by rw [h n (by omega)]; exact decide_eq_false (by omega))]
      exact ih (by omega) (fun k hk => h k (by omega))
def tf_aP (g : Nat → Nat) (x : Int32) (n : Nat) : Bool := (decide (x = 0) && tf_ft g n 0) || (decide (x = nI 1) && tf_ft g 0 n)
/-- places of few: nothing is wider than 100 -/
theorem tf_L20 {g : Nat → Nat} (hg : tf_ok 20 g) : tf_lim g 1 ≤ 100 ∧ tf_lim g 2 ≤ 100 := by
  have h1 := tf_lim_le g (S := 1) (by decide)
  have h2 := tf_lim_le g (S := 4) (by decide)
  have a1 := tf_wid_le hg.2 1
  have a2 := tf_wid_le hg.2 4
  rw [show tf_kind 1 = 1 by decide +kernel] at h1
  rw [show tf_kind 4 = 2 by decide +kernel] at h2
  have b1 : tf_wid (fun _ => 20) 1 = 100 := by decide +kernel
  have b2 : tf_wid (fun _ => 20) 4 = 100 := by decide +kernel
  omega
theorem tf_L21 {g : Nat → Nat} (hg : tf_ok 21 g) : tf_lim g 1 ≤ 105 ∧ tf_lim g 2 ≤ 105 := by
  have h1 := tf_lim_le g (S := 1) (by decide)
  have h2 := tf_lim_le g (S := 4) (by decide)
  have a1 := tf_wid_le hg.2 1
  have a2 := tf_wid_le hg.2 4
  rw [show tf_kind 1 = 1 by decide +kernel] at h1
  rw [show tf_kind 4 = 2 by decide +kernel] at h2
  have b1 : tf_wid (fun _ => 21) 1 = 105 := by decide +kernel
  have b2 : tf_wid (fun _ => 21) 4 = 105 := by decide +kernel
  omega
theorem tf_al_end {g : Nat → Nat} (hg : tf_ok 20 g) (x : Int32) (hx : x = 0 ∨ x = nI 1) : tf_mx (nI 0) (tf_aP g x) 101 = tf_al g x := by
  have hL := tf_L20 hg
  have e1 : tf_F1 g = min (tf_lim g 1) (tf_lim g 3) := rfl
  have e2 : tf_F2 g = min (tf_lim g 2) (tf_lim g 3) := rfl
  rcases hx with rfl | rfl
  · rw [tf_mx_F (F := tf_F1 g) (by omega)]
    · unfold tf_al; rw [if_pos rfl]
    · intro k hk
      unfold tf_aP tf_ft
      rw [show decide ((0 : Int32) = 0) = true by decide, show decide ((0 : Int32) = nI 1) = false by decide, Bool.true_and, Bool.false_and, Bool.or_false]
      exact decide_eq_decide.mpr ⟨fun h => by omega, fun h => by omega⟩
  · rw [tf_mx_F (F := tf_F2 g) (by omega)]
    · unfold tf_al; rw [if_neg (by decide), if_pos rfl]
    · intro k hk
      unfold tf_aP tf_ft
      rw [show decide (nI 1 = 0) = false by decide, show decide (nI 1 = nI 1) = true by decide, Bool.true_and, Bool.false_and, Bool.false_or]
      exact decide_eq_decide.mpr ⟨fun h => by omega, fun h => by omega⟩
theorem tf_al_bad {g : Nat → Nat} {x : Int32} (h0 : ¬ x = 0) (h1 : ¬ x = nI 1) : (-1) = tf_al g x := by
  unfold tf_al; rw [if_neg h0, if_neg h1]
theorem tf_bs_end {g : Nat → Nat} (hg : tf_ok 20 g) {a : Nat} (ha : a ≤ 100) : tf_mx (-1) (tf_ft g a) 101 = tf_bs g (nI a) := by
  have hL := tf_L20 hg
  have hF := tf_F_bd (tf_ok_mono hg (by decide))
  have e1 : tf_F1 g = min (tf_lim g 1) (tf_lim g 3) := rfl
  have e2 : tf_F2 g = min (tf_lim g 2) (tf_lim g 3) := rfl
  have e3 : tf_F3 g = tf_lim g 3 := rfl
  by_cases c : a ≤ tf_F1 g
  · rw [tf_bs_nn (tf_ok_mono hg (by decide)) c, tf_mx_F (F := min (tf_F2 g) (tf_F3 g - a)) (by omega)]
    intro k hk
    unfold tf_ft
    exact decide_eq_decide.mpr ⟨fun h => by omega, fun h => by omega⟩
  · rw [tf_mx_0]
    · unfold tf_bs
      rw [if_neg]
      intro h
      have h2 := h.2
      rw [tf_leN (by omega) (by omega)] at h2
      omega
    · intro k hk
      exact decide_eq_false (by omega)
theorem tf_bs_bad {g : Nat → Nat} (hg : tf_ok 20 g) {x : Int32} (h : x < 0 ∨ nI 100 < x) : (-1) = tf_bs g x := by
  have hL := tf_L20 hg
  have e1 : tf_F1 g = min (tf_lim g 1) (tf_lim g 3) := rfl
  unfold tf_bs
  rw [if_neg]
  intro q
  rcases h with h | h
  · exact q.1 h
  · obtain ⟨a, ha, rfl⟩ := nI_of q.1
    have h2 := q.2
    rw [tf_leN (by omega) (by omega)] at h2
    rw [tf_ltN (by decide) (by omega)] at h
    omega
theorem tf_ev_end {g : Nat → Nat} (hg : tf_ok 20 g) : tf_mx (nI 0) (fun n => tf_ft g n n) 101 = nI (tf_ev g) := by
  have hL := tf_L20 hg
  have e1 : tf_F1 g = min (tf_lim g 1) (tf_lim g 3) := rfl
  have e2 : tf_F2 g = min (tf_lim g 2) (tf_lim g 3) := rfl
  have e3 : tf_F3 g = tf_lim g 3 := rfl
  have e4 : tf_ev g = min (tf_F2 g) (min (tf_F1 g) (tf_F3 g / 2)) := rfl
  refine tf_mx_F (by omega) (fun k hk => ?_)
  exact decide_eq_decide.mpr ⟨fun h => by omega, fun h => by omega⟩
/-- the model's search for the most: all before (x, y) seen -/
def tf_mp (g : Nat → Nat) (x y m : Nat) : Prop := (∀ a b, b ≤ 100 → (a < x ∨ (a = x ∧ b < y)) → tf_ft g a b = true → a + b ≤ m) ∧ ∃ a b, tf_ft g a b = true ∧ a + b = m
theorem tf_mp_0 (g : Nat → Nat) : tf_mp g 0 0 0 := ⟨fun a b _ h _ => by omega, 0, 0, decide_eq_true ⟨Nat.zero_le _, Nat.zero_le _, Nat.zero_le _⟩, rfl⟩
theorem tf_mp_y {g : Nat → Nat} {x y m : Nat} (h : tf_mp g x y m) (hf : tf_ft g x y = true) (hm : m < x + y) : tf_mp g x (y + 1) (x + y) := by
  refine ⟨fun a b hb hab hf2 => ?_, x, y, hf, rfl⟩
  by_cases c : a = x ∧ b = y
  · omega
  · have := h.1 a b hb (by omega) hf2
    omega
theorem tf_mp_n {g : Nat → Nat} {x y m : Nat} (h : tf_mp g x y m) (hf : tf_ft g x y = true → x + y ≤ m) : tf_mp g x (y + 1) m := by
  refine ⟨fun a b hb hab hf2 => ?_, h.2⟩
  by_cases c : a = x ∧ b = y
  · obtain ⟨rfl, rfl⟩ := c
    exact hf hf2
  · exact h.1 a b hb (by omega) hf2
theorem tf_mp_r {g : Nat → Nat} {x m : Nat} (h : tf_mp g x 101 m) : tf_mp g (x + 1) 0 m := ⟨fun a b hb hab hf => h.1 a b hb (by omega) hf, h.2⟩
theorem tf_mp_bd {g : Nat → Nat} (hg : tf_ok 21 g) {x y m : Nat} (h : tf_mp g x y m) : m ≤ 756 := by
  obtain ⟨a, b, hf, e⟩ := h.2
  have h1 := of_decide_eq_true hf
  have h3 := tf_lim_bd hg (k := 3) (by decide)
  omega
/-- a pair's part of a side's width -/
def tf_q (g : Nat → Nat) (S i j : Nat) : Nat := if S.testBit i = S.testBit j then 0 else g (6 * i + j)
theorem tf_q_t {N : Nat} {g : Nat → Nat} (hg : tf_ok N g) (S : Nat) {i j : Nat} (hi : i < 6) (hj : j < 6) : tf_t g S i j + tf_t g S j i = tf_q g S i j := by
  unfold tf_t tf_q
  rw [hg.1 j hj i hi]
  cases S.testBit i <;> cases S.testBit j <;> simp
theorem tf_t_d (g : Nat → Nat) (S i : Nat) : tf_t g S i i = 0 := by
  unfold tf_t
  cases S.testBit i <;> simp
theorem tf_wid15 {N : Nat} {g : Nat → Nat} (hg : tf_ok N g) (S : Nat) : tf_wid g S = tf_q g S 0 1 + tf_q g S 0 2 + tf_q g S 0 3 + tf_q g S 0 4 + tf_q g S 0 5 + tf_q g S 1 2 + tf_q g S 1 3 + tf_q g S 1 4 + tf_q g S 1 5 + tf_q g S 2 3 + tf_q g S 2 4 + tf_q g S 2 5 + tf_q g S 3 4 + tf_q g S 3 5 + tf_q g S 4 5 := by
  have h01 := tf_q_t hg S (i := 0) (j := 1) (by decide) (by decide)
  have h02 := tf_q_t hg S (i := 0) (j := 2) (by decide) (by decide)
  have h03 := tf_q_t hg S (i := 0) (j := 3) (by decide) (by decide)
  have h04 := tf_q_t hg S (i := 0) (j := 4) (by decide) (by decide)
  have h05 := tf_q_t hg S (i := 0) (j := 5) (by decide) (by decide)
  have h12 := tf_q_t hg S (i := 1) (j := 2) (by decide) (by decide)
  have h13 := tf_q_t hg S (i := 1) (j := 3) (by decide) (by decide)
  have h14 := tf_q_t hg S (i := 1) (j := 4) (by decide) (by decide)
  have h15 := tf_q_t hg S (i := 1) (j := 5) (by decide) (by decide)
  have h23 := tf_q_t hg S (i := 2) (j := 3) (by decide) (by decide)
  have h24 := tf_q_t hg S (i := 2) (j := 4) (by decide) (by decide)
  have h25 := tf_q_t hg S (i := 2) (j := 5) (by decide) (by decide)
  have h34 := tf_q_t hg S (i := 3) (j := 4) (by decide) (by decide)
  have h35 := tf_q_t hg S (i := 3) (j := 5) (by decide) (by decide)
  have h45 := tf_q_t hg S (i := 4) (j := 5) (by decide) (by decide)
  have d0 := tf_t_d g S 0
  have d1 := tf_t_d g S 1
  have d2 := tf_t_d g S 2
  have d3 := tf_t_d g S 3
  have d4 := tf_t_d g S 4
  have d5 := tf_t_d g S 5
  simp only [tf_wid, tf_row, tf_sum]
  omega
theorem tf_bit1 : ∀ S, S < 64 → ∀ i, i < 6 → (S ^^^ 1).testBit i = (if i = 0 then !(S.testBit i) else S.testBit i) := by decide +kernel
theorem tf_bit4 : ∀ S, S < 64 → ∀ i, i < 6 → (S ^^^ 4).testBit i = (if i = 2 then !(S.testBit i) else S.testBit i) := by decide +kernel
theorem tf_kx1 : ∀ S, S < 64 → tf_kind S = 2 → S ^^^ 1 < 64 ∧ tf_kind (S ^^^ 1) = 3 ∧ (S.testBit 0 ≠ S.testBit 2 ∨ S.testBit 0 ≠ S.testBit 3) := by decide +kernel
theorem tf_kx4 : ∀ S, S < 64 → tf_kind S = 1 → S ^^^ 4 < 64 ∧ tf_kind (S ^^^ 4) = 3 ∧ (S.testBit 0 ≠ S.testBit 2 ∨ S.testBit 1 ≠ S.testBit 2) := by decide +kernel
theorem tf_q_same {g : Nat → Nat} {S T i j : Nat} (hi : T.testBit i = S.testBit i) (hj : T.testBit j = S.testBit j) : tf_q g T i j = tf_q g S i j := by
  unfold tf_q; rw [hi, hj]
theorem tf_q_o1 {g : Nat → Nat} {S T i j : Nat} (hi : T.testBit i = !(S.testBit i)) (hj : T.testBit j = S.testBit j) : tf_q g S i j + tf_q g T i j = g (6 * i + j) := by
  unfold tf_q
  rw [hi, hj]
  cases S.testBit i <;> cases S.testBit j <;> simp
theorem tf_q_o2 {g : Nat → Nat} {S T i j : Nat} (hi : T.testBit i = S.testBit i) (hj : T.testBit j = !(S.testBit j)) : tf_q g S i j + tf_q g T i j = g (6 * i + j) := by
  unfold tf_q
  rw [hi, hj]
  cases S.testBit i <;> cases S.testBit j <;> simp
theorem tf_q_ne {g : Nat → Nat} {S i j : Nat} (h : S.testBit i ≠ S.testBit j) : tf_q g S i j = g (6 * i + j) := by
  unfold tf_q; rw [if_neg h]
theorem tf_q_eq {g : Nat → Nat} {S i j : Nat} (h : S.testBit i = S.testBit j) : tf_q g S i j = 0 := by
  unfold tf_q; rw [if_pos h]
theorem tf_mA {g : Nat → Nat} (hg : tf_ok 21 g) (h : 100 < tf_lim g 1) : tf_lim g 3 ≤ tf_lim g 2 + 71 := by
  obtain ⟨S, hS, hk, hw⟩ := tf_lim_at hg (k := 2) (by decide)
  obtain ⟨hT, hk3, hne⟩ := tf_kx1 S hS hk
  have hl := tf_lim_le g hT
  rw [hk3] at hl
  have h1 := tf_lim_le g (S := 1) (by decide)
  rw [show tf_kind 1 = 1 by decide +kernel, tf_wid15 hg 1] at h1
  rw [tf_q_ne (i := 0) (j := 1) (by decide +kernel), tf_q_ne (i := 0) (j := 2) (by decide +kernel), tf_q_ne (i := 0) (j := 3) (by decide +kernel), tf_q_ne (i := 0) (j := 4) (by decide +kernel), tf_q_ne (i := 0) (j := 5) (by decide +kernel), tf_q_eq (i := 1) (j := 2) (by decide +kernel), tf_q_eq (i := 1) (j := 3) (by decide +kernel), tf_q_eq (i := 1) (j := 4) (by decide +kernel), tf_q_eq (i := 1) (j := 5) (by decide +kernel), tf_q_eq (i := 2) (j := 3) (by decide +kernel), tf_q_eq (i := 2) (j := 4) (by decide +kernel), tf_q_eq (i := 2) (j := 5) (by decide +kernel), tf_q_eq (i := 3) (j := 4) (by decide +kernel), tf_q_eq (i := 3) (j := 5) (by decide +kernel), tf_q_eq (i := 4) (j := 5) (by decide +kernel)] at h1
  rw [tf_wid15 hg] at hl hw
  have b0 : (S ^^^ 1).testBit 0 = !(S.testBit 0) := by rw [tf_bit1 S hS 0 (by decide)]; rfl
  have b1 : (S ^^^ 1).testBit 1 = S.testBit 1 := by rw [tf_bit1 S hS 1 (by decide)]; rfl
  have b2 : (S ^^^ 1).testBit 2 = S.testBit 2 := by rw [tf_bit1 S hS 2 (by decide)]; rfl
  have b3 : (S ^^^ 1).testBit 3 = S.testBit 3 := by rw [tf_bit1 S hS 3 (by decide)]; rfl
  have b4 : (S ^^^ 1).testBit 4 = S.testBit 4 := by rw [tf_bit1 S hS 4 (by decide)]; rfl
  have b5 : (S ^^^ 1).testBit 5 = S.testBit 5 := by rw [tf_bit1 S hS 5 (by decide)]; rfl
  rw [tf_q_same (g := g) b1 b2, tf_q_same (g := g) b1 b3, tf_q_same (g := g) b1 b4, tf_q_same (g := g) b1 b5, tf_q_same (g := g) b2 b3, tf_q_same (g := g) b2 b4, tf_q_same (g := g) b2 b5, tf_q_same (g := g) b3 b4, tf_q_same (g := g) b3 b5, tf_q_same (g := g) b4 b5] at hl
  have o1 := tf_q_o1 (g := g) b0 b1
  have o2 := tf_q_o1 (g := g) b0 b2
  have o3 := tf_q_o1 (g := g) b0 b3
  have o4 := tf_q_o1 (g := g) b0 b4
  have o5 := tf_q_o1 (g := g) b0 b5
  have m1 := hg.2 (6 * 0 + 1) (by decide)
  have m2 := hg.2 (6 * 0 + 2) (by decide)
  have m3 := hg.2 (6 * 0 + 3) (by decide)
  have m4 := hg.2 (6 * 0 + 4) (by decide)
  have m5 := hg.2 (6 * 0 + 5) (by decide)
  rcases hne with q | q
  · have e := tf_q_ne (g := g) q
    omega
  · have e := tf_q_ne (g := g) q
    omega
theorem tf_mB {g : Nat → Nat} (hg : tf_ok 21 g) (h : 100 < tf_lim g 2) : tf_lim g 3 ≤ tf_lim g 1 + 71 := by
  obtain ⟨S, hS, hk, hw⟩ := tf_lim_at hg (k := 1) (by decide)
  obtain ⟨hT, hk3, hne⟩ := tf_kx4 S hS hk
  have hl := tf_lim_le g hT
  rw [hk3] at hl
  have h1 := tf_lim_le g (S := 4) (by decide)
  rw [show tf_kind 4 = 2 by decide +kernel, tf_wid15 hg 4] at h1
  rw [tf_q_eq (i := 0) (j := 1) (by decide +kernel), tf_q_ne (i := 0) (j := 2) (by decide +kernel), tf_q_eq (i := 0) (j := 3) (by decide +kernel), tf_q_eq (i := 0) (j := 4) (by decide +kernel), tf_q_eq (i := 0) (j := 5) (by decide +kernel), tf_q_ne (i := 1) (j := 2) (by decide +kernel), tf_q_eq (i := 1) (j := 3) (by decide +kernel), tf_q_eq (i := 1) (j := 4) (by decide +kernel), tf_q_eq (i := 1) (j := 5) (by decide +kernel), tf_q_ne (i := 2) (j := 3) (by decide +kernel), tf_q_ne (i := 2) (j := 4) (by decide +kernel), tf_q_ne (i := 2) (j := 5) (by decide +kernel), tf_q_eq (i := 3) (j := 4) (by decide +kernel), tf_q_eq (i := 3) (j := 5) (by decide +kernel), tf_q_eq (i := 4) (j := 5) (by decide +kernel)] at h1
  rw [tf_wid15 hg] at hl hw
  have b0 : (S ^^^ 4).testBit 0 = S.testBit 0 := by rw [tf_bit4 S hS 0 (by decide)]; rfl
  have b1 : (S ^^^ 4).testBit 1 = S.testBit 1 := by rw [tf_bit4 S hS 1 (by decide)]; rfl
  have b2 : (S ^^^ 4).testBit 2 = !(S.testBit 2) := by rw [tf_bit4 S hS 2 (by decide)]; rfl
  have b3 : (S ^^^ 4).testBit 3 = S.testBit 3 := by rw [tf_bit4 S hS 3 (by decide)]; rfl
  have b4 : (S ^^^ 4).testBit 4 = S.testBit 4 := by rw [tf_bit4 S hS 4 (by decide)]; rfl
  have b5 : (S ^^^ 4).testBit 5 = S.testBit 5 := by rw [tf_bit4 S hS 5 (by decide)]; rfl
  rw [tf_q_same (g := g) b0 b1, tf_q_same (g := g) b0 b3, tf_q_same (g := g) b0 b4, tf_q_same (g := g) b0 b5, tf_q_same (g := g) b1 b3, tf_q_same (g := g) b1 b4, tf_q_same (g := g) b1 b5, tf_q_same (g := g) b3 b4, tf_q_same (g := g) b3 b5, tf_q_same (g := g) b4 b5] at hl
  have o1 := tf_q_o2 (g := g) b0 b2
  have o2 := tf_q_o2 (g := g) b1 b2
  have o3 := tf_q_o1 (g := g) b2 b3
  have o4 := tf_q_o1 (g := g) b2 b4
  have o5 := tf_q_o1 (g := g) b2 b5
  have m1 := hg.2 (6 * 0 + 2) (by decide)
  have m2 := hg.2 (6 * 1 + 2) (by decide)
  have m3 := hg.2 (6 * 2 + 3) (by decide)
  have m4 := hg.2 (6 * 2 + 4) (by decide)
  have m5 := hg.2 (6 * 2 + 5) (by decide)
  rcases hne with q | q
  · have e := tf_q_ne (g := g) q
    omega
  · have e := tf_q_ne (g := g) q
    omega
theorem tf_mp_end {g : Nat → Nat} (hg : tf_ok 21 g) {m : Nat} (h : tf_mp g 101 0 m) : m = tf_mo g := by
  have e1 : tf_F1 g = min (tf_lim g 1) (tf_lim g 3) := rfl
  have e2 : tf_F2 g = min (tf_lim g 2) (tf_lim g 3) := rfl
  have e3 : tf_F3 g = tf_lim g 3 := rfl
  have e4 : tf_mo g = min (tf_F1 g + tf_F2 g) (tf_F3 g) := rfl
  have hA : 100 < tf_lim g 1 → tf_lim g 3 ≤ tf_lim g 2 + 71 := tf_mA hg
  have hB : 100 < tf_lim g 2 → tf_lim g 3 ≤ tf_lim g 1 + 71 := tf_mB hg
  have hL := tf_L21 hg
  have up : m ≤ tf_mo g := by
    obtain ⟨a, b, hf, e⟩ := h.2
    have h1 := of_decide_eq_true hf
    omega
  have lo : tf_mo g ≤ m := by
    obtain ⟨x, hx⟩ : ∃ x, x = min (min (tf_lim g 1) 100) (tf_mo g) := ⟨_, rfl⟩
    have h1 := h.1 x (tf_mo g - x) (by omega) (by omega) (decide_eq_true (by omega))
    omega
  omega
theorem tf_sum_cut {f : Nat → Nat} {m : Nat} : ∀ {n : Nat}, m ≤ n → (∀ k, m ≤ k → k < n → f k = 0) → tf_sum f n = tf_sum f m := by
  intro n
  induction n with
  | zero => intro h _; rw [show m = 0 by omega]
  | succ n ih =>
    intro h hz
    by_cases c : m = n + 1
    · rw [c]
    · show tf_sum f n + f n = _
      rw [hz n (by omega) (by omega), ih (by omega) (fun k h1 h2 => hz k h1 (by omega))]
      rfl
def tf_pc1 (g : Nat → Nat) (x n : Nat) : Nat := tf_sum (fun y => if tf_ft g x y = true then 1 else 0) n
def tf_pc2 (g : Nat → Nat) (n : Nat) : Nat := tf_sum (fun x => tf_pc1 g x 101) n
theorem tf_pc1_s (g : Nat → Nat) (x n : Nat) : tf_pc1 g x (n + 1) = tf_pc1 g x n + (if tf_ft g x n = true then 1 else 0) := rfl
theorem tf_pc2_s (g : Nat → Nat) (n : Nat) : tf_pc2 g (n + 1) = tf_pc2 g n + tf_pc1 g n 101 := rfl
theorem tf_cnt_le (K : Nat) : ∀ n, tf_sum (fun y => if y ≤ K then 1 else 0) n = min (K + 1) n := by
  intro n
  induction n with
  | zero => show 0 = _; omega
  | succ n ih =>
    show tf_sum (fun y => if y ≤ K then 1 else 0) n + (if n ≤ K then 1 else 0) = _
    rw [ih]
    split <;> omega
theorem tf_pc2_end {g : Nat → Nat} (hg : tf_ok 20 g) : tf_pc2 g 101 = tf_ps g (tf_F1 g + 1) := by
  have hL := tf_L20 hg
  have e1 : tf_F1 g = min (tf_lim g 1) (tf_lim g 3) := rfl
  have e2 : tf_F2 g = min (tf_lim g 2) (tf_lim g 3) := rfl
  have e3 : tf_F3 g = tf_lim g 3 := rfl
  unfold tf_pc2
  rw [tf_sum_cut (m := tf_F1 g + 1) (by omega)]
  · refine tf_sum_congr (fun x hx => ?_)
    show tf_sum (fun y => if tf_ft g x y = true then 1 else 0) 101 = 1 + min (tf_F2 g) (tf_F3 g - x)
    rw [tf_sum_congr (h := fun y => if y ≤ min (tf_F2 g) (tf_F3 g - x) then 1 else 0), tf_cnt_le]
    · omega
    · intro y hy
      have : (tf_ft g x y = true) = (y ≤ min (tf_F2 g) (tf_F3 g - x)) := by
        unfold tf_ft
        rw [decide_eq_true_eq]
        exact propext ⟨fun h => by omega, fun h => by omega⟩
      simp only [this]
  · intro x h1 h2
    refine tf_sum_z (fun y hy => ?_)
    rw [if_neg]
    intro h
    have := of_decide_eq_true h
    omega
theorem tf_pc_bd (g : Nat → Nat) (x n : Nat) : tf_pc1 g x n ≤ n := by
  have h : tf_pc1 g x n ≤ tf_sum (fun _ => 1) n := tf_sum_le (fun k _ => by split <;> omega)
  rw [tf_sum_c] at h
  omega
theorem tf_car_ft (g : Nat → Nat) {a b : Nat} (ha : a < 2 ^ 31) (hb : b < 2 ^ 31) : tf_car g (nI a) (nI b) = tf_ft g a b := tf_car_nn g ha hb
end
section
set_option maxHeartbeats 4000000 in
set_option maxRecDepth 100000 in
/-- pair -/
theorem mX1_pair (l : Launch) (D : va_G) (sz : Nat) (ad : Nat → Nat) (ds : Nat → ClassId) (k0 m0 : Nat → Int32) (a b : Int32) : tf_Mr l D (wM ad ds (k0, m0)) (tyM ds) sz yX1_pair cX1_pair 3 (some .boolean) ({ frames := 0, cells := 0, slots := 0, locals := 0 }) [.ref (ad 0), .int a, .int b] (tf_b (tf_pr a b)) := by
  refine tf_go_r (by decide) (Nat.le_of_ble_eq_true rfl) ?_
  intro p e s m below meth c S hr hlocks hP hK hD ls hl
  have S : CallFix p m c cX1_pair 3 s _ lw_all RX1 := S
  obtain ⟨hx, hb, hml, hown, hts⟩ := id S
  have hl : lv_has ls 3 [(0, .ref (ad 0)), (1, .int a), (2, .int b)] := hl
  refine lv_iload_n hx hb dX1_pair_0 rfl (lv_at hl 1 rfl) ?_
  refine lv_iload_n hx hb dX1_pair_1 rfl (lv_at hl 2 rfl) ?_
  refine lv_icmp_eq (tgt := 27) hx hb dX1_pair_2 (by decide) (fun c1 => ?_) (fun c1 => ?_)
  · refine lv_iconst (v := nI 0) hx hb dX1_pair_27 (by decide) ?_
    exact tf_rret hx hb hr rfl hlocks (tf_b0 (decide_eq_false (fun h => h.2.2.2.2 c1))) dX1_pair_28
  · refine lv_iload_n hx hb dX1_pair_5 rfl (lv_at hl 1 rfl) ?_
    refine lv_if_lt (tgt := 27) hx hb dX1_pair_6 (by decide) (fun c2 => ?_) (fun c2 => ?_)
    · refine lv_iconst (v := nI 0) hx hb dX1_pair_27 (by decide) ?_
      exact tf_rret hx hb hr rfl hlocks (tf_b0 (decide_eq_false (fun h => h.1 c2))) dX1_pair_28
    · refine lv_iload_n hx hb dX1_pair_9 rfl (lv_at hl 1 rfl) ?_
      refine lv_iconst (v := nI 5) hx hb dX1_pair_10 (by decide) ?_
      refine lv_icmp_gt (tgt := 27) hx hb dX1_pair_11 (by decide) (fun c3 => ?_) (fun c3 => ?_)
      · refine lv_iconst (v := nI 0) hx hb dX1_pair_27 (by decide) ?_
        exact tf_rret hx hb hr rfl hlocks (tf_b0 (decide_eq_false (fun h => h.2.1 (by rw [← tf_5]; exact c3)))) dX1_pair_28
      · refine lv_iload_n hx hb dX1_pair_14 rfl (lv_at hl 2 rfl) ?_
        refine lv_if_lt (tgt := 27) hx hb dX1_pair_15 (by decide) (fun c4 => ?_) (fun c4 => ?_)
        · refine lv_iconst (v := nI 0) hx hb dX1_pair_27 (by decide) ?_
          exact tf_rret hx hb hr rfl hlocks (tf_b0 (decide_eq_false (fun h => h.2.2.1 c4))) dX1_pair_28
        · refine lv_iload_n hx hb dX1_pair_18 rfl (lv_at hl 2 rfl) ?_
          refine lv_iconst (v := nI 5) hx hb dX1_pair_19 (by decide) ?_
          refine lv_icmp_gt (tgt := 27) hx hb dX1_pair_20 (by decide) (fun c5 => ?_) (fun c5 => ?_)
          · refine lv_iconst (v := nI 0) hx hb dX1_pair_27 (by decide) ?_
            exact tf_rret hx hb hr rfl hlocks (tf_b0 (decide_eq_false (fun h => h.2.2.2.1 (by rw [← tf_5]; exact c5)))) dX1_pair_28
          · refine lv_iconst (v := nI 1) hx hb dX1_pair_23 (by decide) ?_
            refine lv_goto (tgt := 28) hx hb dX1_pair_24 (by decide) ?_
            exact tf_rret hx hb hr rfl hlocks (tf_b1 (decide_eq_true ⟨c2, by rw [← tf_5]; exact c3, c4, by rw [← tf_5]; exact c5, c1⟩)) dX1_pair_28
set_option maxHeartbeats 4000000 in
set_option maxRecDepth 100000 in
/-- put -/
theorem mX1_put (l : Launch) (D : va_G) (sz : Nat) (ad : Nat → Nat) (ds : Nat → ClassId) (k0 m0 : Nat → Int32) (i j v : Nat) (hi : i < 6) (hj : j < 6) : tf_Mv l D (wM ad ds) (tyM ds) sz (k0, m0) yX1_put cX1_put 4 ({ frames := 0, cells := 0, slots := 0, locals := 0 }) [.ref (ad 0), .int (nI i), .int (nI j), .int (nI v)] (fun u => u = (upd (upd k0 (6 * i + j) (nI v)) (6 * j + i) (nI v), m0)) := by
  refine tf_go_v (by decide) (Nat.le_of_ble_eq_true rfl) ?_
  intro p e s m below meth c S hr hlocks A hA hP hK hD hS ls hl
  have S : CallFix p m c cX1_put 4 s _ lw_all RX1 := S
  obtain ⟨hx, hb, hml, hown, hts⟩ := id S
  have hl : lv_has ls 4 [(0, .ref (ad 0)), (1, .int (nI i)), (2, .int (nI j)), (3, .int (nI v))] := hl
  refine lv_aload_n hx hb dX1_put_0 rfl (lv_at hl 0 rfl) ?_
  refine va_get (D := D) (ci := 1) (v := .ref (ad 1)) (C := RX1) (T := TX1) (N := 2) hx hb hts in_X1 hown hK hP 0 rfl rfl 0 (by decide) (hts _ q137) (fun _ h9 => h9) rfl dX1_put_1 ?_
  refine lv_bipush (v := nI 6) hx hb dX1_put_4 (by decide) ?_
  refine lv_iload_n hx hb dX1_put_6 rfl (lv_at hl 1 rfl) ?_
  refine lv_imul hx hb dX1_put_7 ?_
  refine lv_iload_n hx hb dX1_put_8 rfl (lv_at hl 2 rfl) ?_
  refine lv_iadd hx hb dX1_put_9 ?_
  refine tf_top (nI (6 * i + j)) (tf_ix2 _ _) ?_
  refine lv_iload_n hx hb dX1_put_10 rfl (lv_at hl 3 rfl) ?_
  refine tf_iast hx hb hK hP hD hS 1 0 rfl rfl (k := 6 * i + j) (by omega) (by decide) dX1_put_11 (fun H locs hP hD hS => ?_)
  have hP : va_P D vwCl (wM ad ds (upd k0 (6 * i + j) (nI v), m0)) H := hP
  have hD : va_D A (wM ad ds (upd k0 (6 * i + j) (nI v), m0)) := hD
  refine lv_aload_n hx hb dX1_put_12 rfl (lv_at hl 0 rfl) ?_
  refine va_get (D := D) (ci := 1) (v := .ref (ad 1)) (C := RX1) (T := TX1) (N := 2) hx hb hts in_X1 hown hK hP 0 rfl rfl 0 (by decide) (hts _ q137) (fun _ h9 => h9) rfl dX1_put_13 ?_
  refine lv_bipush (v := nI 6) hx hb dX1_put_16 (by decide) ?_
  refine lv_iload_n hx hb dX1_put_18 rfl (lv_at hl 2 rfl) ?_
  refine lv_imul hx hb dX1_put_19 ?_
  refine lv_iload_n hx hb dX1_put_20 rfl (lv_at hl 1 rfl) ?_
  refine lv_iadd hx hb dX1_put_21 ?_
  refine tf_top (nI (6 * j + i)) (tf_ix2 _ _) ?_
  refine lv_iload_n hx hb dX1_put_22 rfl (lv_at hl 3 rfl) ?_
  refine tf_iast hx hb hK hP hD hS 1 0 rfl rfl (k := 6 * j + i) (by omega) (by decide) dX1_put_23 (fun H locs hP hD hS => ?_)
  have hP : va_P D vwCl (wM ad ds (upd (upd k0 (6 * i + j) (nI v)) (6 * j + i) (nI v), m0)) H := hP
  have hD : va_D A (wM ad ds (upd (upd k0 (6 * i + j) (nI v)) (6 * j + i) (nI v), m0)) := hD
  exact tf_vret (wf := wM ad ds) (upd (upd k0 (6 * i + j) (nI v)) (6 * j + i) (nI v), m0) hx hb hr hlocks hP hK hD hS (rfl) dX1_put_24
set_option maxHeartbeats 4000000 in
set_option maxRecDepth 100000 in
/-- capacity -/
theorem mX1_capacity (l : Launch) (D : va_G) (sz : Nat) (ad : Nat → Nat) (ds : Nat → ClassId) (k0 m0 : Nat → Int32) (g : Nat → Nat) (hc : tf_Rr k0 g) (a b : Int32) : tf_Mr l D (wM ad ds (k0, m0)) (tyM ds) sz yX1_capacity cX1_capacity 3 (some .int) ({ frames := 1, cells := 0, slots := 0, locals := 22 }) [.ref (ad 0), .int a, .int b] (tf_cap g a b) := by
  refine tf_go_r (by decide) (Nat.le_of_ble_eq_true rfl) ?_
  intro p e s m below meth c S hr hlocks hP hK hD ls hl
  have S : CallFix p m c cX1_capacity 3 s _ lw_all RX1 := S
  obtain ⟨hx, hb, hml, hown, hts⟩ := id S
  have hl : lv_has ls 3 [(0, .ref (ad 0)), (1, .int a), (2, .int b)] := hl
  refine lv_aload_n hx hb dX1_capacity_0 rfl (lv_at hl 0 rfl) ?_
  refine lv_iload_n hx hb dX1_capacity_1 rfl (lv_at hl 1 rfl) ?_
  refine lv_iload_n hx hb dX1_capacity_2 rfl (lv_at hl 2 rfl) ?_
  refine tf_callR (As := [.int a, .int b]) (rest := []) (ci := 1) (q0 := 0) S hP hK hD (mX1_pair l D _ ad ds k0 m0 a b) rfl rfl (cwV 2 hts (lw_V q148 q150 qs6 q13 q151) rfl rfl rfl (by decide +kernel) ⟨Nat.le_of_ble_eq_true rfl, Nat.le_of_ble_eq_true rfl⟩) rfl hl.1 rfl (Nat.le_of_ble_eq_true rfl) dX1_capacity_3 ⟨Nat.le_of_ble_eq_true rfl, Nat.le_of_ble_eq_true rfl⟩ ?_
  refine lv_if_eq (tgt := 23) hx hb dX1_capacity_6 (by decide) (fun c1 => ?_) (fun c1 => ?_)
  · have c1 := tf_be c1
    refine lv_iconst (v := (-1)) hx hb dX1_capacity_23 (by decide) ?_
    exact tf_rret hx hb hr rfl hlocks (by unfold tf_cap; rw [c1]; rfl) dX1_capacity_24
  · have c1 := tf_bne c1
    obtain ⟨i, j, hi, hj, hij, rfl, rfl⟩ := tf_pr_of c1
    refine lv_aload_n hx hb dX1_capacity_9 rfl (lv_at hl 0 rfl) ?_
    refine va_get (D := D) (ci := 1) (v := .ref (ad 1)) (C := RX1) (T := TX1) (N := 2) hx hb hts in_X1 hown hK hP 0 rfl rfl 0 (by decide) (hts _ q137) (fun _ h9 => h9) rfl dX1_capacity_10 ?_
    refine lv_bipush (v := nI 6) hx hb dX1_capacity_13 (by decide) ?_
    refine lv_iload_n hx hb dX1_capacity_15 rfl (lv_at hl 1 rfl) ?_
    refine lv_imul hx hb dX1_capacity_16 ?_
    refine lv_iload_n hx hb dX1_capacity_17 rfl (lv_at hl 2 rfl) ?_
    refine lv_iadd hx hb dX1_capacity_18 ?_
    refine tf_top (nI (6 * i + j)) (tf_ix2 _ _) ?_
    refine tf_iald (v := nI (g (6 * i + j))) hx hb hK hP 1 0 rfl rfl (k := 6 * i + j) (by omega) (by decide) (hc _ (by omega)) dX1_capacity_19 ?_
    refine lv_goto (tgt := 24) hx hb dX1_capacity_20 (by decide) ?_
    exact tf_rret hx hb hr rfl hlocks (by unfold tf_cap; rw [c1, if_pos rfl, nI_clamp (by omega), nI_clamp (by omega)]) dX1_capacity_24
set_option maxHeartbeats 4000000 in
set_option maxRecDepth 100000 in
/-- set -/
theorem mX1_set (l : Launch) (D : va_G) (sz : Nat) (ad : Nat → Nat) (ds : Nat → ClassId) (k0 m0 : Nat → Int32) (g : Nat → Nat) (hc : tf_MS g (k0, m0)) (a b x : Int32) : tf_Mi l D (wM ad ds) (tyM ds) sz (k0, m0) yX1_set cX1_set 4 (some .boolean) ({ frames := 1, cells := 0, slots := 0, locals := 23 }) [.ref (ad 0), .int a, .int b, .int x] (fun z u => z = tf_b (tf_set a b x) ∧ tf_MS (tf_setG g a b x) u) := by
  refine tf_go_i (by decide) (Nat.le_of_ble_eq_true rfl) ?_
  intro p e s m below meth c S hr hlocks A hA hP hK hD hS ls hl
  have S : CallFix p m c cX1_set 4 s _ lw_all RX1 := S
  obtain ⟨hx, hb, hml, hown, hts⟩ := id S
  have hl : lv_has ls 4 [(0, .ref (ad 0)), (1, .int a), (2, .int b), (3, .int x)] := hl
  refine lv_aload_n hx hb dX1_set_0 rfl (lv_at hl 0 rfl) ?_
  refine lv_iload_n hx hb dX1_set_1 rfl (lv_at hl 1 rfl) ?_
  refine lv_iload_n hx hb dX1_set_2 rfl (lv_at hl 2 rfl) ?_
  refine tf_callR (As := [.int a, .int b]) (rest := []) (ci := 1) (q0 := 0) S hP hK (hD.weaken (fun _ _ _ _ => trivial)) (mX1_pair l D _ ad ds k0 m0 a b) rfl rfl (cwV 2 hts (lw_V q148 q150 qs6 q13 q151) rfl rfl rfl (by decide +kernel) ⟨Nat.le_of_ble_eq_true rfl, Nat.le_of_ble_eq_true rfl⟩) rfl hl.1 rfl (Nat.le_of_ble_eq_true rfl) dX1_set_3 ⟨Nat.le_of_ble_eq_true rfl, Nat.le_of_ble_eq_true rfl⟩ ?_
  refine lv_if_eq (tgt := 19) hx hb dX1_set_6 (by decide) (fun c1 => ?_) (fun c1 => ?_)
  · have c1 := tf_be c1
    refine lv_iconst (v := nI 0) hx hb dX1_set_19 (by decide) ?_
    exact tf_iret (wf := wM ad ds) (k0, m0) hx hb hr rfl hlocks hP hK hD hS (tf_setM_no (fun h => by rw [h.1] at c1; cases c1) hc) dX1_set_20
  · have c1 := tf_bne c1
    refine lv_iload_n hx hb dX1_set_9 rfl (lv_at hl 3 rfl) ?_
    refine lv_if_lt (tgt := 19) hx hb dX1_set_10 (by decide) (fun c2 => ?_) (fun c2 => ?_)
    · refine lv_iconst (v := nI 0) hx hb dX1_set_19 (by decide) ?_
      exact tf_iret (wf := wM ad ds) (k0, m0) hx hb hr rfl hlocks hP hK hD hS (tf_setM_no (fun h => h.2.1 c2) hc) dX1_set_20
    · refine lv_iload_n hx hb dX1_set_13 rfl (lv_at hl 3 rfl) ?_
      refine lv_bipush (v := nI 20) hx hb dX1_set_14 (by decide) ?_
      refine lv_icmp_le (tgt := 21) hx hb dX1_set_16 (by decide) (fun c3 => ?_) (fun c3 => ?_)
      · obtain ⟨i, j, hi, hj, hij, rfl, rfl⟩ := tf_pr_of c1
        obtain ⟨v, hv, rfl⟩ := nI_of c2
        refine lv_aload_n hx hb dX1_set_21 rfl (lv_at hl 0 rfl) ?_
        refine lv_iload_n hx hb dX1_set_22 rfl (lv_at hl 1 rfl) ?_
        refine lv_iload_n hx hb dX1_set_23 rfl (lv_at hl 2 rfl) ?_
        refine lv_iload_n hx hb dX1_set_24 rfl (lv_at hl 3 rfl) ?_
        refine tf_callv (wf := wM ad ds) (u := (k0, m0)) (wr := []) (As := [.int (nI i), .int (nI j), .int (nI v)]) (rest := []) (ci := 1) (q0 := 0) S hP hK hD hS hA [0, 1, 2] [] [0, 1] rfl (by decide) rfl (by decide) (by decide) rfl (mX1_put l D _ ad ds k0 m0 i j v hi hj) rfl rfl (cwV 3 hts (lw_V q152 q154 qs7 q13 q155) rfl rfl rfl (by decide +kernel) ⟨Nat.le_of_ble_eq_true rfl, Nat.le_of_ble_eq_true rfl⟩) rfl hl.1 rfl (Nat.le_of_ble_eq_true rfl) dX1_set_25 ⟨Nat.le_of_ble_eq_true rfl, Nat.le_of_ble_eq_true rfl⟩ (fun u' H locs hw hP hD hS => ?_)
        subst hw
        have hP : va_P D vwCl (wM ad ds (upd (upd k0 (6 * i + j) (nI v)) (6 * j + i) (nI v), m0)) H := hP
        have hD : va_D A (wM ad ds (upd (upd k0 (6 * i + j) (nI v)) (6 * j + i) (nI v), m0)) := hD
        refine lv_iconst (v := nI 1) hx hb dX1_set_28 (by decide) ?_
        exact tf_iret (wf := wM ad ds) (upd (upd k0 (6 * i + j) (nI v)) (6 * j + i) (nI v), m0) hx hb hr rfl hlocks hP hK hD hS (tf_setM_yes c1 c2 c3 hi hj hv hc) dX1_set_29
      · refine lv_iconst (v := nI 0) hx hb dX1_set_19 (by decide) ?_
        exact tf_iret (wf := wM ad ds) (k0, m0) hx hb hr rfl hlocks hP hK hD hS (tf_setM_no (fun h => c3 h.2.2) hc) dX1_set_20
set_option maxHeartbeats 4000000 in
set_option maxRecDepth 100000 in
/-- width: the loop -/
theorem lX1_width (l : Launch) {p : Program} {e : Env} {s : State} {m : MethodId} {args : Array Value} {below : List Frame} {meth : Method} {c : Code} {Q : State → Prop} {D : va_G} {H : Heap} {locs : List Loc} (ad : Nat → Nat) (ds : Nat → ClassId) (k0 m0 : Nat → Int32) (S : CallFix p m c cX1_width 5 s args lw_all RX1) (hP : va_P D vwCl (wM ad ds (k0, m0)) H) (hK : va_K D vwCl (tyM ds) s) (hD : va_D (fun _ => True) (wM ad ds (k0, m0))) (g : Nat → Nat) (hc : tf_Rr k0 g) (x : Int32) (after : ∀ (y : Int32) (ls : Array Slot), (∀ T, T < 64 → x = nI T → y = nI (tf_lin g T 36)) → lv_has ls 5 [(0, .ref (ad 0)), (1, .int x), (2, .int y)] → W p l e ({ frames := 0, cells := 0, slots := 0, locals := 0 }) s m args below meth c H locs 0 0 Q (F0 m 64 ls [])) : ∀ (n i : Nat) (y : Int32), i ≤ 36 → 37 ≤ i + n → (∀ T, T < 64 → x = nI T → y = nI (tf_lin g T i)) → ∀ (ls : Array Slot), lv_has ls 5 [(0, .ref (ad 0)), (1, .int x), (2, .int y), (3, .int (nI i))] → W p l e ({ frames := 0, cells := 0, slots := 0, locals := 0 }) s m args below meth c H locs 0 0 Q (F0 m 4 ls []) := by
  obtain ⟨hx, hb, hml, hown, hts⟩ := id S
  intro n
  induction n with
  | zero => intro i y h1 h2; exact absurd h2 (by omega)
  | succ n ih =>
    intro i y hi hn hv ls hl
    refine lv_iload_n hx hb dX1_width_4 rfl (lv_at hl 3 rfl) ?_
    refine lv_bipush (v := nI 36) hx hb dX1_width_5 (by decide) ?_
    refine lv_icmp_ge (tgt := 64) hx hb dX1_width_7 (by decide) (fun c1 => ?_) (fun c1 => ?_)
    · rw [tf_leN (by omega) (by omega)] at c1
      obtain rfl : i = 36 := by omega
      exact after y ls hv (lv_sub hl [0, 1, 2] rfl)
    · rw [tf_leN (by omega) (by omega)] at c1
      refine lv_iload_n hx hb dX1_width_10 rfl (lv_at hl 1 rfl) ?_
      refine lv_iload_n hx hb dX1_width_11 rfl (lv_at hl 3 rfl) ?_
      refine lv_bipush (v := nI 6) hx hb dX1_width_12 (by decide) ?_
      refine lv_idiv hx hb dX1_width_14 (by decide) ?_
      refine tf_top (nI (i / 6)) (pk_div (by omega) (by decide) (by decide)) ?_
      refine lv_ishr hx hb dX1_width_15 ?_
      refine lv_iconst (v := nI 1) hx hb dX1_width_16 (by decide) ?_
      refine lv_iand hx hb dX1_width_17 ?_
      refine lv_iconst (v := nI 1) hx hb dX1_width_18 (by decide) ?_
      refine lv_icmp_ne (tgt := 37) hx hb dX1_width_19 (by decide) (fun c2 => ?_) (fun c2 => ?_)
      · refine lv_iconst (v := nI 0) hx hb dX1_width_37 (by decide) ?_
        refine lv_istore (lv' := [(4, .int (nI 0)), (0, .ref (ad 0)), (1, .int x), (2, .int y), (3, .int (nI i))]) hx hb dX1_width_38 hl (by decide) rfl (fun ls hl => ?_)
        refine lv_iload hx hb dX1_width_40 (lv_at hl 0 rfl) ?_
        refine lv_if_eq (tgt := 56) hx hb dX1_width_42 (by decide) (fun c5 => ?_) (fun c5 => ?_)
        · refine lv_iload_n hx hb dX1_width_56 rfl (lv_at hl 3 rfl) ?_
          refine lv_istore_n (lv' := [(2, .int y), (4, .int (nI 0)), (0, .ref (ad 0)), (1, .int x), (3, .int (nI i))]) hx hb dX1_width_57 rfl hl (by decide) rfl (fun ls hl => ?_)
          refine lv_iinc (v := nI (i + 1)) (lv' := [(3, .int (nI (i + 1))), (2, .int y), (4, .int (nI 0)), (0, .ref (ad 0)), (1, .int x)]) hx hb dX1_width_58 hl (k := 4) rfl (tf_inc1 _) (by decide) rfl (fun ls hl => ?_)
          refine lv_goto (tgt := 4) hx hb dX1_width_61 (by decide) ?_
          exact ih (i + 1) y (by omega) (by omega) (tf_w_no1 (by omega) c2 hv) ls (lv_sub hl [3, 4, 1, 0] rfl)
        · exact absurd rfl c5
      · refine lv_iload_n hx hb dX1_width_22 rfl (lv_at hl 1 rfl) ?_
        refine lv_iload_n hx hb dX1_width_23 rfl (lv_at hl 3 rfl) ?_
        refine lv_bipush (v := nI 6) hx hb dX1_width_24 (by decide) ?_
        refine lv_irem hx hb dX1_width_26 (by decide) ?_
        refine tf_top (nI (i % 6)) (pk_rem (by omega) (by decide) (by decide)) ?_
        refine lv_ishr hx hb dX1_width_27 ?_
        refine lv_iconst (v := nI 1) hx hb dX1_width_28 (by decide) ?_
        refine lv_iand hx hb dX1_width_29 ?_
        refine lv_if_ne (tgt := 37) hx hb dX1_width_30 (by decide) (fun c3 => ?_) (fun c3 => ?_)
        · refine lv_iconst (v := nI 0) hx hb dX1_width_37 (by decide) ?_
          refine lv_istore (lv' := [(4, .int (nI 0)), (0, .ref (ad 0)), (1, .int x), (2, .int y), (3, .int (nI i))]) hx hb dX1_width_38 hl (by decide) rfl (fun ls hl => ?_)
          refine lv_iload hx hb dX1_width_40 (lv_at hl 0 rfl) ?_
          refine lv_if_eq (tgt := 56) hx hb dX1_width_42 (by decide) (fun c5 => ?_) (fun c5 => ?_)
          · refine lv_iload_n hx hb dX1_width_56 rfl (lv_at hl 3 rfl) ?_
            refine lv_istore_n (lv' := [(2, .int y), (4, .int (nI 0)), (0, .ref (ad 0)), (1, .int x), (3, .int (nI i))]) hx hb dX1_width_57 rfl hl (by decide) rfl (fun ls hl => ?_)
            refine lv_iinc (v := nI (i + 1)) (lv' := [(3, .int (nI (i + 1))), (2, .int y), (4, .int (nI 0)), (0, .ref (ad 0)), (1, .int x)]) hx hb dX1_width_58 hl (k := 4) rfl (tf_inc1 _) (by decide) rfl (fun ls hl => ?_)
            refine lv_goto (tgt := 4) hx hb dX1_width_61 (by decide) ?_
            exact ih (i + 1) y (by omega) (by omega) (tf_w_no2 (by omega) c3 hv) ls (lv_sub hl [3, 4, 1, 0] rfl)
          · exact absurd rfl c5
        · refine lv_iconst (v := nI 1) hx hb dX1_width_33 (by decide) ?_
          refine lv_goto (tgt := 38) hx hb dX1_width_34 (by decide) ?_
          refine lv_istore (lv' := [(4, .int (nI 1)), (0, .ref (ad 0)), (1, .int x), (2, .int y), (3, .int (nI i))]) hx hb dX1_width_38 hl (by decide) rfl (fun ls hl => ?_)
          refine lv_iload hx hb dX1_width_40 (lv_at hl 0 rfl) ?_
          refine lv_if_eq (tgt := 56) hx hb dX1_width_42 (by decide) (fun c5 => ?_) (fun c5 => ?_)
          · exact absurd c5 (by decide)
          · refine lv_iload_n hx hb dX1_width_45 rfl (lv_at hl 3 rfl) ?_
            refine lv_aload_n hx hb dX1_width_46 rfl (lv_at hl 1 rfl) ?_
            refine va_get (D := D) (ci := 1) (v := .ref (ad 1)) (C := RX1) (T := TX1) (N := 2) hx hb hts in_X1 hown hK hP 0 rfl rfl 0 (by decide) (hts _ q137) (fun _ h9 => h9) rfl dX1_width_47 ?_
            refine lv_iload_n hx hb dX1_width_50 rfl (lv_at hl 4 rfl) ?_
            refine tf_iald (v := nI (g i)) hx hb hK hP 1 0 rfl rfl (k := i) (by omega) (by decide) (hc _ (by omega)) dX1_width_51 ?_
            refine lv_iadd hx hb dX1_width_52 ?_
            refine lv_goto (tgt := 57) hx hb dX1_width_53 (by decide) ?_
            refine lv_istore_n (lv' := [(2, .int (y + (nI (g i)))), (4, .int (nI 1)), (0, .ref (ad 0)), (1, .int x), (3, .int (nI i))]) hx hb dX1_width_57 rfl hl (by decide) rfl (fun ls hl => ?_)
            refine lv_iinc (v := nI (i + 1)) (lv' := [(3, .int (nI (i + 1))), (2, .int (y + (nI (g i)))), (4, .int (nI 1)), (0, .ref (ad 0)), (1, .int x)]) hx hb dX1_width_58 hl (k := 4) rfl (tf_inc1 _) (by decide) rfl (fun ls hl => ?_)
            refine lv_goto (tgt := 4) hx hb dX1_width_61 (by decide) ?_
            exact ih (i + 1) _ (by omega) (by omega) (tf_w_yes (by omega) c2 c3 hv) ls (lv_sub hl [3, 4, 1, 0] rfl)
set_option maxHeartbeats 4000000 in
set_option maxRecDepth 100000 in
/-- width -/
theorem mX1_width (l : Launch) (D : va_G) (sz : Nat) (ad : Nat → Nat) (ds : Nat → ClassId) (k0 m0 : Nat → Int32) (g : Nat → Nat) (hc : tf_Rr k0 g) (x : Int32) : tf_Mr l D (wM ad ds (k0, m0)) (tyM ds) sz yX1_width cX1_width 5 (some .int) ({ frames := 0, cells := 0, slots := 0, locals := 0 }) [.ref (ad 0), .int x] (tf_wiR g x) := by
  refine tf_go_r (by decide) (Nat.le_of_ble_eq_true rfl) ?_
  intro p e s m below meth c S hr hlocks hP hK hD ls hl
  have S : CallFix p m c cX1_width 5 s _ lw_all RX1 := S
  obtain ⟨hx, hb, hml, hown, hts⟩ := id S
  have hl : lv_has ls 5 [(0, .ref (ad 0)), (1, .int x)] := hl
  refine lv_iconst (v := nI 0) hx hb dX1_width_0 (by decide) ?_
  refine lv_istore_n (lv' := [(2, .int (nI 0)), (0, .ref (ad 0)), (1, .int x)]) hx hb dX1_width_1 rfl hl (by decide) rfl (fun ls hl => ?_)
  refine lv_iconst (v := nI 0) hx hb dX1_width_2 (by decide) ?_
  refine lv_istore_n (lv' := [(3, .int (nI 0)), (2, .int (nI 0)), (0, .ref (ad 0)), (1, .int x)]) hx hb dX1_width_3 rfl hl (by decide) rfl (fun ls hl => ?_)
  refine lX1_width l ad ds k0 m0 S hP hK hD g hc x (fun y ls hy hl => ?_) 37 0 (nI 0) (by omega) (by omega) (fun _ _ _ => rfl) ls (lv_sub hl [2, 3, 1, 0] rfl)
  refine lv_iload_n hx hb dX1_width_64 rfl (lv_at hl 1 rfl) ?_
  refine lv_if_lt (tgt := 74) hx hb dX1_width_65 (by decide) (fun c1 => ?_) (fun c1 => ?_)
  · refine lv_iconst (v := (-1)) hx hb dX1_width_74 (by decide) ?_
    refine lv_goto (tgt := 79) hx hb dX1_width_75 (by decide) ?_
    exact tf_rret hx hb hr rfl hlocks (by unfold tf_wiR; rw [if_pos (Or.inl c1)]) dX1_width_79
  · refine lv_iload_n hx hb dX1_width_68 rfl (lv_at hl 1 rfl) ?_
    refine lv_bipush (v := nI 63) hx hb dX1_width_69 (by decide) ?_
    refine lv_icmp_le (tgt := 78) hx hb dX1_width_71 (by decide) (fun c2 => ?_) (fun c2 => ?_)
    · refine lv_iload_n hx hb dX1_width_78 rfl (lv_at hl 2 rfl) ?_
      obtain ⟨T, hT, rfl⟩ := nI_of c1
      rw [tf_leN (by omega) (by omega)] at c2
      exact tf_rret hx hb hr rfl hlocks (by rw [tf_wiR_nn (by omega), hy T (by omega) rfl, tf_lin_wid]) dX1_width_79
    · refine lv_iconst (v := (-1)) hx hb dX1_width_74 (by decide) ?_
      refine lv_goto (tgt := 79) hx hb dX1_width_75 (by decide) ?_
      exact tf_rret hx hb hr rfl hlocks (by unfold tf_wiR; rw [if_pos (Or.inr c2)]) dX1_width_79
set_option maxHeartbeats 4000000 in
set_option maxRecDepth 100000 in
/-- fits -/
theorem mX1_fits (l : Launch) (D : va_G) (sz : Nat) (ad : Nat → Nat) (ds : Nat → ClassId) (k0 m0 : Nat → Int32) (g : Nat → Nat) (hg : tf_ok 21 g) (hc : tf_MK g (k0, m0)) (x y : Nat) (hx1 : x ≤ 1000) (hy1 : y ≤ 1000) : tf_Mr l D (wM ad ds (k0, m0)) (tyM ds) sz yX1_fits cX1_fits 3 (some .boolean) ({ frames := 0, cells := 0, slots := 0, locals := 0 }) [.ref (ad 0), .int (nI x), .int (nI y)] (tf_b (tf_ft g x y)) := by
  refine tf_go_r (by decide) (Nat.le_of_ble_eq_true rfl) ?_
  intro p e s m below meth c S hr hlocks hP hK hD ls hl
  have S : CallFix p m c cX1_fits 3 s _ lw_all RX1 := S
  obtain ⟨hx, hb, hml, hown, hts⟩ := id S
  have hl : lv_has ls 3 [(0, .ref (ad 0)), (1, .int (nI x)), (2, .int (nI y))] := hl
  have h1 := tf_lim_bd hg (k := 1) (by decide)
  have h2 := tf_lim_bd hg (k := 2) (by decide)
  have h3 := tf_lim_bd hg (k := 3) (by decide)
  refine lv_iload_n hx hb dX1_fits_0 rfl (lv_at hl 1 rfl) ?_
  refine lv_if_lt (tgt := 44) hx hb dX1_fits_1 (by decide) (fun c1 => ?_) (fun c1 => ?_)
  · exact absurd c1 (nI_pos (by omega))
  · refine lv_iload_n hx hb dX1_fits_4 rfl (lv_at hl 2 rfl) ?_
    refine lv_if_lt (tgt := 44) hx hb dX1_fits_5 (by decide) (fun c2 => ?_) (fun c2 => ?_)
    · exact absurd c2 (nI_pos (by omega))
    · refine lv_iload_n hx hb dX1_fits_8 rfl (lv_at hl 1 rfl) ?_
      refine lv_aload_n hx hb dX1_fits_9 rfl (lv_at hl 0 rfl) ?_
      refine va_get (D := D) (ci := 1) (v := .ref (ad 2)) (C := RX1) (T := TX1) (N := 2) hx hb hts in_X1 hown hK hP 0 rfl rfl 1 (by decide) (hts _ q138) (fun _ h9 => h9) rfl dX1_fits_10 ?_
      refine lv_iconst (v := nI 1) hx hb dX1_fits_13 (by decide) ?_
      refine tf_iald (v := nI (tf_lim g 1)) hx hb hK hP 2 1 rfl rfl (k := 1) (by omega) (by decide) (hc.2 1 (by decide)) dX1_fits_14 ?_
      refine lv_icmp_gt (tgt := 44) hx hb dX1_fits_15 (by decide) (fun c3 => ?_) (fun c3 => ?_)
      · rw [tf_ltN (by omega) (by omega)] at c3
        refine lv_iconst (v := nI 0) hx hb dX1_fits_44 (by decide) ?_
        exact tf_rret hx hb hr rfl hlocks (tf_b0 (decide_eq_false (by omega))) dX1_fits_45
      · rw [tf_ltN (by omega) (by omega)] at c3
        refine lv_iload_n hx hb dX1_fits_18 rfl (lv_at hl 2 rfl) ?_
        refine lv_aload_n hx hb dX1_fits_19 rfl (lv_at hl 0 rfl) ?_
        refine va_get (D := D) (ci := 1) (v := .ref (ad 2)) (C := RX1) (T := TX1) (N := 2) hx hb hts in_X1 hown hK hP 0 rfl rfl 1 (by decide) (hts _ q138) (fun _ h9 => h9) rfl dX1_fits_20 ?_
        refine lv_iconst (v := nI 2) hx hb dX1_fits_23 (by decide) ?_
        refine tf_iald (v := nI (tf_lim g 2)) hx hb hK hP 2 1 rfl rfl (k := 2) (by omega) (by decide) (hc.2 2 (by decide)) dX1_fits_24 ?_
        refine lv_icmp_gt (tgt := 44) hx hb dX1_fits_25 (by decide) (fun c4 => ?_) (fun c4 => ?_)
        · rw [tf_ltN (by omega) (by omega)] at c4
          refine lv_iconst (v := nI 0) hx hb dX1_fits_44 (by decide) ?_
          exact tf_rret hx hb hr rfl hlocks (tf_b0 (decide_eq_false (by omega))) dX1_fits_45
        · rw [tf_ltN (by omega) (by omega)] at c4
          refine lv_iload_n hx hb dX1_fits_28 rfl (lv_at hl 1 rfl) ?_
          refine lv_iload_n hx hb dX1_fits_29 rfl (lv_at hl 2 rfl) ?_
          refine lv_iadd hx hb dX1_fits_30 ?_
          refine tf_top (nI (x + y)) (nI_add _ _) ?_
          refine lv_aload_n hx hb dX1_fits_31 rfl (lv_at hl 0 rfl) ?_
          refine va_get (D := D) (ci := 1) (v := .ref (ad 2)) (C := RX1) (T := TX1) (N := 2) hx hb hts in_X1 hown hK hP 0 rfl rfl 1 (by decide) (hts _ q138) (fun _ h9 => h9) rfl dX1_fits_32 ?_
          refine lv_iconst (v := nI 3) hx hb dX1_fits_35 (by decide) ?_
          refine tf_iald (v := nI (tf_lim g 3)) hx hb hK hP 2 1 rfl rfl (k := 3) (by omega) (by decide) (hc.2 3 (by decide)) dX1_fits_36 ?_
          refine lv_icmp_gt (tgt := 44) hx hb dX1_fits_37 (by decide) (fun c5 => ?_) (fun c5 => ?_)
          · rw [tf_ltN (by omega) (by omega)] at c5
            refine lv_iconst (v := nI 0) hx hb dX1_fits_44 (by decide) ?_
            exact tf_rret hx hb hr rfl hlocks (tf_b0 (decide_eq_false (by omega))) dX1_fits_45
          · rw [tf_ltN (by omega) (by omega)] at c5
            refine lv_iconst (v := nI 1) hx hb dX1_fits_40 (by decide) ?_
            refine lv_goto (tgt := 45) hx hb dX1_fits_41 (by decide) ?_
            exact tf_rret hx hb hr rfl hlocks (tf_b1 (decide_eq_true (by omega))) dX1_fits_45
set_option maxHeartbeats 4000000 in
set_option maxRecDepth 100000 in
/-- work: the start -/
theorem lX1_work_1 (l : Launch) {p : Program} {e : Env} {s : State} {m : MethodId} {args : Array Value} {below : List Frame} {meth : Method} {c : Code} {Q : State → Prop} {D : va_G} {A : Nat → Prop} (ad : Nat → Nat) (ds : Nat → ClassId) (k0 : Nat → Int32) (S : CallFix p m c cX1_work 5 s args lw_all RX1) (hK : va_K D vwCl (tyM ds) s) (after : ∀ (m1 : Nat → Int32) (H : Heap) (locs : List Loc) (ls : Array Slot), (∀ x, x < 4 → m1 x = nI 1000) → va_P D vwCl (wM ad ds (k0, m1)) H → va_D A (wM ad ds (k0, m1)) → va_S A s.heap H locs → lv_has ls 5 [(0, .ref (ad 0))] → W p l e ({ frames := 1, cells := 0, slots := 0, locals := 24 }) s m args below meth c H locs 0 0 Q (F0 m 22 ls [])) : ∀ (n i : Nat) (m1 : Nat → Int32) (H : Heap) (locs : List Loc), i ≤ 4 → 5 ≤ i + n → (∀ x, x < i → m1 x = nI 1000) → va_P D vwCl (wM ad ds (k0, m1)) H → va_D A (wM ad ds (k0, m1)) → va_S A s.heap H locs → ∀ (ls : Array Slot), lv_has ls 5 [(0, .ref (ad 0)), (1, .int (nI i))] → W p l e ({ frames := 1, cells := 0, slots := 0, locals := 24 }) s m args below meth c H locs 0 0 Q (F0 m 2 ls []) := by
  obtain ⟨hx, hb, hml, hown, hts⟩ := id S
  intro n
  induction n with
  | zero => intro i m1 H locs h1 h2; exact absurd h2 (by omega)
  | succ n ih =>
    intro i m1 H locs hi hn hm hP hD hS ls hl
    refine lv_iload_n hx hb dX1_work_2 rfl (lv_at hl 1 rfl) ?_
    refine lv_iconst (v := nI 4) hx hb dX1_work_3 (by decide) ?_
    refine lv_icmp_ge (tgt := 22) hx hb dX1_work_4 (by decide) (fun c1 => ?_) (fun c1 => ?_)
    · rw [tf_leN (by omega) (by omega)] at c1
      obtain rfl : i = 4 := by omega
      exact after m1 H locs ls hm hP hD hS (lv_sub hl [0] rfl)
    · rw [tf_leN (by omega) (by omega)] at c1
      refine lv_aload_n hx hb dX1_work_7 rfl (lv_at hl 0 rfl) ?_
      refine va_get (D := D) (ci := 1) (v := .ref (ad 2)) (C := RX1) (T := TX1) (N := 2) hx hb hts in_X1 hown hK hP 0 rfl rfl 1 (by decide) (hts _ q138) (fun _ h9 => h9) rfl dX1_work_8 ?_
      refine lv_iload_n hx hb dX1_work_11 rfl (lv_at hl 1 rfl) ?_
      refine lv_sipush (v := nI 1000) hx hb dX1_work_12 (by decide) ?_
      refine tf_iast hx hb hK hP hD hS 2 1 rfl rfl (k := i) (by omega) (by decide) dX1_work_15 (fun H locs hP hD hS => ?_)
      have hP : va_P D vwCl (wM ad ds (k0, upd m1 i (nI 1000))) H := hP
      have hD : va_D A (wM ad ds (k0, upd m1 i (nI 1000))) := hD
      refine lv_iinc (v := nI (i + 1)) (lv' := [(1, .int (nI (i + 1))), (0, .ref (ad 0))]) hx hb dX1_work_16 hl (k := 1) rfl (tf_inc1 _) (by decide) rfl (fun ls hl => ?_)
      refine lv_goto (tgt := 2) hx hb dX1_work_19 (by decide) ?_
      refine ih (i + 1) _ H locs (by omega) (by omega) (fun x hx => ?_) hP hD hS ls (lv_sub hl [1, 0] rfl)
      by_cases q : x = i
      · rw [q, pk_us]
      · rw [pk_un q]; exact hm x (by omega)
set_option maxHeartbeats 4000000 in
set_option maxRecDepth 100000 in
/-- work: all sides -/
theorem lX1_work_2 (l : Launch) {p : Program} {e : Env} {s : State} {m : MethodId} {args : Array Value} {below : List Frame} {meth : Method} {c : Code} {Q : State → Prop} {D : va_G} {A : Nat → Prop} (ad : Nat → Nat) (ds : Nat → ClassId) (k0 : Nat → Int32) (S : CallFix p m c cX1_work 5 s args lw_all RX1) (hK : va_K D vwCl (tyM ds) s) (g : Nat → Nat) (hg : tf_ok 21 g) (hc : tf_Rr k0 g) (after : ∀ (m1 : Nat → Int32) (H : Heap) (locs : List Loc) (ls : Array Slot), (∀ x, x < 4 → m1 x = nI (tf_lim g x)) → va_P D vwCl (wM ad ds (k0, m1)) H → va_D A (wM ad ds (k0, m1)) → va_S A s.heap H locs → W p l e ({ frames := 1, cells := 0, slots := 0, locals := 24 }) s m args below meth c H locs 0 0 Q (F0 m 89 ls [])) : ∀ (n i : Nat) (m1 : Nat → Int32) (H : Heap) (locs : List Loc), i ≤ 64 → 65 ≤ i + n → (∀ x, x < 4 → m1 x = nI (tf_lm g i x)) → va_P D vwCl (wM ad ds (k0, m1)) H → va_D A (wM ad ds (k0, m1)) → va_S A s.heap H locs → ∀ (ls : Array Slot), lv_has ls 5 [(0, .ref (ad 0)), (1, .int (nI i))] → W p l e ({ frames := 1, cells := 0, slots := 0, locals := 24 }) s m args below meth c H locs 0 0 Q (F0 m 24 ls []) := by
  obtain ⟨hx, hb, hml, hown, hts⟩ := id S
  intro n
  induction n with
  | zero => intro i m1 H locs h1 h2; exact absurd h2 (by omega)
  | succ n ih =>
    intro i m1 H locs hi hn hm hP hD hS ls hl
    refine lv_iload_n hx hb dX1_work_24 rfl (lv_at hl 1 rfl) ?_
    refine lv_bipush (v := nI 64) hx hb dX1_work_25 (by decide) ?_
    refine lv_icmp_ge (tgt := 89) hx hb dX1_work_27 (by decide) (fun c1 => ?_) (fun c1 => ?_)
    · rw [tf_leN (by omega) (by omega)] at c1
      obtain rfl : i = 64 := by omega
      exact after m1 H locs ls hm hP hD hS
    · rw [tf_leN (by omega) (by omega)] at c1
      have hi64 : i < 64 := by omega
      have hk4 := tf_kind_lt i hi64
      have hwb := tf_wid_bd hg.2 i
      have hlb := tf_lm_bd g i (tf_kind i)
      refine lv_iload_n hx hb dX1_work_30 rfl (lv_at hl 1 rfl) ?_
      refine lv_iload_n hx hb dX1_work_31 rfl (lv_at hl 1 rfl) ?_
      refine lv_iconst (v := nI 1) hx hb dX1_work_32 (by decide) ?_
      refine lv_ishr hx hb dX1_work_33 ?_
      refine lv_ixor hx hb dX1_work_34 ?_
      refine tf_top (nI (i ^^^ (i >>> 1))) (tf_fx i hi64) ?_
      refine lv_istore_n (lv' := [(2, .int (nI (i ^^^ (i >>> 1)))), (0, .ref (ad 0)), (1, .int (nI i))]) hx hb dX1_work_35 rfl hl (by decide) rfl (fun ls hl => ?_)
      refine lv_iload_n hx hb dX1_work_36 rfl (lv_at hl 0 rfl) ?_
      refine lv_iconst (v := nI 1) hx hb dX1_work_37 (by decide) ?_
      refine lv_iand hx hb dX1_work_38 ?_
      refine lv_iload_n hx hb dX1_work_39 rfl (lv_at hl 0 rfl) ?_
      refine lv_iconst (v := nI 2) hx hb dX1_work_40 (by decide) ?_
      refine lv_ishr hx hb dX1_work_41 ?_
      refine lv_iconst (v := nI 1) hx hb dX1_work_42 (by decide) ?_
      refine lv_iand hx hb dX1_work_43 ?_
      refine lv_iconst (v := nI 1) hx hb dX1_work_44 (by decide) ?_
      refine lv_ishl hx hb dX1_work_45 ?_
      refine lv_ior hx hb dX1_work_46 ?_
      refine tf_top (nI (tf_kind i)) (tf_kd i hi64) ?_
      refine lv_istore_n (lv' := [(3, .int (nI (tf_kind i))), (2, .int (nI (i ^^^ (i >>> 1)))), (0, .ref (ad 0)), (1, .int (nI i))]) hx hb dX1_work_47 rfl hl (by decide) rfl (fun ls hl => ?_)
      refine lv_aload_n hx hb dX1_work_48 rfl (lv_at hl 2 rfl) ?_
      refine lv_iload_n hx hb dX1_work_49 rfl (lv_at hl 3 rfl) ?_
      refine tf_callR (As := [.int (nI i)]) (rest := []) (ci := 1) (q0 := 0) S hP hK (hD.weaken (fun _ _ _ _ => trivial)) (mX1_width l D _ ad ds k0 m1 g hc (nI i)) rfl rfl (cwV 1 hts (lw_V q172 q161 q162 q13 q163) rfl rfl rfl (by decide +kernel) ⟨Nat.le_of_ble_eq_true rfl, Nat.le_of_ble_eq_true rfl⟩) rfl hl.1 rfl (Nat.le_of_ble_eq_true rfl) dX1_work_50 ⟨Nat.le_of_ble_eq_true rfl, Nat.le_of_ble_eq_true rfl⟩ ?_
      refine tf_top (nI (tf_wid g i)) (tf_wiR_nn hi64) ?_
      refine lv_istore (lv' := [(4, .int (nI (tf_wid g i))), (3, .int (nI (tf_kind i))), (2, .int (nI (i ^^^ (i >>> 1)))), (0, .ref (ad 0)), (1, .int (nI i))]) hx hb dX1_work_53 hl (by decide) rfl (fun ls hl => ?_)
      refine lv_aload_n hx hb dX1_work_55 rfl (lv_at hl 3 rfl) ?_
      refine va_get (D := D) (ci := 1) (v := .ref (ad 2)) (C := RX1) (T := TX1) (N := 2) hx hb hts in_X1 hown hK hP 0 rfl rfl 1 (by decide) (hts _ q138) (fun _ h9 => h9) rfl dX1_work_56 ?_
      refine lv_iload_n hx hb dX1_work_59 rfl (lv_at hl 1 rfl) ?_
      refine lv_iload hx hb dX1_work_60 (lv_at hl 0 rfl) ?_
      refine lv_aload_n hx hb dX1_work_62 rfl (lv_at hl 3 rfl) ?_
      refine va_get (D := D) (ci := 1) (v := .ref (ad 2)) (C := RX1) (T := TX1) (N := 2) hx hb hts in_X1 hown hK hP 0 rfl rfl 1 (by decide) (hts _ q138) (fun _ h9 => h9) rfl dX1_work_63 ?_
      refine lv_iload_n hx hb dX1_work_66 rfl (lv_at hl 1 rfl) ?_
      refine tf_iald (v := nI (tf_lm g i (tf_kind i))) hx hb hK hP 2 1 rfl rfl (k := tf_kind i) (by omega) (by decide) (hm _ hk4) dX1_work_67 ?_
      refine lv_icmp_ge (tgt := 76) hx hb dX1_work_68 (by decide) (fun c2 => ?_) (fun c2 => ?_)
      · rw [tf_leN (by omega) (by omega)] at c2
        refine lv_aload_n hx hb dX1_work_76 rfl (lv_at hl 3 rfl) ?_
        refine va_get (D := D) (ci := 1) (v := .ref (ad 2)) (C := RX1) (T := TX1) (N := 2) hx hb hts in_X1 hown hK hP 0 rfl rfl 1 (by decide) (hts _ q138) (fun _ h9 => h9) rfl dX1_work_77 ?_
        refine lv_iload_n hx hb dX1_work_80 rfl (lv_at hl 1 rfl) ?_
        refine tf_iald (v := nI (tf_lm g i (tf_kind i))) hx hb hK hP 2 1 rfl rfl (k := tf_kind i) (by omega) (by decide) (hm _ hk4) dX1_work_81 ?_
        refine tf_iast hx hb hK hP hD hS 2 1 rfl rfl (k := tf_kind i) (by omega) (by decide) dX1_work_82 (fun H locs hP hD hS => ?_)
        have hP : va_P D vwCl (wM ad ds (k0, upd m1 (tf_kind i) (nI (tf_lm g i (tf_kind i))))) H := hP
        have hD : va_D A (wM ad ds (k0, upd m1 (tf_kind i) (nI (tf_lm g i (tf_kind i))))) := hD
        refine lv_iinc (v := nI (i + 1)) (lv' := [(1, .int (nI (i + 1))), (4, .int (nI (tf_wid g i))), (3, .int (nI (tf_kind i))), (2, .int (nI (i ^^^ (i >>> 1)))), (0, .ref (ad 0))]) hx hb dX1_work_83 hl (k := 4) rfl (tf_inc1 _) (by decide) rfl (fun ls hl => ?_)
        refine lv_goto (tgt := 24) hx hb dX1_work_86 (by decide) ?_
        exact ih (i + 1) _ H locs (by omega) (by omega) (tf_lm_up hm (by rw [if_neg (by omega)])) hP hD hS ls (lv_sub hl [4, 0] rfl)
      · rw [tf_leN (by omega) (by omega)] at c2
        refine lv_iload hx hb dX1_work_71 (lv_at hl 0 rfl) ?_
        refine lv_goto (tgt := 82) hx hb dX1_work_73 (by decide) ?_
        refine tf_iast hx hb hK hP hD hS 2 1 rfl rfl (k := tf_kind i) (by omega) (by decide) dX1_work_82 (fun H locs hP hD hS => ?_)
        have hP : va_P D vwCl (wM ad ds (k0, upd m1 (tf_kind i) (nI (tf_wid g i)))) H := hP
        have hD : va_D A (wM ad ds (k0, upd m1 (tf_kind i) (nI (tf_wid g i)))) := hD
        refine lv_iinc (v := nI (i + 1)) (lv' := [(1, .int (nI (i + 1))), (4, .int (nI (tf_wid g i))), (3, .int (nI (tf_kind i))), (2, .int (nI (i ^^^ (i >>> 1)))), (0, .ref (ad 0))]) hx hb dX1_work_83 hl (k := 4) rfl (tf_inc1 _) (by decide) rfl (fun ls hl => ?_)
        refine lv_goto (tgt := 24) hx hb dX1_work_86 (by decide) ?_
        exact ih (i + 1) _ H locs (by omega) (by omega) (tf_lm_up hm (by rw [if_pos (by omega)])) hP hD hS ls (lv_sub hl [4, 0] rfl)
set_option maxHeartbeats 4000000 in
set_option maxRecDepth 100000 in
/-- work -/
theorem mX1_work (l : Launch) (D : va_G) (sz : Nat) (ad : Nat → Nat) (ds : Nat → ClassId) (k0 m0 : Nat → Int32) (g : Nat → Nat) (hg : tf_ok 21 g) (hc : tf_MS g (k0, m0)) : tf_Mv l D (wM ad ds) (tyM ds) sz (k0, m0) yX1_work cX1_work 5 ({ frames := 1, cells := 0, slots := 0, locals := 24 }) [.ref (ad 0)] (fun u => ∃ m1 : Nat → Int32, u = (k0, m1) ∧ tf_MK g (k0, m1)) := by
  refine tf_go_v (by decide) (Nat.le_of_ble_eq_true rfl) ?_
  intro p e s m below meth c S hr hlocks A hA hP hK hD hS ls hl
  have S : CallFix p m c cX1_work 5 s _ lw_all RX1 := S
  obtain ⟨hx, hb, hml, hown, hts⟩ := id S
  have hl : lv_has ls 5 [(0, .ref (ad 0))] := hl
  refine lv_iconst (v := nI 0) hx hb dX1_work_0 (by decide) ?_
  refine lv_istore_n (lv' := [(1, .int (nI 0)), (0, .ref (ad 0))]) hx hb dX1_work_1 rfl hl (by decide) rfl (fun ls hl => ?_)
  refine lX1_work_1 l ad ds k0 S hK (fun m1 H locs ls hm hP hD hS hl => ?_) 5 0 m0 _ _ (by omega) (by omega) (fun x hx => absurd hx (by omega)) hP hD hS ls (lv_sub hl [1, 0] rfl)
  refine lv_iconst (v := nI 0) hx hb dX1_work_22 (by decide) ?_
  refine lv_istore_n (lv' := [(1, .int (nI 0)), (0, .ref (ad 0))]) hx hb dX1_work_23 rfl hl (by decide) rfl (fun ls hl => ?_)
  refine lX1_work_2 l ad ds k0 S hK g hg hc (fun m2 H locs ls hm2 hP hD hS => ?_) 65 0 m1 _ _ (by omega) (by omega) hm hP hD hS ls (lv_sub hl [1, 0] rfl)
  exact tf_vret (wf := wM ad ds) (k0, m2) hx hb hr hlocks hP hK hD hS (⟨m2, rfl, hc, hm2⟩) dX1_work_89
end
section
set_option maxHeartbeats 4000000 in
set_option maxRecDepth 100000 in
/-- carries -/
theorem mX1_carries (l : Launch) (D : va_G) (sz : Nat) (ad : Nat → Nat) (ds : Nat → ClassId) (k0 m0 : Nat → Int32) (g : Nat → Nat) (hg : tf_ok 21 g) (hc : tf_MS g (k0, m0)) (x y : Int32) : tf_Mi l D (wM ad ds) (tyM ds) sz (k0, m0) yX1_carries cX1_carries 3 (some .boolean) ({ frames := 2, cells := 0, slots := 0, locals := 48 }) [.ref (ad 0), .int x, .int y] (fun z u => z = tf_b (tf_car g x y) ∧ tf_MS g u) := by
  refine tf_go_i (by decide) (Nat.le_of_ble_eq_true rfl) ?_
  intro p e s m below meth c S hr hlocks A hA hP hK hD hS ls hl
  have S : CallFix p m c cX1_carries 3 s _ lw_all RX1 := S
  obtain ⟨hx, hb, hml, hown, hts⟩ := id S
  have hl : lv_has ls 3 [(0, .ref (ad 0)), (1, .int x), (2, .int y)] := hl
  refine lv_aload_n hx hb dX1_carries_0 rfl (lv_at hl 0 rfl) ?_
  refine tf_callv (wf := wM ad ds) (u := (k0, m0)) (wr := []) (As := []) (rest := []) (ci := 1) (q0 := 0) S hP hK hD hS hA [0, 1, 2] [] [0, 1] rfl (by decide) rfl (by decide) (by decide) rfl (mX1_work l D _ ad ds k0 m0 g hg hc) rfl rfl (cwV 0 hts (lw_V q168 q170 qs8 q13 q171) rfl rfl rfl (by decide +kernel) ⟨Nat.le_of_ble_eq_true rfl, Nat.le_of_ble_eq_true rfl⟩) rfl hl.1 rfl (Nat.le_of_ble_eq_true rfl) dX1_carries_1 ⟨Nat.le_of_ble_eq_true rfl, Nat.le_of_ble_eq_true rfl⟩ (fun u' H locs hw hP hD hS => ?_)
  obtain ⟨m1, hu, hmk⟩ := hw
  subst hu
  have hP : va_P D vwCl (wM ad ds (k0, m1)) H := hP
  have hD : va_D A (wM ad ds (k0, m1)) := hD
  have h1 := tf_lim_bd hg (k := 1) (by decide)
  have h2 := tf_lim_bd hg (k := 2) (by decide)
  refine lv_iload_n hx hb dX1_carries_4 rfl (lv_at hl 1 rfl) ?_
  refine lv_if_lt (tgt := 39) hx hb dX1_carries_5 (by decide) (fun c1 => ?_) (fun c1 => ?_)
  · refine lv_iconst (v := nI 0) hx hb dX1_carries_39 (by decide) ?_
    exact tf_iret (wf := wM ad ds) (k0, m1) hx hb hr rfl hlocks hP hK hD hS (⟨tf_b0 (tf_car_n1 c1), hc⟩) dX1_carries_40
  · obtain ⟨a, ha0, rfl⟩ := nI_of c1
    refine lv_iload_n hx hb dX1_carries_8 rfl (lv_at hl 1 rfl) ?_
    refine lv_sipush (v := nI 1000) hx hb dX1_carries_9 (by decide) ?_
    refine lv_icmp_gt (tgt := 39) hx hb dX1_carries_12 (by decide) (fun c3 => ?_) (fun c3 => ?_)
    · rw [tf_ltN (by omega) (by omega)] at c3
      refine lv_iconst (v := nI 0) hx hb dX1_carries_39 (by decide) ?_
      exact tf_iret (wf := wM ad ds) (k0, m1) hx hb hr rfl hlocks hP hK hD hS (⟨tf_b0 (decide_eq_false (fun h => by rw [nI_toInt ha0] at h; omega)), hc⟩) dX1_carries_40
    · rw [tf_ltN (by omega) (by omega)] at c3
      refine lv_iload_n hx hb dX1_carries_15 rfl (lv_at hl 2 rfl) ?_
      refine lv_if_lt (tgt := 39) hx hb dX1_carries_16 (by decide) (fun c2 => ?_) (fun c2 => ?_)
      · refine lv_iconst (v := nI 0) hx hb dX1_carries_39 (by decide) ?_
        exact tf_iret (wf := wM ad ds) (k0, m1) hx hb hr rfl hlocks hP hK hD hS (⟨tf_b0 (tf_car_n2 c2), hc⟩) dX1_carries_40
      · obtain ⟨b, hb0, rfl⟩ := nI_of c2
        refine lv_iload_n hx hb dX1_carries_19 rfl (lv_at hl 2 rfl) ?_
        refine lv_sipush (v := nI 1000) hx hb dX1_carries_20 (by decide) ?_
        refine lv_icmp_gt (tgt := 39) hx hb dX1_carries_23 (by decide) (fun c4 => ?_) (fun c4 => ?_)
        · rw [tf_ltN (by omega) (by omega)] at c4
          refine lv_iconst (v := nI 0) hx hb dX1_carries_39 (by decide) ?_
          exact tf_iret (wf := wM ad ds) (k0, m1) hx hb hr rfl hlocks hP hK hD hS (⟨tf_b0 (by rw [tf_car_nn g ha0 hb0]; exact decide_eq_false (fun h => by omega)), hc⟩) dX1_carries_40
        · rw [tf_ltN (by omega) (by omega)] at c4
          refine lv_aload_n hx hb dX1_carries_26 rfl (lv_at hl 0 rfl) ?_
          refine lv_iload_n hx hb dX1_carries_27 rfl (lv_at hl 1 rfl) ?_
          refine lv_iload_n hx hb dX1_carries_28 rfl (lv_at hl 2 rfl) ?_
          refine tf_callR (As := [.int (nI a), .int (nI b)]) (rest := []) (ci := 1) (q0 := 0) S hP hK (hD.weaken (fun _ _ _ _ => trivial)) (mX1_fits l D _ ad ds k0 m1 g hg hmk a b (by omega) (by omega)) rfl rfl (cwV 2 hts (lw_V q173 q175 qs9 q13 q176) rfl rfl rfl (by decide +kernel) ⟨Nat.le_of_ble_eq_true rfl, Nat.le_of_ble_eq_true rfl⟩) rfl hl.1 rfl (Nat.le_of_ble_eq_true rfl) dX1_carries_29 ⟨Nat.le_of_ble_eq_true rfl, Nat.le_of_ble_eq_true rfl⟩ ?_
          refine lv_if_eq (tgt := 39) hx hb dX1_carries_32 (by decide) (fun c5 => ?_) (fun c5 => ?_)
          · have c5 := tf_be c5
            refine lv_iconst (v := nI 0) hx hb dX1_carries_39 (by decide) ?_
            exact tf_iret (wf := wM ad ds) (k0, m1) hx hb hr rfl hlocks hP hK hD hS (⟨tf_b0 (by rw [tf_car_ft g ha0 hb0]; exact c5), hc⟩) dX1_carries_40
          · have c5 := tf_bne c5
            refine lv_iconst (v := nI 1) hx hb dX1_carries_35 (by decide) ?_
            refine lv_goto (tgt := 40) hx hb dX1_carries_36 (by decide) ?_
            exact tf_iret (wf := wM ad ds) (k0, m1) hx hb hr rfl hlocks hP hK hD hS (⟨tf_b1 (by rw [tf_car_ft g ha0 hb0]; exact c5), hc⟩) dX1_carries_40
set_option maxHeartbeats 4000000 in
set_option maxRecDepth 100000 in
/-- alone: the loop -/
theorem lX1_alone (l : Launch) {p : Program} {e : Env} {s : State} {m : MethodId} {args : Array Value} {below : List Frame} {meth : Method} {c : Code} {Q : State → Prop} {D : va_G} {H : Heap} {locs : List Loc} (ad : Nat → Nat) (ds : Nat → ClassId) (k0 m0 : Nat → Int32) (S : CallFix p m c cX1_alone 4 s args lw_all RX1) (hP : va_P D vwCl (wM ad ds (k0, m0)) H) (hK : va_K D vwCl (tyM ds) s) (hD : va_D (fun _ => True) (wM ad ds (k0, m0))) (g : Nat → Nat) (hg : tf_ok 21 g) (hmk : tf_MK g (k0, m0)) (x : Int32) (after : ∀ (y : Int32) (ls : Array Slot), y = tf_mx (nI 0) (tf_aP g x) 101 → lv_has ls 4 [(0, .ref (ad 0)), (1, .int x), (2, .int y)] → W p l e ({ frames := 2, cells := 0, slots := 0, locals := 48 }) s m args below meth c H locs 0 0 Q (F0 m 53 ls [])) : ∀ (n i : Nat) (y : Int32), i ≤ 101 → 102 ≤ i + n → y = tf_mx (nI 0) (tf_aP g x) i → ∀ (ls : Array Slot), lv_has ls 4 [(0, .ref (ad 0)), (1, .int x), (2, .int y), (3, .int (nI i))] → W p l e ({ frames := 2, cells := 0, slots := 0, locals := 48 }) s m args below meth c H locs 0 0 Q (F0 m 8 ls []) := by
  obtain ⟨hx, hb, hml, hown, hts⟩ := id S
  intro n
  induction n with
  | zero => intro i y h1 h2; exact absurd h2 (by omega)
  | succ n ih =>
    intro i y hi hn hv ls hl
    refine lv_iload_n hx hb dX1_alone_8 rfl (lv_at hl 3 rfl) ?_
    refine lv_bipush (v := nI 100) hx hb dX1_alone_9 (by decide) ?_
    refine lv_icmp_gt (tgt := 53) hx hb dX1_alone_11 (by decide) (fun c1 => ?_) (fun c1 => ?_)
    · rw [tf_ltN (by omega) (by omega)] at c1
      obtain rfl : i = 101 := by omega
      exact after y ls hv (lv_sub hl [0, 1, 2] rfl)
    · rw [tf_ltN (by omega) (by omega)] at c1
      refine lv_iload_n hx hb dX1_alone_14 rfl (lv_at hl 1 rfl) ?_
      refine lv_if_ne (tgt := 27) hx hb dX1_alone_15 (by decide) (fun c2 => ?_) (fun c2 => ?_)
      · refine lv_iload_n hx hb dX1_alone_27 rfl (lv_at hl 1 rfl) ?_
        refine lv_iconst (v := nI 1) hx hb dX1_alone_28 (by decide) ?_
        refine lv_icmp_ne (tgt := 45) hx hb dX1_alone_29 (by decide) (fun c3 => ?_) (fun c3 => ?_)
        · refine lv_iload_n hx hb dX1_alone_45 rfl (lv_at hl 2 rfl) ?_
          refine lv_istore_n (lv' := [(2, .int y), (0, .ref (ad 0)), (1, .int x), (3, .int (nI i))]) hx hb dX1_alone_46 rfl hl (by decide) rfl (fun ls hl => ?_)
          refine lv_iinc (v := nI (i + 1)) (lv' := [(3, .int (nI (i + 1))), (2, .int y), (0, .ref (ad 0)), (1, .int x)]) hx hb dX1_alone_47 hl (k := 3) rfl (tf_inc1 _) (by decide) rfl (fun ls hl => ?_)
          refine lv_goto (tgt := 8) hx hb dX1_alone_50 (by decide) ?_
          exact ih (i + 1) _ (by omega) (by omega) (hv.trans (tf_mx_n (by unfold tf_aP; rw [decide_eq_false c2, decide_eq_false c3]; rfl))) ls (lv_sub hl [2, 3, 1, 0] rfl)
        · refine lv_aload_n hx hb dX1_alone_32 rfl (lv_at hl 0 rfl) ?_
          refine lv_iconst (v := nI 0) hx hb dX1_alone_33 (by decide) ?_
          refine lv_iload_n hx hb dX1_alone_34 rfl (lv_at hl 3 rfl) ?_
          refine tf_callR (As := [.int (nI 0), .int (nI i)]) (rest := []) (ci := 1) (q0 := 0) S hP hK hD (mX1_fits l D _ ad ds k0 m0 g hg hmk 0 i (by omega) (by omega)) rfl rfl (cwV 2 hts (lw_V q173 q175 qs9 q13 q176) rfl rfl rfl (by decide +kernel) ⟨Nat.le_of_ble_eq_true rfl, Nat.le_of_ble_eq_true rfl⟩) rfl hl.1 rfl (Nat.le_of_ble_eq_true rfl) dX1_alone_35 ⟨Nat.le_of_ble_eq_true rfl, Nat.le_of_ble_eq_true rfl⟩ ?_
          refine lv_if_eq (tgt := 45) hx hb dX1_alone_38 (by decide) (fun c4 => ?_) (fun c4 => ?_)
          · have c4 := tf_be c4
            refine lv_iload_n hx hb dX1_alone_45 rfl (lv_at hl 2 rfl) ?_
            refine lv_istore_n (lv' := [(2, .int y), (0, .ref (ad 0)), (1, .int x), (3, .int (nI i))]) hx hb dX1_alone_46 rfl hl (by decide) rfl (fun ls hl => ?_)
            refine lv_iinc (v := nI (i + 1)) (lv' := [(3, .int (nI (i + 1))), (2, .int y), (0, .ref (ad 0)), (1, .int x)]) hx hb dX1_alone_47 hl (k := 3) rfl (tf_inc1 _) (by decide) rfl (fun ls hl => ?_)
            refine lv_goto (tgt := 8) hx hb dX1_alone_50 (by decide) ?_
            exact ih (i + 1) _ (by omega) (by omega) (hv.trans (tf_mx_n (by unfold tf_aP; rw [decide_eq_false c2, c4]; simp))) ls (lv_sub hl [2, 3, 1, 0] rfl)
          · have c4 := tf_bne c4
            refine lv_iload_n hx hb dX1_alone_41 rfl (lv_at hl 3 rfl) ?_
            refine lv_goto (tgt := 46) hx hb dX1_alone_42 (by decide) ?_
            refine lv_istore_n (lv' := [(2, .int (nI i)), (0, .ref (ad 0)), (1, .int x), (3, .int (nI i))]) hx hb dX1_alone_46 rfl hl (by decide) rfl (fun ls hl => ?_)
            refine lv_iinc (v := nI (i + 1)) (lv' := [(3, .int (nI (i + 1))), (2, .int (nI i)), (0, .ref (ad 0)), (1, .int x)]) hx hb dX1_alone_47 hl (k := 3) rfl (tf_inc1 _) (by decide) rfl (fun ls hl => ?_)
            refine lv_goto (tgt := 8) hx hb dX1_alone_50 (by decide) ?_
            exact ih (i + 1) _ (by omega) (by omega) (tf_mx_y (by unfold tf_aP; rw [decide_eq_true c3, c4]; simp)) ls (lv_sub hl [2, 3, 1, 0] rfl)
      · refine lv_aload_n hx hb dX1_alone_18 rfl (lv_at hl 0 rfl) ?_
        refine lv_iload_n hx hb dX1_alone_19 rfl (lv_at hl 3 rfl) ?_
        refine lv_iconst (v := nI 0) hx hb dX1_alone_20 (by decide) ?_
        refine tf_callR (As := [.int (nI i), .int (nI 0)]) (rest := []) (ci := 1) (q0 := 0) S hP hK hD (mX1_fits l D _ ad ds k0 m0 g hg hmk i 0 (by omega) (by omega)) rfl rfl (cwV 2 hts (lw_V q173 q175 qs9 q13 q176) rfl rfl rfl (by decide +kernel) ⟨Nat.le_of_ble_eq_true rfl, Nat.le_of_ble_eq_true rfl⟩) rfl hl.1 rfl (Nat.le_of_ble_eq_true rfl) dX1_alone_21 ⟨Nat.le_of_ble_eq_true rfl, Nat.le_of_ble_eq_true rfl⟩ ?_
        refine lv_if_ne (tgt := 41) hx hb dX1_alone_24 (by decide) (fun c4 => ?_) (fun c4 => ?_)
        · have c4 := tf_bne c4
          refine lv_iload_n hx hb dX1_alone_41 rfl (lv_at hl 3 rfl) ?_
          refine lv_goto (tgt := 46) hx hb dX1_alone_42 (by decide) ?_
          refine lv_istore_n (lv' := [(2, .int (nI i)), (0, .ref (ad 0)), (1, .int x), (3, .int (nI i))]) hx hb dX1_alone_46 rfl hl (by decide) rfl (fun ls hl => ?_)
          refine lv_iinc (v := nI (i + 1)) (lv' := [(3, .int (nI (i + 1))), (2, .int (nI i)), (0, .ref (ad 0)), (1, .int x)]) hx hb dX1_alone_47 hl (k := 3) rfl (tf_inc1 _) (by decide) rfl (fun ls hl => ?_)
          refine lv_goto (tgt := 8) hx hb dX1_alone_50 (by decide) ?_
          exact ih (i + 1) _ (by omega) (by omega) (tf_mx_y (by unfold tf_aP; rw [decide_eq_true c2, c4]; simp)) ls (lv_sub hl [2, 3, 1, 0] rfl)
        · have c4 := tf_be c4
          refine lv_iload_n hx hb dX1_alone_27 rfl (lv_at hl 1 rfl) ?_
          refine lv_iconst (v := nI 1) hx hb dX1_alone_28 (by decide) ?_
          refine lv_icmp_ne (tgt := 45) hx hb dX1_alone_29 (by decide) (fun c3 => ?_) (fun c3 => ?_)
          · refine lv_iload_n hx hb dX1_alone_45 rfl (lv_at hl 2 rfl) ?_
            refine lv_istore_n (lv' := [(2, .int y), (0, .ref (ad 0)), (1, .int x), (3, .int (nI i))]) hx hb dX1_alone_46 rfl hl (by decide) rfl (fun ls hl => ?_)
            refine lv_iinc (v := nI (i + 1)) (lv' := [(3, .int (nI (i + 1))), (2, .int y), (0, .ref (ad 0)), (1, .int x)]) hx hb dX1_alone_47 hl (k := 3) rfl (tf_inc1 _) (by decide) rfl (fun ls hl => ?_)
            refine lv_goto (tgt := 8) hx hb dX1_alone_50 (by decide) ?_
            exact ih (i + 1) _ (by omega) (by omega) (hv.trans (tf_mx_n (by unfold tf_aP; rw [decide_eq_false c3, c4]; simp))) ls (lv_sub hl [2, 3, 1, 0] rfl)
          · exact absurd (c2.symm.trans c3) (by decide)
set_option maxHeartbeats 4000000 in
set_option maxRecDepth 100000 in
/-- alone -/
theorem mX1_alone (l : Launch) (D : va_G) (sz : Nat) (ad : Nat → Nat) (ds : Nat → ClassId) (k0 m0 : Nat → Int32) (g : Nat → Nat) (hg : tf_ok 20 g) (hc : tf_MS g (k0, m0)) (x : Int32) : tf_Mi l D (wM ad ds) (tyM ds) sz (k0, m0) yX1_alone cX1_alone 4 (some .int) ({ frames := 2, cells := 0, slots := 0, locals := 48 }) [.ref (ad 0), .int x] (fun z u => z = tf_al g x ∧ tf_MS g u) := by
  refine tf_go_i (by decide) (Nat.le_of_ble_eq_true rfl) ?_
  intro p e s m below meth c S hr hlocks A hA hP hK hD hS ls hl
  have S : CallFix p m c cX1_alone 4 s _ lw_all RX1 := S
  obtain ⟨hx, hb, hml, hown, hts⟩ := id S
  have hl : lv_has ls 4 [(0, .ref (ad 0)), (1, .int x)] := hl
  refine lv_aload_n hx hb dX1_alone_0 rfl (lv_at hl 0 rfl) ?_
  refine tf_callv (wf := wM ad ds) (u := (k0, m0)) (wr := []) (As := []) (rest := []) (ci := 1) (q0 := 0) S hP hK hD hS hA [0, 1, 2] [] [0, 1] rfl (by decide) rfl (by decide) (by decide) rfl (mX1_work l D _ ad ds k0 m0 g (tf_ok_mono hg (by decide)) hc) rfl rfl (cwV 0 hts (lw_V q168 q170 qs8 q13 q171) rfl rfl rfl (by decide +kernel) ⟨Nat.le_of_ble_eq_true rfl, Nat.le_of_ble_eq_true rfl⟩) rfl hl.1 rfl (Nat.le_of_ble_eq_true rfl) dX1_alone_1 ⟨Nat.le_of_ble_eq_true rfl, Nat.le_of_ble_eq_true rfl⟩ (fun u' H locs hw hP hD hS => ?_)
  obtain ⟨m1, hu, hmk⟩ := hw
  subst hu
  have hP : va_P D vwCl (wM ad ds (k0, m1)) H := hP
  have hD : va_D A (wM ad ds (k0, m1)) := hD
  refine lv_iconst (v := nI 0) hx hb dX1_alone_4 (by decide) ?_
  refine lv_istore_n (lv' := [(2, .int (nI 0)), (0, .ref (ad 0)), (1, .int x)]) hx hb dX1_alone_5 rfl hl (by decide) rfl (fun ls hl => ?_)
  refine lv_iconst (v := nI 0) hx hb dX1_alone_6 (by decide) ?_
  refine lv_istore_n (lv' := [(3, .int (nI 0)), (2, .int (nI 0)), (0, .ref (ad 0)), (1, .int x)]) hx hb dX1_alone_7 rfl hl (by decide) rfl (fun ls hl => ?_)
  refine lX1_alone l ad ds k0 m1 S hP hK (hD.weaken (fun _ _ _ _ => trivial)) g (tf_ok_mono hg (by decide)) hmk x (fun y ls hy hl => ?_) 102 0 (nI 0) (by omega) (by omega) rfl ls (lv_sub hl [2, 3, 1, 0] rfl)
  refine lv_iload_n hx hb dX1_alone_53 rfl (lv_at hl 1 rfl) ?_
  refine lv_if_eq (tgt := 62) hx hb dX1_alone_54 (by decide) (fun c1 => ?_) (fun c1 => ?_)
  · refine lv_iload_n hx hb dX1_alone_62 rfl (lv_at hl 2 rfl) ?_
    refine lv_goto (tgt := 67) hx hb dX1_alone_63 (by decide) ?_
    exact tf_iret (wf := wM ad ds) (k0, m1) hx hb hr rfl hlocks hP hK hD hS (⟨hy.trans (tf_al_end hg x (Or.inl c1)), hc⟩) dX1_alone_67
  · refine lv_iload_n hx hb dX1_alone_57 rfl (lv_at hl 1 rfl) ?_
    refine lv_iconst (v := nI 1) hx hb dX1_alone_58 (by decide) ?_
    refine lv_icmp_ne (tgt := 66) hx hb dX1_alone_59 (by decide) (fun c2 => ?_) (fun c2 => ?_)
    · refine lv_iconst (v := (-1)) hx hb dX1_alone_66 (by decide) ?_
      exact tf_iret (wf := wM ad ds) (k0, m1) hx hb hr rfl hlocks hP hK hD hS (⟨tf_al_bad c1 c2, hc⟩) dX1_alone_67
    · refine lv_iload_n hx hb dX1_alone_62 rfl (lv_at hl 2 rfl) ?_
      refine lv_goto (tgt := 67) hx hb dX1_alone_63 (by decide) ?_
      exact tf_iret (wf := wM ad ds) (k0, m1) hx hb hr rfl hlocks hP hK hD hS (⟨hy.trans (tf_al_end hg x (Or.inr c2)), hc⟩) dX1_alone_67
set_option maxHeartbeats 4000000 in
set_option maxRecDepth 100000 in
/-- most: the inner loop -/
theorem lX1_most_y (l : Launch) {p : Program} {e : Env} {s : State} {m : MethodId} {args : Array Value} {below : List Frame} {meth : Method} {c : Code} {Q : State → Prop} {D : va_G} {H : Heap} {locs : List Loc} (ad : Nat → Nat) (ds : Nat → ClassId) (k0 m0 : Nat → Int32) (S : CallFix p m c cX1_most 4 s args lw_all RX1) (hP : va_P D vwCl (wM ad ds (k0, m0)) H) (hK : va_K D vwCl (tyM ds) s) (hD : va_D (fun _ => True) (wM ad ds (k0, m0))) (g : Nat → Nat) (hg : tf_ok 21 g) (hmk : tf_MK g (k0, m0)) (x : Nat) (hx1 : x ≤ 100) (after : ∀ (mm : Nat) (ls : Array Slot), tf_mp g x 101 mm → lv_has ls 4 [(0, .ref (ad 0)), (1, .int (nI mm)), (2, .int (nI x))] → W p l e ({ frames := 2, cells := 0, slots := 0, locals := 48 }) s m args below meth c H locs 0 0 Q (F0 m 52 ls [])) : ∀ (n y mm : Nat), y ≤ 101 → 102 ≤ y + n → tf_mp g x y mm → ∀ (ls : Array Slot), lv_has ls 4 [(0, .ref (ad 0)), (1, .int (nI mm)), (2, .int (nI x)), (3, .int (nI y))] → W p l e ({ frames := 2, cells := 0, slots := 0, locals := 48 }) s m args below meth c H locs 0 0 Q (F0 m 16 ls []) := by
  obtain ⟨hx, hb, hml, hown, hts⟩ := id S
  intro n
  induction n with
  | zero => intro y mm h1 h2; exact absurd h2 (by omega)
  | succ n ih =>
    intro y mm hy hn hv ls hl
    have hbd := tf_mp_bd hg hv
    refine lv_iload_n hx hb dX1_most_16 rfl (lv_at hl 3 rfl) ?_
    refine lv_bipush (v := nI 100) hx hb dX1_most_17 (by decide) ?_
    refine lv_icmp_gt (tgt := 52) hx hb dX1_most_19 (by decide) (fun c1 => ?_) (fun c1 => ?_)
    · rw [tf_ltN (by omega) (by omega)] at c1
      obtain rfl : y = 101 := by omega
      exact after mm ls hv (lv_sub hl [0, 1, 2] rfl)
    · rw [tf_ltN (by omega) (by omega)] at c1
      refine lv_iload_n hx hb dX1_most_22 rfl (lv_at hl 2 rfl) ?_
      refine lv_iload_n hx hb dX1_most_23 rfl (lv_at hl 3 rfl) ?_
      refine lv_iadd hx hb dX1_most_24 ?_
      refine tf_top (nI (x + y)) (nI_add _ _) ?_
      refine lv_iload_n hx hb dX1_most_25 rfl (lv_at hl 1 rfl) ?_
      refine lv_icmp_le (tgt := 44) hx hb dX1_most_26 (by decide) (fun c2 => ?_) (fun c2 => ?_)
      · rw [tf_leN (by omega) (by omega)] at c2
        refine lv_iload_n hx hb dX1_most_44 rfl (lv_at hl 1 rfl) ?_
        refine lv_istore_n (lv' := [(1, .int (nI mm)), (0, .ref (ad 0)), (2, .int (nI x)), (3, .int (nI y))]) hx hb dX1_most_45 rfl hl (by decide) rfl (fun ls hl => ?_)
        refine lv_iinc (v := nI (y + 1)) (lv' := [(3, .int (nI (y + 1))), (1, .int (nI mm)), (0, .ref (ad 0)), (2, .int (nI x))]) hx hb dX1_most_46 hl (k := 3) rfl (tf_inc1 _) (by decide) rfl (fun ls hl => ?_)
        refine lv_goto (tgt := 16) hx hb dX1_most_49 (by decide) ?_
        exact ih (y + 1) mm (by omega) (by omega) (tf_mp_n hv (fun _ => c2)) ls (lv_sub hl [2, 1, 3, 0] rfl)
      · rw [tf_leN (by omega) (by omega)] at c2
        refine lv_aload_n hx hb dX1_most_29 rfl (lv_at hl 0 rfl) ?_
        refine lv_iload_n hx hb dX1_most_30 rfl (lv_at hl 2 rfl) ?_
        refine lv_iload_n hx hb dX1_most_31 rfl (lv_at hl 3 rfl) ?_
        refine tf_callR (As := [.int (nI x), .int (nI y)]) (rest := []) (ci := 1) (q0 := 0) S hP hK hD (mX1_fits l D _ ad ds k0 m0 g hg hmk x y (by omega) (by omega)) rfl rfl (cwV 2 hts (lw_V q173 q175 qs9 q13 q176) rfl rfl rfl (by decide +kernel) ⟨Nat.le_of_ble_eq_true rfl, Nat.le_of_ble_eq_true rfl⟩) rfl hl.1 rfl (Nat.le_of_ble_eq_true rfl) dX1_most_32 ⟨Nat.le_of_ble_eq_true rfl, Nat.le_of_ble_eq_true rfl⟩ ?_
        refine lv_if_eq (tgt := 44) hx hb dX1_most_35 (by decide) (fun c3 => ?_) (fun c3 => ?_)
        · have c3 := tf_be c3
          refine lv_iload_n hx hb dX1_most_44 rfl (lv_at hl 1 rfl) ?_
          refine lv_istore_n (lv' := [(1, .int (nI mm)), (0, .ref (ad 0)), (2, .int (nI x)), (3, .int (nI y))]) hx hb dX1_most_45 rfl hl (by decide) rfl (fun ls hl => ?_)
          refine lv_iinc (v := nI (y + 1)) (lv' := [(3, .int (nI (y + 1))), (1, .int (nI mm)), (0, .ref (ad 0)), (2, .int (nI x))]) hx hb dX1_most_46 hl (k := 3) rfl (tf_inc1 _) (by decide) rfl (fun ls hl => ?_)
          refine lv_goto (tgt := 16) hx hb dX1_most_49 (by decide) ?_
          exact ih (y + 1) mm (by omega) (by omega) (tf_mp_n hv (fun q => by rw [c3] at q; cases q)) ls (lv_sub hl [2, 1, 3, 0] rfl)
        · have c3 := tf_bne c3
          refine lv_iload_n hx hb dX1_most_38 rfl (lv_at hl 2 rfl) ?_
          refine lv_iload_n hx hb dX1_most_39 rfl (lv_at hl 3 rfl) ?_
          refine lv_iadd hx hb dX1_most_40 ?_
          refine tf_top (nI (x + y)) (nI_add _ _) ?_
          refine lv_goto (tgt := 45) hx hb dX1_most_41 (by decide) ?_
          refine lv_istore_n (lv' := [(1, .int (nI (x + y))), (0, .ref (ad 0)), (2, .int (nI x)), (3, .int (nI y))]) hx hb dX1_most_45 rfl hl (by decide) rfl (fun ls hl => ?_)
          refine lv_iinc (v := nI (y + 1)) (lv' := [(3, .int (nI (y + 1))), (1, .int (nI (x + y))), (0, .ref (ad 0)), (2, .int (nI x))]) hx hb dX1_most_46 hl (k := 3) rfl (tf_inc1 _) (by decide) rfl (fun ls hl => ?_)
          refine lv_goto (tgt := 16) hx hb dX1_most_49 (by decide) ?_
          exact ih (y + 1) (x + y) (by omega) (by omega) (tf_mp_y hv c3 (by omega)) ls (lv_sub hl [2, 1, 3, 0] rfl)
set_option maxHeartbeats 4000000 in
set_option maxRecDepth 100000 in
/-- most: the outer loop -/
theorem lX1_most_x (l : Launch) {p : Program} {e : Env} {s : State} {m : MethodId} {args : Array Value} {below : List Frame} {meth : Method} {c : Code} {Q : State → Prop} {D : va_G} {H : Heap} {locs : List Loc} (ad : Nat → Nat) (ds : Nat → ClassId) (k0 m0 : Nat → Int32) (S : CallFix p m c cX1_most 4 s args lw_all RX1) (hP : va_P D vwCl (wM ad ds (k0, m0)) H) (hK : va_K D vwCl (tyM ds) s) (hD : va_D (fun _ => True) (wM ad ds (k0, m0))) (g : Nat → Nat) (hg : tf_ok 21 g) (hmk : tf_MK g (k0, m0)) (after : ∀ (mm : Nat) (ls : Array Slot), tf_mp g 101 0 mm → lv_has ls 4 [(0, .ref (ad 0)), (1, .int (nI mm))] → W p l e ({ frames := 2, cells := 0, slots := 0, locals := 48 }) s m args below meth c H locs 0 0 Q (F0 m 58 ls [])) : ∀ (n x mm : Nat), x ≤ 101 → 102 ≤ x + n → tf_mp g x 0 mm → ∀ (ls : Array Slot), lv_has ls 4 [(0, .ref (ad 0)), (1, .int (nI mm)), (2, .int (nI x))] → W p l e ({ frames := 2, cells := 0, slots := 0, locals := 48 }) s m args below meth c H locs 0 0 Q (F0 m 8 ls []) := by
  obtain ⟨hx, hb, hml, hown, hts⟩ := id S
  intro n
  induction n with
  | zero => intro x mm h1 h2; exact absurd h2 (by omega)
  | succ n ih =>
    intro x mm hx1 hn hv ls hl
    refine lv_iload_n hx hb dX1_most_8 rfl (lv_at hl 2 rfl) ?_
    refine lv_bipush (v := nI 100) hx hb dX1_most_9 (by decide) ?_
    refine lv_icmp_gt (tgt := 58) hx hb dX1_most_11 (by decide) (fun c1 => ?_) (fun c1 => ?_)
    · rw [tf_ltN (by omega) (by omega)] at c1
      obtain rfl : x = 101 := by omega
      exact after mm ls hv (lv_sub hl [0, 1] rfl)
    · rw [tf_ltN (by omega) (by omega)] at c1
      refine lv_iconst (v := nI 0) hx hb dX1_most_14 (by decide) ?_
      refine lv_istore_n (lv' := [(3, .int (nI 0)), (0, .ref (ad 0)), (1, .int (nI mm)), (2, .int (nI x))]) hx hb dX1_most_15 rfl hl (by decide) rfl (fun ls hl => ?_)
      refine lX1_most_y l ad ds k0 m0 S hP hK hD g hg hmk x (by omega) (fun m2 ls hv2 hl => ?_) 102 0 mm (by omega) (by omega) hv ls (lv_sub hl [1, 2, 3, 0] rfl)
      refine lv_iinc (v := nI (x + 1)) (lv' := [(2, .int (nI (x + 1))), (0, .ref (ad 0)), (1, .int (nI m2))]) hx hb dX1_most_52 hl (k := 2) rfl (tf_inc1 _) (by decide) rfl (fun ls hl => ?_)
      refine lv_goto (tgt := 8) hx hb dX1_most_55 (by decide) ?_
      exact ih (x + 1) m2 (by omega) (by omega) (tf_mp_r hv2) ls (lv_sub hl [1, 2, 0] rfl)
set_option maxHeartbeats 4000000 in
set_option maxRecDepth 100000 in
/-- most -/
theorem mX1_most (l : Launch) (D : va_G) (sz : Nat) (ad : Nat → Nat) (ds : Nat → ClassId) (k0 m0 : Nat → Int32) (g : Nat → Nat) (hg : tf_ok 21 g) (hc : tf_MS g (k0, m0)) : tf_Mi l D (wM ad ds) (tyM ds) sz (k0, m0) yX1_most cX1_most 4 (some .int) ({ frames := 2, cells := 0, slots := 0, locals := 48 }) [.ref (ad 0)] (fun z u => z = nI (tf_mo g) ∧ ∃ m1 : Nat → Int32, u = (k0, m1)) := by
  refine tf_go_i (by decide) (Nat.le_of_ble_eq_true rfl) ?_
  intro p e s m below meth c S hr hlocks A hA hP hK hD hS ls hl
  have S : CallFix p m c cX1_most 4 s _ lw_all RX1 := S
  obtain ⟨hx, hb, hml, hown, hts⟩ := id S
  have hl : lv_has ls 4 [(0, .ref (ad 0))] := hl
  refine lv_aload_n hx hb dX1_most_0 rfl (lv_at hl 0 rfl) ?_
  refine tf_callv (wf := wM ad ds) (u := (k0, m0)) (wr := []) (As := []) (rest := []) (ci := 1) (q0 := 0) S hP hK hD hS hA [0, 1, 2] [] [0, 1] rfl (by decide) rfl (by decide) (by decide) rfl (mX1_work l D _ ad ds k0 m0 g hg hc) rfl rfl (cwV 0 hts (lw_V q168 q170 qs8 q13 q171) rfl rfl rfl (by decide +kernel) ⟨Nat.le_of_ble_eq_true rfl, Nat.le_of_ble_eq_true rfl⟩) rfl hl.1 rfl (Nat.le_of_ble_eq_true rfl) dX1_most_1 ⟨Nat.le_of_ble_eq_true rfl, Nat.le_of_ble_eq_true rfl⟩ (fun u' H locs hw hP hD hS => ?_)
  obtain ⟨m1, hu, hmk⟩ := hw
  subst hu
  have hP : va_P D vwCl (wM ad ds (k0, m1)) H := hP
  have hD : va_D A (wM ad ds (k0, m1)) := hD
  refine lv_iconst (v := nI 0) hx hb dX1_most_4 (by decide) ?_
  refine lv_istore_n (lv' := [(1, .int (nI 0)), (0, .ref (ad 0))]) hx hb dX1_most_5 rfl hl (by decide) rfl (fun ls hl => ?_)
  refine lv_iconst (v := nI 0) hx hb dX1_most_6 (by decide) ?_
  refine lv_istore_n (lv' := [(2, .int (nI 0)), (1, .int (nI 0)), (0, .ref (ad 0))]) hx hb dX1_most_7 rfl hl (by decide) rfl (fun ls hl => ?_)
  refine lX1_most_x l ad ds k0 m1 S hP hK (hD.weaken (fun _ _ _ _ => trivial)) g hg hmk (fun mm ls hv hl => ?_) 102 0 0 (by omega) (by omega) (tf_mp_0 g) ls (lv_sub hl [2, 1, 0] rfl)
  refine lv_iload_n hx hb dX1_most_58 rfl (lv_at hl 1 rfl) ?_
  exact tf_iret (wf := wM ad ds) (k0, m1) hx hb hr rfl hlocks hP hK hD hS (⟨congrArg nI (tf_mp_end hg hv), m1, rfl⟩) dX1_most_59
set_option maxHeartbeats 4000000 in
set_option maxRecDepth 100000 in
/-- besides: the loop -/
theorem lX1_besides (l : Launch) {p : Program} {e : Env} {s : State} {m : MethodId} {args : Array Value} {below : List Frame} {meth : Method} {c : Code} {Q : State → Prop} {D : va_G} {H : Heap} {locs : List Loc} (ad : Nat → Nat) (ds : Nat → ClassId) (k0 m0 : Nat → Int32) (S : CallFix p m c cX1_besides 4 s args lw_all RX1) (hP : va_P D vwCl (wM ad ds (k0, m0)) H) (hK : va_K D vwCl (tyM ds) s) (hD : va_D (fun _ => True) (wM ad ds (k0, m0))) (g : Nat → Nat) (hg : tf_ok 21 g) (hmk : tf_MK g (k0, m0)) (a : Nat) (ha : a ≤ 100) (after : ∀ (y : Int32) (ls : Array Slot), y = tf_mx (-1) (tf_ft g a) 101 → lv_has ls 4 [(0, .ref (ad 0)), (1, .int (nI a)), (2, .int y)] → W p l e ({ frames := 2, cells := 0, slots := 0, locals := 48 }) s m args below meth c H locs 0 0 Q (F0 m 45 ls [])) : ∀ (n i : Nat) (y : Int32), i ≤ 101 → 102 ≤ i + n → y = tf_mx (-1) (tf_ft g a) i → ∀ (ls : Array Slot), lv_has ls 4 [(0, .ref (ad 0)), (1, .int (nI a)), (2, .int y), (3, .int (nI i))] → W p l e ({ frames := 2, cells := 0, slots := 0, locals := 48 }) s m args below meth c H locs 0 0 Q (F0 m 8 ls []) := by
  obtain ⟨hx, hb, hml, hown, hts⟩ := id S
  intro n
  induction n with
  | zero => intro i y h1 h2; exact absurd h2 (by omega)
  | succ n ih =>
    intro i y hi hn hv ls hl
    refine lv_iload_n hx hb dX1_besides_8 rfl (lv_at hl 3 rfl) ?_
    refine lv_bipush (v := nI 100) hx hb dX1_besides_9 (by decide) ?_
    refine lv_icmp_gt (tgt := 45) hx hb dX1_besides_11 (by decide) (fun c1 => ?_) (fun c1 => ?_)
    · rw [tf_ltN (by omega) (by omega)] at c1
      obtain rfl : i = 101 := by omega
      exact after y ls hv (lv_sub hl [0, 1, 2] rfl)
    · rw [tf_ltN (by omega) (by omega)] at c1
      refine lv_iload_n hx hb dX1_besides_14 rfl (lv_at hl 1 rfl) ?_
      refine lv_if_lt (tgt := 45) hx hb dX1_besides_15 (by decide) (fun c2 => ?_) (fun c2 => ?_)
      · exact absurd c2 (nI_pos (by omega))
      · refine lv_iload_n hx hb dX1_besides_18 rfl (lv_at hl 1 rfl) ?_
        refine lv_bipush (v := nI 100) hx hb dX1_besides_19 (by decide) ?_
        refine lv_icmp_gt (tgt := 45) hx hb dX1_besides_21 (by decide) (fun c3 => ?_) (fun c3 => ?_)
        · rw [tf_ltN (by omega) (by omega)] at c3
          exact absurd c3 (by omega)
        · rw [tf_ltN (by omega) (by omega)] at c3
          refine lv_aload_n hx hb dX1_besides_24 rfl (lv_at hl 0 rfl) ?_
          refine lv_iload_n hx hb dX1_besides_25 rfl (lv_at hl 1 rfl) ?_
          refine lv_iload_n hx hb dX1_besides_26 rfl (lv_at hl 3 rfl) ?_
          refine tf_callR (As := [.int (nI a), .int (nI i)]) (rest := []) (ci := 1) (q0 := 0) S hP hK hD (mX1_fits l D _ ad ds k0 m0 g hg hmk a i (by omega) (by omega)) rfl rfl (cwV 2 hts (lw_V q173 q175 qs9 q13 q176) rfl rfl rfl (by decide +kernel) ⟨Nat.le_of_ble_eq_true rfl, Nat.le_of_ble_eq_true rfl⟩) rfl hl.1 rfl (Nat.le_of_ble_eq_true rfl) dX1_besides_27 ⟨Nat.le_of_ble_eq_true rfl, Nat.le_of_ble_eq_true rfl⟩ ?_
          refine lv_if_eq (tgt := 37) hx hb dX1_besides_30 (by decide) (fun c4 => ?_) (fun c4 => ?_)
          · have c4 := tf_be c4
            refine lv_iload_n hx hb dX1_besides_37 rfl (lv_at hl 2 rfl) ?_
            refine lv_istore_n (lv' := [(2, .int y), (0, .ref (ad 0)), (1, .int (nI a)), (3, .int (nI i))]) hx hb dX1_besides_38 rfl hl (by decide) rfl (fun ls hl => ?_)
            refine lv_iinc (v := nI (i + 1)) (lv' := [(3, .int (nI (i + 1))), (2, .int y), (0, .ref (ad 0)), (1, .int (nI a))]) hx hb dX1_besides_39 hl (k := 3) rfl (tf_inc1 _) (by decide) rfl (fun ls hl => ?_)
            refine lv_goto (tgt := 8) hx hb dX1_besides_42 (by decide) ?_
            exact ih (i + 1) _ (by omega) (by omega) (hv.trans (tf_mx_n (c4))) ls (lv_sub hl [2, 3, 1, 0] rfl)
          · have c4 := tf_bne c4
            refine lv_iload_n hx hb dX1_besides_33 rfl (lv_at hl 3 rfl) ?_
            refine lv_goto (tgt := 38) hx hb dX1_besides_34 (by decide) ?_
            refine lv_istore_n (lv' := [(2, .int (nI i)), (0, .ref (ad 0)), (1, .int (nI a)), (3, .int (nI i))]) hx hb dX1_besides_38 rfl hl (by decide) rfl (fun ls hl => ?_)
            refine lv_iinc (v := nI (i + 1)) (lv' := [(3, .int (nI (i + 1))), (2, .int (nI i)), (0, .ref (ad 0)), (1, .int (nI a))]) hx hb dX1_besides_39 hl (k := 3) rfl (tf_inc1 _) (by decide) rfl (fun ls hl => ?_)
            refine lv_goto (tgt := 8) hx hb dX1_besides_42 (by decide) ?_
            exact ih (i + 1) _ (by omega) (by omega) (tf_mx_y (c4)) ls (lv_sub hl [2, 3, 1, 0] rfl)
set_option maxHeartbeats 4000000 in
set_option maxRecDepth 100000 in
/-- besides -/
theorem mX1_besides (l : Launch) (D : va_G) (sz : Nat) (ad : Nat → Nat) (ds : Nat → ClassId) (k0 m0 : Nat → Int32) (g : Nat → Nat) (hg : tf_ok 20 g) (hc : tf_MS g (k0, m0)) (x : Int32) : tf_Mi l D (wM ad ds) (tyM ds) sz (k0, m0) yX1_besides cX1_besides 4 (some .int) ({ frames := 2, cells := 0, slots := 0, locals := 48 }) [.ref (ad 0), .int x] (fun z u => z = tf_bs g x ∧ tf_MS g u) := by
  refine tf_go_i (by decide) (Nat.le_of_ble_eq_true rfl) ?_
  intro p e s m below meth c S hr hlocks A hA hP hK hD hS ls hl
  have S : CallFix p m c cX1_besides 4 s _ lw_all RX1 := S
  obtain ⟨hx, hb, hml, hown, hts⟩ := id S
  have hl : lv_has ls 4 [(0, .ref (ad 0)), (1, .int x)] := hl
  refine lv_aload_n hx hb dX1_besides_0 rfl (lv_at hl 0 rfl) ?_
  refine tf_callv (wf := wM ad ds) (u := (k0, m0)) (wr := []) (As := []) (rest := []) (ci := 1) (q0 := 0) S hP hK hD hS hA [0, 1, 2] [] [0, 1] rfl (by decide) rfl (by decide) (by decide) rfl (mX1_work l D _ ad ds k0 m0 g (tf_ok_mono hg (by decide)) hc) rfl rfl (cwV 0 hts (lw_V q168 q170 qs8 q13 q171) rfl rfl rfl (by decide +kernel) ⟨Nat.le_of_ble_eq_true rfl, Nat.le_of_ble_eq_true rfl⟩) rfl hl.1 rfl (Nat.le_of_ble_eq_true rfl) dX1_besides_1 ⟨Nat.le_of_ble_eq_true rfl, Nat.le_of_ble_eq_true rfl⟩ (fun u' H locs hw hP hD hS => ?_)
  obtain ⟨m1, hu, hmk⟩ := hw
  subst hu
  have hP : va_P D vwCl (wM ad ds (k0, m1)) H := hP
  have hD : va_D A (wM ad ds (k0, m1)) := hD
  refine lv_iconst (v := (-1)) hx hb dX1_besides_4 (by decide) ?_
  refine lv_istore_n (lv' := [(2, .int (-1)), (0, .ref (ad 0)), (1, .int x)]) hx hb dX1_besides_5 rfl hl (by decide) rfl (fun ls hl => ?_)
  refine lv_iconst (v := nI 0) hx hb dX1_besides_6 (by decide) ?_
  refine lv_istore_n (lv' := [(3, .int (nI 0)), (2, .int (-1)), (0, .ref (ad 0)), (1, .int x)]) hx hb dX1_besides_7 rfl hl (by decide) rfl (fun ls hl => ?_)
  by_cases h0 : x < 0 ∨ nI 100 < x
  · refine lv_iload_n hx hb dX1_besides_8 rfl (lv_at hl 0 rfl) ?_
    refine lv_bipush (v := nI 100) hx hb dX1_besides_9 (by decide) ?_
    refine lv_icmp_gt (tgt := 45) hx hb dX1_besides_11 (by decide) (fun c1 => ?_) (fun c1 => ?_)
    · rw [tf_ltN (by omega) (by omega)] at c1
      exact absurd c1 (by omega)
    · rw [tf_ltN (by omega) (by omega)] at c1
      refine lv_iload_n hx hb dX1_besides_14 rfl (lv_at hl 3 rfl) ?_
      refine lv_if_lt (tgt := 45) hx hb dX1_besides_15 (by decide) (fun c2 => ?_) (fun c2 => ?_)
      · refine lv_iload_n hx hb dX1_besides_45 rfl (lv_at hl 1 rfl) ?_
        exact tf_iret (wf := wM ad ds) (k0, m1) hx hb hr rfl hlocks hP hK hD hS (⟨tf_bs_bad hg h0, hc⟩) dX1_besides_46
      · refine lv_iload_n hx hb dX1_besides_18 rfl (lv_at hl 3 rfl) ?_
        refine lv_bipush (v := nI 100) hx hb dX1_besides_19 (by decide) ?_
        refine lv_icmp_gt (tgt := 45) hx hb dX1_besides_21 (by decide) (fun c3 => ?_) (fun c3 => ?_)
        · refine lv_iload_n hx hb dX1_besides_45 rfl (lv_at hl 1 rfl) ?_
          exact tf_iret (wf := wM ad ds) (k0, m1) hx hb hr rfl hlocks hP hK hD hS (⟨tf_bs_bad hg h0, hc⟩) dX1_besides_46
        · exact absurd h0 (fun h => h.elim c2 c3)
  · obtain ⟨a, ha0, rfl⟩ := nI_of (fun q => h0 (Or.inl q))
    have ha : a ≤ 100 := by
      have h1 : ¬ nI 100 < nI a := fun q => h0 (Or.inr q)
      rw [tf_ltN (by decide) ha0] at h1
      omega
    refine lX1_besides l ad ds k0 m1 S hP hK (hD.weaken (fun _ _ _ _ => trivial)) g (tf_ok_mono hg (by decide)) hmk a ha (fun y ls hy hl => ?_) 102 0 (-1) (by omega) (by omega) rfl ls (lv_sub hl [2, 3, 1, 0] rfl)
    refine lv_iload_n hx hb dX1_besides_45 rfl (lv_at hl 2 rfl) ?_
    exact tf_iret (wf := wM ad ds) (k0, m1) hx hb hr rfl hlocks hP hK hD hS (⟨hy.trans (tf_bs_end hg ha), hc⟩) dX1_besides_46
set_option maxHeartbeats 4000000 in
set_option maxRecDepth 100000 in
/-- evenly: the loop -/
theorem lX1_evenly (l : Launch) {p : Program} {e : Env} {s : State} {m : MethodId} {args : Array Value} {below : List Frame} {meth : Method} {c : Code} {Q : State → Prop} {D : va_G} {H : Heap} {locs : List Loc} (ad : Nat → Nat) (ds : Nat → ClassId) (k0 m0 : Nat → Int32) (S : CallFix p m c cX1_evenly 3 s args lw_all RX1) (hP : va_P D vwCl (wM ad ds (k0, m0)) H) (hK : va_K D vwCl (tyM ds) s) (hD : va_D (fun _ => True) (wM ad ds (k0, m0))) (g : Nat → Nat) (hg : tf_ok 21 g) (hmk : tf_MK g (k0, m0)) (after : ∀ (y : Int32) (ls : Array Slot), y = tf_mx (nI 0) (fun n => tf_ft g n n) 101 → lv_has ls 3 [(0, .ref (ad 0)), (1, .int y)] → W p l e ({ frames := 2, cells := 0, slots := 0, locals := 48 }) s m args below meth c H locs 0 0 Q (F0 m 35 ls [])) : ∀ (n i : Nat) (y : Int32), i ≤ 101 → 102 ≤ i + n → y = tf_mx (nI 0) (fun n => tf_ft g n n) i → ∀ (ls : Array Slot), lv_has ls 3 [(0, .ref (ad 0)), (1, .int y), (2, .int (nI i))] → W p l e ({ frames := 2, cells := 0, slots := 0, locals := 48 }) s m args below meth c H locs 0 0 Q (F0 m 8 ls []) := by
  obtain ⟨hx, hb, hml, hown, hts⟩ := id S
  intro n
  induction n with
  | zero => intro i y h1 h2; exact absurd h2 (by omega)
  | succ n ih =>
    intro i y hi hn hv ls hl
    refine lv_iload_n hx hb dX1_evenly_8 rfl (lv_at hl 2 rfl) ?_
    refine lv_bipush (v := nI 100) hx hb dX1_evenly_9 (by decide) ?_
    refine lv_icmp_gt (tgt := 35) hx hb dX1_evenly_11 (by decide) (fun c1 => ?_) (fun c1 => ?_)
    · rw [tf_ltN (by omega) (by omega)] at c1
      obtain rfl : i = 101 := by omega
      exact after y ls hv (lv_sub hl [0, 1] rfl)
    · rw [tf_ltN (by omega) (by omega)] at c1
      refine lv_aload_n hx hb dX1_evenly_14 rfl (lv_at hl 0 rfl) ?_
      refine lv_iload_n hx hb dX1_evenly_15 rfl (lv_at hl 2 rfl) ?_
      refine lv_iload_n hx hb dX1_evenly_16 rfl (lv_at hl 2 rfl) ?_
      refine tf_callR (As := [.int (nI i), .int (nI i)]) (rest := []) (ci := 1) (q0 := 0) S hP hK hD (mX1_fits l D _ ad ds k0 m0 g hg hmk i i (by omega) (by omega)) rfl rfl (cwV 2 hts (lw_V q173 q175 qs9 q13 q176) rfl rfl rfl (by decide +kernel) ⟨Nat.le_of_ble_eq_true rfl, Nat.le_of_ble_eq_true rfl⟩) rfl hl.1 rfl (Nat.le_of_ble_eq_true rfl) dX1_evenly_17 ⟨Nat.le_of_ble_eq_true rfl, Nat.le_of_ble_eq_true rfl⟩ ?_
      refine lv_if_eq (tgt := 27) hx hb dX1_evenly_20 (by decide) (fun c4 => ?_) (fun c4 => ?_)
      · have c4 := tf_be c4
        refine lv_iload_n hx hb dX1_evenly_27 rfl (lv_at hl 1 rfl) ?_
        refine lv_istore_n (lv' := [(1, .int y), (0, .ref (ad 0)), (2, .int (nI i))]) hx hb dX1_evenly_28 rfl hl (by decide) rfl (fun ls hl => ?_)
        refine lv_iinc (v := nI (i + 1)) (lv' := [(2, .int (nI (i + 1))), (1, .int y), (0, .ref (ad 0))]) hx hb dX1_evenly_29 hl (k := 2) rfl (tf_inc1 _) (by decide) rfl (fun ls hl => ?_)
        refine lv_goto (tgt := 8) hx hb dX1_evenly_32 (by decide) ?_
        exact ih (i + 1) _ (by omega) (by omega) (hv.trans (tf_mx_n (P := fun n => tf_ft g n n) (c4))) ls (lv_sub hl [2, 1, 0] rfl)
      · have c4 := tf_bne c4
        refine lv_iload_n hx hb dX1_evenly_23 rfl (lv_at hl 2 rfl) ?_
        refine lv_goto (tgt := 28) hx hb dX1_evenly_24 (by decide) ?_
        refine lv_istore_n (lv' := [(1, .int (nI i)), (0, .ref (ad 0)), (2, .int (nI i))]) hx hb dX1_evenly_28 rfl hl (by decide) rfl (fun ls hl => ?_)
        refine lv_iinc (v := nI (i + 1)) (lv' := [(2, .int (nI (i + 1))), (1, .int (nI i)), (0, .ref (ad 0))]) hx hb dX1_evenly_29 hl (k := 2) rfl (tf_inc1 _) (by decide) rfl (fun ls hl => ?_)
        refine lv_goto (tgt := 8) hx hb dX1_evenly_32 (by decide) ?_
        exact ih (i + 1) _ (by omega) (by omega) (tf_mx_y (P := fun n => tf_ft g n n) (c4)) ls (lv_sub hl [2, 1, 0] rfl)
set_option maxHeartbeats 4000000 in
set_option maxRecDepth 100000 in
/-- evenly -/
theorem mX1_evenly (l : Launch) (D : va_G) (sz : Nat) (ad : Nat → Nat) (ds : Nat → ClassId) (k0 m0 : Nat → Int32) (g : Nat → Nat) (hg : tf_ok 20 g) (hc : tf_MS g (k0, m0)) : tf_Mi l D (wM ad ds) (tyM ds) sz (k0, m0) yX1_evenly cX1_evenly 3 (some .int) ({ frames := 2, cells := 0, slots := 0, locals := 48 }) [.ref (ad 0)] (fun z u => z = nI (tf_ev g) ∧ tf_MS g u) := by
  refine tf_go_i (by decide) (Nat.le_of_ble_eq_true rfl) ?_
  intro p e s m below meth c S hr hlocks A hA hP hK hD hS ls hl
  have S : CallFix p m c cX1_evenly 3 s _ lw_all RX1 := S
  obtain ⟨hx, hb, hml, hown, hts⟩ := id S
  have hl : lv_has ls 3 [(0, .ref (ad 0))] := hl
  refine lv_aload_n hx hb dX1_evenly_0 rfl (lv_at hl 0 rfl) ?_
  refine tf_callv (wf := wM ad ds) (u := (k0, m0)) (wr := []) (As := []) (rest := []) (ci := 1) (q0 := 0) S hP hK hD hS hA [0, 1, 2] [] [0, 1] rfl (by decide) rfl (by decide) (by decide) rfl (mX1_work l D _ ad ds k0 m0 g (tf_ok_mono hg (by decide)) hc) rfl rfl (cwV 0 hts (lw_V q168 q170 qs8 q13 q171) rfl rfl rfl (by decide +kernel) ⟨Nat.le_of_ble_eq_true rfl, Nat.le_of_ble_eq_true rfl⟩) rfl hl.1 rfl (Nat.le_of_ble_eq_true rfl) dX1_evenly_1 ⟨Nat.le_of_ble_eq_true rfl, Nat.le_of_ble_eq_true rfl⟩ (fun u' H locs hw hP hD hS => ?_)
  obtain ⟨m1, hu, hmk⟩ := hw
  subst hu
  have hP : va_P D vwCl (wM ad ds (k0, m1)) H := hP
  have hD : va_D A (wM ad ds (k0, m1)) := hD
  refine lv_iconst (v := nI 0) hx hb dX1_evenly_4 (by decide) ?_
  refine lv_istore_n (lv' := [(1, .int (nI 0)), (0, .ref (ad 0))]) hx hb dX1_evenly_5 rfl hl (by decide) rfl (fun ls hl => ?_)
  refine lv_iconst (v := nI 0) hx hb dX1_evenly_6 (by decide) ?_
  refine lv_istore_n (lv' := [(2, .int (nI 0)), (1, .int (nI 0)), (0, .ref (ad 0))]) hx hb dX1_evenly_7 rfl hl (by decide) rfl (fun ls hl => ?_)
  refine lX1_evenly l ad ds k0 m1 S hP hK (hD.weaken (fun _ _ _ _ => trivial)) g (tf_ok_mono hg (by decide)) hmk (fun y ls hy hl => ?_) 102 0 (nI 0) (by omega) (by omega) rfl ls (lv_sub hl [2, 1, 0] rfl)
  refine lv_iload_n hx hb dX1_evenly_35 rfl (lv_at hl 1 rfl) ?_
  exact tf_iret (wf := wM ad ds) (k0, m1) hx hb hr rfl hlocks hP hK hD hS (⟨hy.trans (tf_ev_end hg), hc⟩) dX1_evenly_36
set_option maxHeartbeats 4000000 in
set_option maxRecDepth 100000 in
/-- pairs: the inner loop -/
theorem lX1_pairs_y (l : Launch) {p : Program} {e : Env} {s : State} {m : MethodId} {args : Array Value} {below : List Frame} {meth : Method} {c : Code} {Q : State → Prop} {D : va_G} {H : Heap} {locs : List Loc} (ad : Nat → Nat) (ds : Nat → ClassId) (k0 m0 : Nat → Int32) (S : CallFix p m c cX1_pairs 4 s args lw_all RX1) (hP : va_P D vwCl (wM ad ds (k0, m0)) H) (hK : va_K D vwCl (tyM ds) s) (hD : va_D (fun _ => True) (wM ad ds (k0, m0))) (g : Nat → Nat) (hg : tf_ok 21 g) (hmk : tf_MK g (k0, m0)) (x : Nat) (hx1 : x ≤ 100) (t0 : Nat) (after : ∀ (t : Nat) (ls : Array Slot), t = t0 + tf_pc1 g x 101 → lv_has ls 4 [(0, .ref (ad 0)), (1, .int (nI t)), (2, .int (nI x))] → W p l e ({ frames := 2, cells := 0, slots := 0, locals := 48 }) s m args below meth c H locs 0 0 Q (F0 m 45 ls [])) : ∀ (n y t : Nat), y ≤ 101 → 102 ≤ y + n → t = t0 + tf_pc1 g x y → ∀ (ls : Array Slot), lv_has ls 4 [(0, .ref (ad 0)), (1, .int (nI t)), (2, .int (nI x)), (3, .int (nI y))] → W p l e ({ frames := 2, cells := 0, slots := 0, locals := 48 }) s m args below meth c H locs 0 0 Q (F0 m 16 ls []) := by
  obtain ⟨hx, hb, hml, hown, hts⟩ := id S
  intro n
  induction n with
  | zero => intro y t h1 h2; exact absurd h2 (by omega)
  | succ n ih =>
    intro y t hy hn hv ls hl
    refine lv_iload_n hx hb dX1_pairs_16 rfl (lv_at hl 3 rfl) ?_
    refine lv_bipush (v := nI 100) hx hb dX1_pairs_17 (by decide) ?_
    refine lv_icmp_gt (tgt := 45) hx hb dX1_pairs_19 (by decide) (fun c1 => ?_) (fun c1 => ?_)
    · rw [tf_ltN (by omega) (by omega)] at c1
      obtain rfl : y = 101 := by omega
      exact after t ls hv (lv_sub hl [0, 1, 2] rfl)
    · rw [tf_ltN (by omega) (by omega)] at c1
      refine lv_aload_n hx hb dX1_pairs_22 rfl (lv_at hl 0 rfl) ?_
      refine lv_iload_n hx hb dX1_pairs_23 rfl (lv_at hl 2 rfl) ?_
      refine lv_iload_n hx hb dX1_pairs_24 rfl (lv_at hl 3 rfl) ?_
      refine tf_callR (As := [.int (nI x), .int (nI y)]) (rest := []) (ci := 1) (q0 := 0) S hP hK hD (mX1_fits l D _ ad ds k0 m0 g hg hmk x y (by omega) (by omega)) rfl rfl (cwV 2 hts (lw_V q173 q175 qs9 q13 q176) rfl rfl rfl (by decide +kernel) ⟨Nat.le_of_ble_eq_true rfl, Nat.le_of_ble_eq_true rfl⟩) rfl hl.1 rfl (Nat.le_of_ble_eq_true rfl) dX1_pairs_25 ⟨Nat.le_of_ble_eq_true rfl, Nat.le_of_ble_eq_true rfl⟩ ?_
      refine lv_if_eq (tgt := 37) hx hb dX1_pairs_28 (by decide) (fun c3 => ?_) (fun c3 => ?_)
      · have c3 := tf_be c3
        refine lv_iload_n hx hb dX1_pairs_37 rfl (lv_at hl 1 rfl) ?_
        refine lv_istore_n (lv' := [(1, .int (nI t)), (0, .ref (ad 0)), (2, .int (nI x)), (3, .int (nI y))]) hx hb dX1_pairs_38 rfl hl (by decide) rfl (fun ls hl => ?_)
        refine lv_iinc (v := nI (y + 1)) (lv' := [(3, .int (nI (y + 1))), (1, .int (nI t)), (0, .ref (ad 0)), (2, .int (nI x))]) hx hb dX1_pairs_39 hl (k := 3) rfl (tf_inc1 _) (by decide) rfl (fun ls hl => ?_)
        refine lv_goto (tgt := 16) hx hb dX1_pairs_42 (by decide) ?_
        exact ih (y + 1) t (by omega) (by omega) (by rw [tf_pc1_s, if_neg (by rw [c3]; decide)]; exact hv) ls (lv_sub hl [2, 1, 3, 0] rfl)
      · have c3 := tf_bne c3
        refine lv_iload_n hx hb dX1_pairs_31 rfl (lv_at hl 1 rfl) ?_
        refine lv_iconst (v := nI 1) hx hb dX1_pairs_32 (by decide) ?_
        refine lv_iadd hx hb dX1_pairs_33 ?_
        refine tf_top (nI (t + 1)) (nI_add _ _) ?_
        refine lv_goto (tgt := 38) hx hb dX1_pairs_34 (by decide) ?_
        refine lv_istore_n (lv' := [(1, .int (nI (t + 1))), (0, .ref (ad 0)), (2, .int (nI x)), (3, .int (nI y))]) hx hb dX1_pairs_38 rfl hl (by decide) rfl (fun ls hl => ?_)
        refine lv_iinc (v := nI (y + 1)) (lv' := [(3, .int (nI (y + 1))), (1, .int (nI (t + 1))), (0, .ref (ad 0)), (2, .int (nI x))]) hx hb dX1_pairs_39 hl (k := 3) rfl (tf_inc1 _) (by decide) rfl (fun ls hl => ?_)
        refine lv_goto (tgt := 16) hx hb dX1_pairs_42 (by decide) ?_
        exact ih (y + 1) (t + 1) (by omega) (by omega) (by rw [tf_pc1_s, if_pos c3]; omega) ls (lv_sub hl [2, 1, 3, 0] rfl)
set_option maxHeartbeats 4000000 in
set_option maxRecDepth 100000 in
/-- pairs: the outer loop -/
theorem lX1_pairs_x (l : Launch) {p : Program} {e : Env} {s : State} {m : MethodId} {args : Array Value} {below : List Frame} {meth : Method} {c : Code} {Q : State → Prop} {D : va_G} {H : Heap} {locs : List Loc} (ad : Nat → Nat) (ds : Nat → ClassId) (k0 m0 : Nat → Int32) (S : CallFix p m c cX1_pairs 4 s args lw_all RX1) (hP : va_P D vwCl (wM ad ds (k0, m0)) H) (hK : va_K D vwCl (tyM ds) s) (hD : va_D (fun _ => True) (wM ad ds (k0, m0))) (g : Nat → Nat) (hg : tf_ok 21 g) (hmk : tf_MK g (k0, m0)) (after : ∀ (t : Nat) (ls : Array Slot), t = tf_pc2 g 101 → lv_has ls 4 [(0, .ref (ad 0)), (1, .int (nI t))] → W p l e ({ frames := 2, cells := 0, slots := 0, locals := 48 }) s m args below meth c H locs 0 0 Q (F0 m 51 ls [])) : ∀ (n x t : Nat), x ≤ 101 → 102 ≤ x + n → t = tf_pc2 g x → ∀ (ls : Array Slot), lv_has ls 4 [(0, .ref (ad 0)), (1, .int (nI t)), (2, .int (nI x))] → W p l e ({ frames := 2, cells := 0, slots := 0, locals := 48 }) s m args below meth c H locs 0 0 Q (F0 m 8 ls []) := by
  obtain ⟨hx, hb, hml, hown, hts⟩ := id S
  intro n
  induction n with
  | zero => intro x t h1 h2; exact absurd h2 (by omega)
  | succ n ih =>
    intro x t hx1 hn hv ls hl
    refine lv_iload_n hx hb dX1_pairs_8 rfl (lv_at hl 2 rfl) ?_
    refine lv_bipush (v := nI 100) hx hb dX1_pairs_9 (by decide) ?_
    refine lv_icmp_gt (tgt := 51) hx hb dX1_pairs_11 (by decide) (fun c1 => ?_) (fun c1 => ?_)
    · rw [tf_ltN (by omega) (by omega)] at c1
      obtain rfl : x = 101 := by omega
      exact after t ls hv (lv_sub hl [0, 1] rfl)
    · rw [tf_ltN (by omega) (by omega)] at c1
      refine lv_iconst (v := nI 0) hx hb dX1_pairs_14 (by decide) ?_
      refine lv_istore_n (lv' := [(3, .int (nI 0)), (0, .ref (ad 0)), (1, .int (nI t)), (2, .int (nI x))]) hx hb dX1_pairs_15 rfl hl (by decide) rfl (fun ls hl => ?_)
      refine lX1_pairs_y l ad ds k0 m0 S hP hK hD g hg hmk x (by omega) t (fun t2 ls hv2 hl => ?_) 102 0 t (by omega) (by omega) rfl ls (lv_sub hl [1, 2, 3, 0] rfl)
      refine lv_iinc (v := nI (x + 1)) (lv' := [(2, .int (nI (x + 1))), (0, .ref (ad 0)), (1, .int (nI t2))]) hx hb dX1_pairs_45 hl (k := 2) rfl (tf_inc1 _) (by decide) rfl (fun ls hl => ?_)
      refine lv_goto (tgt := 8) hx hb dX1_pairs_48 (by decide) ?_
      exact ih (x + 1) t2 (by omega) (by omega) (by rw [hv2, hv, tf_pc2_s]) ls (lv_sub hl [1, 2, 0] rfl)
set_option maxHeartbeats 4000000 in
set_option maxRecDepth 100000 in
/-- pairs -/
theorem mX1_pairs (l : Launch) (D : va_G) (sz : Nat) (ad : Nat → Nat) (ds : Nat → ClassId) (k0 m0 : Nat → Int32) (g : Nat → Nat) (hg : tf_ok 20 g) (hc : tf_MS g (k0, m0)) : tf_Mi l D (wM ad ds) (tyM ds) sz (k0, m0) yX1_pairs cX1_pairs 4 (some .int) ({ frames := 2, cells := 0, slots := 0, locals := 48 }) [.ref (ad 0)] (fun z u => z = nI (tf_ps g (tf_F1 g + 1)) ∧ tf_MS g u) := by
  refine tf_go_i (by decide) (Nat.le_of_ble_eq_true rfl) ?_
  intro p e s m below meth c S hr hlocks A hA hP hK hD hS ls hl
  have S : CallFix p m c cX1_pairs 4 s _ lw_all RX1 := S
  obtain ⟨hx, hb, hml, hown, hts⟩ := id S
  have hl : lv_has ls 4 [(0, .ref (ad 0))] := hl
  refine lv_aload_n hx hb dX1_pairs_0 rfl (lv_at hl 0 rfl) ?_
  refine tf_callv (wf := wM ad ds) (u := (k0, m0)) (wr := []) (As := []) (rest := []) (ci := 1) (q0 := 0) S hP hK hD hS hA [0, 1, 2] [] [0, 1] rfl (by decide) rfl (by decide) (by decide) rfl (mX1_work l D _ ad ds k0 m0 g (tf_ok_mono hg (by decide)) hc) rfl rfl (cwV 0 hts (lw_V q168 q170 qs8 q13 q171) rfl rfl rfl (by decide +kernel) ⟨Nat.le_of_ble_eq_true rfl, Nat.le_of_ble_eq_true rfl⟩) rfl hl.1 rfl (Nat.le_of_ble_eq_true rfl) dX1_pairs_1 ⟨Nat.le_of_ble_eq_true rfl, Nat.le_of_ble_eq_true rfl⟩ (fun u' H locs hw hP hD hS => ?_)
  obtain ⟨m1, hu, hmk⟩ := hw
  subst hu
  have hP : va_P D vwCl (wM ad ds (k0, m1)) H := hP
  have hD : va_D A (wM ad ds (k0, m1)) := hD
  refine lv_iconst (v := nI 0) hx hb dX1_pairs_4 (by decide) ?_
  refine lv_istore_n (lv' := [(1, .int (nI 0)), (0, .ref (ad 0))]) hx hb dX1_pairs_5 rfl hl (by decide) rfl (fun ls hl => ?_)
  refine lv_iconst (v := nI 0) hx hb dX1_pairs_6 (by decide) ?_
  refine lv_istore_n (lv' := [(2, .int (nI 0)), (1, .int (nI 0)), (0, .ref (ad 0))]) hx hb dX1_pairs_7 rfl hl (by decide) rfl (fun ls hl => ?_)
  refine lX1_pairs_x l ad ds k0 m1 S hP hK (hD.weaken (fun _ _ _ _ => trivial)) g (tf_ok_mono hg (by decide)) hmk (fun t ls hv hl => ?_) 102 0 0 (by omega) (by omega) rfl ls (lv_sub hl [2, 1, 0] rfl)
  refine lv_iload_n hx hb dX1_pairs_51 rfl (lv_at hl 1 rfl) ?_
  exact tf_iret (wf := wM ad ds) (k0, m1) hx hb hr rfl hlocks hP hK hD hS (⟨congrArg nI (hv.trans (tf_pc2_end hg)), hc⟩) dX1_pairs_52
set_option maxHeartbeats 4000000 in
set_option maxRecDepth 100000 in
/-- mostWith -/
theorem mX1_mostWith (l : Launch) (D : va_G) (sz : Nat) (ad : Nat → Nat) (ds : Nat → ClassId) (k0 m0 : Nat → Int32) (g : Nat → Nat) (hg : tf_ok 21 g) (hc : tf_MS g (k0, m0)) (i j v : Nat) (hi : i < 6) (hj : j < 6) (hv : v ≤ 21) : tf_Mi l D (wM ad ds) (tyM ds) sz (k0, m0) yX1_mostWith cX1_mostWith 6 (some .int) ({ frames := 3, cells := 0, slots := 0, locals := 71 }) [.ref (ad 0), .int (nI i), .int (nI j), .int (nI v)] (fun z u => z = nI (tf_mo (tf_up g i j v)) ∧ tf_MS g u) := by
  refine tf_go_i (by decide) (Nat.le_of_ble_eq_true rfl) ?_
  intro p e s m below meth c S hr hlocks A hA hP hK hD hS ls hl
  have S : CallFix p m c cX1_mostWith 6 s _ lw_all RX1 := S
  obtain ⟨hx, hb, hml, hown, hts⟩ := id S
  have hl : lv_has ls 6 [(0, .ref (ad 0)), (1, .int (nI i)), (2, .int (nI j)), (3, .int (nI v))] := hl
  have hgb := hg.2 (6 * i + j) (by omega)
  have hg2 := tf_ok_up hg hi hj hv
  refine lv_aload_n hx hb dX1_mostWith_0 rfl (lv_at hl 0 rfl) ?_
  refine va_get (D := D) (ci := 1) (v := .ref (ad 1)) (C := RX1) (T := TX1) (N := 2) hx hb hts in_X1 hown hK hP 0 rfl rfl 0 (by decide) (hts _ q137) (fun _ h9 => h9) rfl dX1_mostWith_1 ?_
  refine lv_bipush (v := nI 6) hx hb dX1_mostWith_4 (by decide) ?_
  refine lv_iload_n hx hb dX1_mostWith_6 rfl (lv_at hl 1 rfl) ?_
  refine lv_imul hx hb dX1_mostWith_7 ?_
  refine lv_iload_n hx hb dX1_mostWith_8 rfl (lv_at hl 2 rfl) ?_
  refine lv_iadd hx hb dX1_mostWith_9 ?_
  refine tf_top (nI (6 * i + j)) (tf_ix2 _ _) ?_
  refine tf_iald (v := nI (g (6 * i + j))) hx hb hK hP 1 0 rfl rfl (k := 6 * i + j) (by omega) (by decide) (hc _ (by omega)) dX1_mostWith_10 ?_
  refine lv_istore (lv' := [(4, .int (nI (g (6 * i + j)))), (0, .ref (ad 0)), (1, .int (nI i)), (2, .int (nI j)), (3, .int (nI v))]) hx hb dX1_mostWith_11 hl (by decide) rfl (fun ls hl => ?_)
  refine lv_aload_n hx hb dX1_mostWith_13 rfl (lv_at hl 1 rfl) ?_
  refine lv_iload_n hx hb dX1_mostWith_14 rfl (lv_at hl 2 rfl) ?_
  refine lv_iload_n hx hb dX1_mostWith_15 rfl (lv_at hl 3 rfl) ?_
  refine lv_iload_n hx hb dX1_mostWith_16 rfl (lv_at hl 4 rfl) ?_
  refine tf_callv (wf := wM ad ds) (u := (k0, m0)) (wr := []) (As := [.int (nI i), .int (nI j), .int (nI v)]) (rest := []) (ci := 1) (q0 := 0) S hP hK hD hS hA [0, 1, 2] [] [0, 1] rfl (by decide) rfl (by decide) (by decide) rfl (mX1_put l D _ ad ds k0 m0 i j v hi hj) rfl rfl (cwV 3 hts (lw_V q152 q154 qs7 q13 q155) rfl rfl rfl (by decide +kernel) ⟨Nat.le_of_ble_eq_true rfl, Nat.le_of_ble_eq_true rfl⟩) rfl hl.1 rfl (Nat.le_of_ble_eq_true rfl) dX1_mostWith_17 ⟨Nat.le_of_ble_eq_true rfl, Nat.le_of_ble_eq_true rfl⟩ (fun u' H locs hw hP hD hS => ?_)
  subst hw
  have hP : va_P D vwCl (wM ad ds (upd (upd k0 (6 * i + j) (nI v)) (6 * j + i) (nI v), m0)) H := hP
  have hD : va_D A (wM ad ds (upd (upd k0 (6 * i + j) (nI v)) (6 * j + i) (nI v), m0)) := hD
  refine lv_aload_n hx hb dX1_mostWith_20 rfl (lv_at hl 1 rfl) ?_
  refine tf_calli (wf := wM ad ds) (u := (upd (upd k0 (6 * i + j) (nI v)) (6 * j + i) (nI v), m0)) (wr := []) (As := []) (rest := []) (ci := 1) (q0 := 0) S hP hK hD hS hA [0, 1, 2] [] [0, 1] rfl (by decide) rfl (by decide) (by decide) rfl (mX1_most l D _ ad ds (upd (upd k0 (6 * i + j) (nI v)) (6 * j + i) (nI v)) m0 (tf_up g i j v) hg2 (tf_Rr_up hc i j v)) rfl rfl (cwV 0 hts (lw_V q205 q182 q183 q13 q184) rfl rfl rfl (by decide +kernel) ⟨Nat.le_of_ble_eq_true rfl, Nat.le_of_ble_eq_true rfl⟩) rfl hl.1 rfl (Nat.le_of_ble_eq_true rfl) dX1_mostWith_21 ⟨Nat.le_of_ble_eq_true rfl, Nat.le_of_ble_eq_true rfl⟩ (fun r_1 u' H locs hw hP hD hS => ?_)
  obtain ⟨hz, m1, hu⟩ := hw
  subst hz
  subst hu
  have hP : va_P D vwCl (wM ad ds (upd (upd k0 (6 * i + j) (nI v)) (6 * j + i) (nI v), m1)) H := hP
  have hD : va_D A (wM ad ds (upd (upd k0 (6 * i + j) (nI v)) (6 * j + i) (nI v), m1)) := hD
  refine lv_istore (lv' := [(5, .int (nI (tf_mo (tf_up g i j v)))), (4, .int (nI (g (6 * i + j)))), (0, .ref (ad 0)), (1, .int (nI i)), (2, .int (nI j)), (3, .int (nI v))]) hx hb dX1_mostWith_24 hl (by decide) rfl (fun ls hl => ?_)
  refine lv_aload_n hx hb dX1_mostWith_26 rfl (lv_at hl 2 rfl) ?_
  refine lv_iload_n hx hb dX1_mostWith_27 rfl (lv_at hl 3 rfl) ?_
  refine lv_iload_n hx hb dX1_mostWith_28 rfl (lv_at hl 4 rfl) ?_
  refine lv_iload hx hb dX1_mostWith_29 (lv_at hl 1 rfl) ?_
  refine tf_callv (wf := wM ad ds) (u := (upd (upd k0 (6 * i + j) (nI v)) (6 * j + i) (nI v), m1)) (wr := []) (As := [.int (nI i), .int (nI j), .int (nI (g (6 * i + j)))]) (rest := []) (ci := 1) (q0 := 0) S hP hK hD hS hA [0, 1, 2] [] [0, 1] rfl (by decide) rfl (by decide) (by decide) rfl (mX1_put l D _ ad ds (upd (upd k0 (6 * i + j) (nI v)) (6 * j + i) (nI v)) m1 i j (g (6 * i + j)) hi hj) rfl rfl (cwV 3 hts (lw_V q152 q154 qs7 q13 q155) rfl rfl rfl (by decide +kernel) ⟨Nat.le_of_ble_eq_true rfl, Nat.le_of_ble_eq_true rfl⟩) rfl hl.1 rfl (Nat.le_of_ble_eq_true rfl) dX1_mostWith_31 ⟨Nat.le_of_ble_eq_true rfl, Nat.le_of_ble_eq_true rfl⟩ (fun u' H locs hw hP hD hS => ?_)
  subst hw
  have hP : va_P D vwCl (wM ad ds (upd (upd (upd (upd k0 (6 * i + j) (nI v)) (6 * j + i) (nI v)) (6 * i + j) (nI (g (6 * i + j)))) (6 * j + i) (nI (g (6 * i + j))), m1)) H := hP
  have hD : va_D A (wM ad ds (upd (upd (upd (upd k0 (6 * i + j) (nI v)) (6 * j + i) (nI v)) (6 * i + j) (nI (g (6 * i + j)))) (6 * j + i) (nI (g (6 * i + j))), m1)) := hD
  refine lv_iload hx hb dX1_mostWith_34 (lv_at hl 0 rfl) ?_
  exact tf_iret (wf := wM ad ds) (upd (upd (upd (upd k0 (6 * i + j) (nI v)) (6 * j + i) (nI v)) (6 * i + j) (nI (g (6 * i + j)))) (6 * j + i) (nI (g (6 * i + j))), m1) hx hb hr rfl hlocks hP hK hD hS (⟨rfl, by have h := tf_Rr_up (tf_Rr_up hc i j v) i j (g (6 * i + j)); rw [tf_up_back hg hi hj] at h; exact h⟩) dX1_mostWith_36
set_option maxHeartbeats 4000000 in
set_option maxRecDepth 100000 in
/-- worth -/
theorem mX1_worth (l : Launch) (D : va_G) (sz : Nat) (ad : Nat → Nat) (ds : Nat → ClassId) (k0 m0 : Nat → Int32) (g : Nat → Nat) (hg : tf_ok 20 g) (hc : tf_MS g (k0, m0)) (a b : Int32) : tf_Mi l D (wM ad ds) (tyM ds) sz (k0, m0) yX1_worth cX1_worth 3 (some .int) ({ frames := 4, cells := 0, slots := 0, locals := 96 }) [.ref (ad 0), .int a, .int b] (fun z u => z = tf_wo g a b ∧ tf_MS g u) := by
  refine tf_go_i (by decide) (Nat.le_of_ble_eq_true rfl) ?_
  intro p e s m below meth c S hr hlocks A hA hP hK hD hS ls hl
  have S : CallFix p m c cX1_worth 3 s _ lw_all RX1 := S
  obtain ⟨hx, hb, hml, hown, hts⟩ := id S
  have hl : lv_has ls 3 [(0, .ref (ad 0)), (1, .int a), (2, .int b)] := hl
  refine lv_aload_n hx hb dX1_worth_0 rfl (lv_at hl 0 rfl) ?_
  refine lv_iload_n hx hb dX1_worth_1 rfl (lv_at hl 1 rfl) ?_
  refine lv_iload_n hx hb dX1_worth_2 rfl (lv_at hl 2 rfl) ?_
  refine tf_callR (As := [.int a, .int b]) (rest := []) (ci := 1) (q0 := 0) S hP hK (hD.weaken (fun _ _ _ _ => trivial)) (mX1_pair l D _ ad ds k0 m0 a b) rfl rfl (cwV 2 hts (lw_V q148 q150 qs6 q13 q151) rfl rfl rfl (by decide +kernel) ⟨Nat.le_of_ble_eq_true rfl, Nat.le_of_ble_eq_true rfl⟩) rfl hl.1 rfl (Nat.le_of_ble_eq_true rfl) dX1_worth_3 ⟨Nat.le_of_ble_eq_true rfl, Nat.le_of_ble_eq_true rfl⟩ ?_
  refine lv_if_eq (tgt := 36) hx hb dX1_worth_6 (by decide) (fun c1 => ?_) (fun c1 => ?_)
  · have c1 := tf_be c1
    refine lv_iconst (v := (-1)) hx hb dX1_worth_36 (by decide) ?_
    exact tf_iret (wf := wM ad ds) (k0, m0) hx hb hr rfl hlocks hP hK hD hS (⟨by unfold tf_wo; rw [if_neg (by rw [c1]; decide)], hc⟩) dX1_worth_37
  · have c1 := tf_bne c1
    obtain ⟨i, j, hi, hj, hij, rfl, rfl⟩ := tf_pr_of c1
    have hgb := hg.2 (6 * i + j) (by omega)
    refine lv_aload_n hx hb dX1_worth_9 rfl (lv_at hl 0 rfl) ?_
    refine lv_iload_n hx hb dX1_worth_10 rfl (lv_at hl 1 rfl) ?_
    refine lv_iload_n hx hb dX1_worth_11 rfl (lv_at hl 2 rfl) ?_
    refine lv_aload_n hx hb dX1_worth_12 rfl (lv_at hl 0 rfl) ?_
    refine va_get (D := D) (ci := 1) (v := .ref (ad 1)) (C := RX1) (T := TX1) (N := 2) hx hb hts in_X1 hown hK hP 0 rfl rfl 0 (by decide) (hts _ q137) (fun _ h9 => h9) rfl dX1_worth_13 ?_
    refine lv_bipush (v := nI 6) hx hb dX1_worth_16 (by decide) ?_
    refine lv_iload_n hx hb dX1_worth_18 rfl (lv_at hl 1 rfl) ?_
    refine lv_imul hx hb dX1_worth_19 ?_
    refine lv_iload_n hx hb dX1_worth_20 rfl (lv_at hl 2 rfl) ?_
    refine lv_iadd hx hb dX1_worth_21 ?_
    refine tf_top (nI (6 * i + j)) (tf_ix2 _ _) ?_
    refine tf_iald (v := nI (g (6 * i + j))) hx hb hK hP 1 0 rfl rfl (k := 6 * i + j) (by omega) (by decide) (hc _ (by omega)) dX1_worth_22 ?_
    refine lv_iconst (v := nI 1) hx hb dX1_worth_23 (by decide) ?_
    refine lv_iadd hx hb dX1_worth_24 ?_
    refine tf_top (nI ((g (6 * i + j)) + 1)) (nI_add _ _) ?_
    refine tf_calli (wf := wM ad ds) (u := (k0, m0)) (wr := []) (As := [.int (nI i), .int (nI j), .int (nI ((g (6 * i + j)) + 1))]) (rest := []) (ci := 1) (q0 := 0) S hP hK hD hS hA [0, 1, 2] [] [0, 1] rfl (by decide) rfl (by decide) (by decide) rfl (mX1_mostWith l D _ ad ds k0 m0 g (tf_ok_mono hg (by decide)) hc i j (g (6 * i + j) + 1) hi hj (by omega)) rfl rfl (cwV 3 hts (lw_V q201 q203 qs10 q13 q204) rfl rfl rfl (by decide +kernel) ⟨Nat.le_of_ble_eq_true rfl, Nat.le_of_ble_eq_true rfl⟩) rfl hl.1 rfl (Nat.le_of_ble_eq_true rfl) dX1_worth_25 ⟨Nat.le_of_ble_eq_true rfl, Nat.le_of_ble_eq_true rfl⟩ (fun r_1 u' H locs hw hP hD hS => ?_)
    obtain ⟨hz, hc⟩ := hw
    subst hz
    obtain ⟨k2, m2⟩ := u'
    have hP : va_P D vwCl (wM ad ds (k2, m2)) H := hP
    have hD : va_D A (wM ad ds (k2, m2)) := hD
    refine lv_aload_n hx hb dX1_worth_28 rfl (lv_at hl 0 rfl) ?_
    refine tf_calli (wf := wM ad ds) (u := (k2, m2)) (wr := []) (As := []) (rest := [.int (nI (tf_mo (tf_up g i j (g (6 * i + j) + 1))))]) (ci := 1) (q0 := 0) S hP hK hD hS hA [0, 1, 2] [] [0, 1] rfl (by decide) rfl (by decide) (by decide) rfl (mX1_most l D _ ad ds k2 m2 g (tf_ok_mono hg (by decide)) hc) rfl rfl (cwV 0 hts (lw_V q205 q182 q183 q13 q184) rfl rfl rfl (by decide +kernel) ⟨Nat.le_of_ble_eq_true rfl, Nat.le_of_ble_eq_true rfl⟩) rfl hl.1 rfl (Nat.le_of_ble_eq_true rfl) dX1_worth_29 ⟨Nat.le_of_ble_eq_true rfl, Nat.le_of_ble_eq_true rfl⟩ (fun r_2 u' H locs hw hP hD hS => ?_)
    obtain ⟨hz, m3, hu⟩ := hw
    subst hz
    subst hu
    have hP : va_P D vwCl (wM ad ds (k2, m3)) H := hP
    have hD : va_D A (wM ad ds (k2, m3)) := hD
    refine lv_isub hx hb dX1_worth_32 ?_
    refine lv_goto (tgt := 37) hx hb dX1_worth_33 (by decide) ?_
    exact tf_iret (wf := wM ad ds) (k2, m3) hx hb hr rfl hlocks hP hK hD hS (⟨by unfold tf_wo; rw [if_pos c1, nI_clamp (by omega), nI_clamp (by omega)], hc⟩) dX1_worth_37
set_option maxHeartbeats 4000000 in
set_option maxRecDepth 100000 in
/-- loss -/
theorem mX1_loss (l : Launch) (D : va_G) (sz : Nat) (ad : Nat → Nat) (ds : Nat → ClassId) (k0 m0 : Nat → Int32) (g : Nat → Nat) (hg : tf_ok 20 g) (hc : tf_MS g (k0, m0)) (a b : Int32) : tf_Mi l D (wM ad ds) (tyM ds) sz (k0, m0) yX1_loss cX1_loss 3 (some .int) ({ frames := 4, cells := 0, slots := 0, locals := 96 }) [.ref (ad 0), .int a, .int b] (fun z u => z = tf_lo g a b ∧ tf_MS g u) := by
  refine tf_go_i (by decide) (Nat.le_of_ble_eq_true rfl) ?_
  intro p e s m below meth c S hr hlocks A hA hP hK hD hS ls hl
  have S : CallFix p m c cX1_loss 3 s _ lw_all RX1 := S
  obtain ⟨hx, hb, hml, hown, hts⟩ := id S
  have hl : lv_has ls 3 [(0, .ref (ad 0)), (1, .int a), (2, .int b)] := hl
  refine lv_aload_n hx hb dX1_loss_0 rfl (lv_at hl 0 rfl) ?_
  refine lv_iload_n hx hb dX1_loss_1 rfl (lv_at hl 1 rfl) ?_
  refine lv_iload_n hx hb dX1_loss_2 rfl (lv_at hl 2 rfl) ?_
  refine tf_callR (As := [.int a, .int b]) (rest := []) (ci := 1) (q0 := 0) S hP hK (hD.weaken (fun _ _ _ _ => trivial)) (mX1_pair l D _ ad ds k0 m0 a b) rfl rfl (cwV 2 hts (lw_V q148 q150 qs6 q13 q151) rfl rfl rfl (by decide +kernel) ⟨Nat.le_of_ble_eq_true rfl, Nat.le_of_ble_eq_true rfl⟩) rfl hl.1 rfl (Nat.le_of_ble_eq_true rfl) dX1_loss_3 ⟨Nat.le_of_ble_eq_true rfl, Nat.le_of_ble_eq_true rfl⟩ ?_
  refine lv_if_eq (tgt := 24) hx hb dX1_loss_6 (by decide) (fun c1 => ?_) (fun c1 => ?_)
  · have c1 := tf_be c1
    refine lv_iconst (v := (-1)) hx hb dX1_loss_24 (by decide) ?_
    exact tf_iret (wf := wM ad ds) (k0, m0) hx hb hr rfl hlocks hP hK hD hS (⟨by unfold tf_lo; rw [if_neg (by rw [c1]; decide)], hc⟩) dX1_loss_25
  · have c1 := tf_bne c1
    obtain ⟨i, j, hi, hj, hij, rfl, rfl⟩ := tf_pr_of c1
    refine lv_aload_n hx hb dX1_loss_9 rfl (lv_at hl 0 rfl) ?_
    refine tf_calli (wf := wM ad ds) (u := (k0, m0)) (wr := []) (As := []) (rest := []) (ci := 1) (q0 := 0) S hP hK hD hS hA [0, 1, 2] [] [0, 1] rfl (by decide) rfl (by decide) (by decide) rfl (mX1_most l D _ ad ds k0 m0 g (tf_ok_mono hg (by decide)) hc) rfl rfl (cwV 0 hts (lw_V q205 q182 q183 q13 q184) rfl rfl rfl (by decide +kernel) ⟨Nat.le_of_ble_eq_true rfl, Nat.le_of_ble_eq_true rfl⟩) rfl hl.1 rfl (Nat.le_of_ble_eq_true rfl) dX1_loss_10 ⟨Nat.le_of_ble_eq_true rfl, Nat.le_of_ble_eq_true rfl⟩ (fun r_1 u' H locs hw hP hD hS => ?_)
    obtain ⟨hz, m3, hu⟩ := hw
    subst hz
    subst hu
    have hP : va_P D vwCl (wM ad ds (k0, m3)) H := hP
    have hD : va_D A (wM ad ds (k0, m3)) := hD
    refine lv_aload_n hx hb dX1_loss_13 rfl (lv_at hl 0 rfl) ?_
    refine lv_iload_n hx hb dX1_loss_14 rfl (lv_at hl 1 rfl) ?_
    refine lv_iload_n hx hb dX1_loss_15 rfl (lv_at hl 2 rfl) ?_
    refine lv_iconst (v := nI 0) hx hb dX1_loss_16 (by decide) ?_
    refine tf_calli (wf := wM ad ds) (u := (k0, m3)) (wr := []) (As := [.int (nI i), .int (nI j), .int (nI 0)]) (rest := [.int (nI (tf_mo g))]) (ci := 1) (q0 := 0) S hP hK hD hS hA [0, 1, 2] [] [0, 1] rfl (by decide) rfl (by decide) (by decide) rfl (mX1_mostWith l D _ ad ds k0 m3 g (tf_ok_mono hg (by decide)) hc i j 0 hi hj (by omega)) rfl rfl (cwV 3 hts (lw_V q201 q203 qs10 q13 q204) rfl rfl rfl (by decide +kernel) ⟨Nat.le_of_ble_eq_true rfl, Nat.le_of_ble_eq_true rfl⟩) rfl hl.1 rfl (Nat.le_of_ble_eq_true rfl) dX1_loss_17 ⟨Nat.le_of_ble_eq_true rfl, Nat.le_of_ble_eq_true rfl⟩ (fun r_2 u' H locs hw hP hD hS => ?_)
    obtain ⟨hz, hc⟩ := hw
    subst hz
    obtain ⟨k2, m2⟩ := u'
    have hP : va_P D vwCl (wM ad ds (k2, m2)) H := hP
    have hD : va_D A (wM ad ds (k2, m2)) := hD
    refine lv_isub hx hb dX1_loss_20 ?_
    refine lv_goto (tgt := 25) hx hb dX1_loss_21 (by decide) ?_
    exact tf_iret (wf := wM ad ds) (k2, m2) hx hb hr rfl hlocks hP hK hD hS (⟨by unfold tf_lo; rw [if_pos c1, nI_clamp (by omega), nI_clamp (by omega)], hc⟩) dX1_loss_25
set_option maxHeartbeats 4000000 in
set_option maxRecDepth 100000 in
/-- full -/
theorem mX1_full (l : Launch) (D : va_G) (sz : Nat) (ad : Nat → Nat) (ds : Nat → ClassId) (k0 m0 : Nat → Int32) (g : Nat → Nat) (hg : tf_ok 21 g) (hc : tf_MS g (k0, m0)) (x y : Int32) : tf_Mi l D (wM ad ds) (tyM ds) sz (k0, m0) yX1_full cX1_full 3 (some .boolean) ({ frames := 3, cells := 0, slots := 0, locals := 70 }) [.ref (ad 0), .int x, .int y] (fun z u => z = tf_b (tf_fu g x y) ∧ tf_MS g u) := by
  refine tf_go_i (by decide) (Nat.le_of_ble_eq_true rfl) ?_
  intro p e s m below meth c S hr hlocks A hA hP hK hD hS ls hl
  have S : CallFix p m c cX1_full 3 s _ lw_all RX1 := S
  obtain ⟨hx, hb, hml, hown, hts⟩ := id S
  have hl : lv_has ls 3 [(0, .ref (ad 0)), (1, .int x), (2, .int y)] := hl
  refine lv_aload_n hx hb dX1_full_0 rfl (lv_at hl 0 rfl) ?_
  refine lv_iload_n hx hb dX1_full_1 rfl (lv_at hl 1 rfl) ?_
  refine lv_iload_n hx hb dX1_full_2 rfl (lv_at hl 2 rfl) ?_
  refine tf_calli (wf := wM ad ds) (u := (k0, m0)) (wr := []) (As := [.int x, .int y]) (rest := []) (ci := 1) (q0 := 0) S hP hK hD hS hA [0, 1, 2] [] [0, 1] rfl (by decide) rfl (by decide) (by decide) rfl (mX1_carries l D _ ad ds k0 m0 g hg hc x y) rfl rfl (cwV 2 hts (lw_V q214 q165 q166 q13 q167) rfl rfl rfl (by decide +kernel) ⟨Nat.le_of_ble_eq_true rfl, Nat.le_of_ble_eq_true rfl⟩) rfl hl.1 rfl (Nat.le_of_ble_eq_true rfl) dX1_full_3 ⟨Nat.le_of_ble_eq_true rfl, Nat.le_of_ble_eq_true rfl⟩ (fun r_1 u' H locs hw hP hD hS => ?_)
  obtain ⟨hz, hc⟩ := hw
  subst hz
  obtain ⟨k1, m1⟩ := u'
  have hP : va_P D vwCl (wM ad ds (k1, m1)) H := hP
  have hD : va_D A (wM ad ds (k1, m1)) := hD
  refine lv_if_eq (tgt := 35) hx hb dX1_full_6 (by decide) (fun c1 => ?_) (fun c1 => ?_)
  · have c1 := tf_be c1
    refine lv_iconst (v := nI 0) hx hb dX1_full_35 (by decide) ?_
    exact tf_iret (wf := wM ad ds) (k1, m1) hx hb hr rfl hlocks hP hK hD hS (⟨tf_b0 (by unfold tf_fu; rw [c1]; rfl), hc⟩) dX1_full_36
  · have c1 := tf_bne c1
    refine lv_aload_n hx hb dX1_full_9 rfl (lv_at hl 0 rfl) ?_
    refine lv_iload_n hx hb dX1_full_10 rfl (lv_at hl 1 rfl) ?_
    refine lv_iconst (v := nI 1) hx hb dX1_full_11 (by decide) ?_
    refine lv_iadd hx hb dX1_full_12 ?_
    refine tf_top (x + 1) (rfl) ?_
    refine lv_iload_n hx hb dX1_full_13 rfl (lv_at hl 2 rfl) ?_
    refine tf_calli (wf := wM ad ds) (u := (k1, m1)) (wr := []) (As := [.int (x + 1), .int y]) (rest := []) (ci := 1) (q0 := 0) S hP hK hD hS hA [0, 1, 2] [] [0, 1] rfl (by decide) rfl (by decide) (by decide) rfl (mX1_carries l D _ ad ds k1 m1 g hg hc (x + 1) y) rfl rfl (cwV 2 hts (lw_V q214 q165 q166 q13 q167) rfl rfl rfl (by decide +kernel) ⟨Nat.le_of_ble_eq_true rfl, Nat.le_of_ble_eq_true rfl⟩) rfl hl.1 rfl (Nat.le_of_ble_eq_true rfl) dX1_full_14 ⟨Nat.le_of_ble_eq_true rfl, Nat.le_of_ble_eq_true rfl⟩ (fun r_2 u' H locs hw hP hD hS => ?_)
    obtain ⟨hz, hc⟩ := hw
    subst hz
    obtain ⟨k2, m2⟩ := u'
    have hP : va_P D vwCl (wM ad ds (k2, m2)) H := hP
    have hD : va_D A (wM ad ds (k2, m2)) := hD
    refine lv_if_ne (tgt := 35) hx hb dX1_full_17 (by decide) (fun c2 => ?_) (fun c2 => ?_)
    · have c2 := tf_bne c2
      refine lv_iconst (v := nI 0) hx hb dX1_full_35 (by decide) ?_
      exact tf_iret (wf := wM ad ds) (k2, m2) hx hb hr rfl hlocks hP hK hD hS (⟨tf_b0 (by unfold tf_fu; rw [c1, c2]; rfl), hc⟩) dX1_full_36
    · have c2 := tf_be c2
      refine lv_aload_n hx hb dX1_full_20 rfl (lv_at hl 0 rfl) ?_
      refine lv_iload_n hx hb dX1_full_21 rfl (lv_at hl 1 rfl) ?_
      refine lv_iload_n hx hb dX1_full_22 rfl (lv_at hl 2 rfl) ?_
      refine lv_iconst (v := nI 1) hx hb dX1_full_23 (by decide) ?_
      refine lv_iadd hx hb dX1_full_24 ?_
      refine tf_top (y + 1) (rfl) ?_
      refine tf_calli (wf := wM ad ds) (u := (k2, m2)) (wr := []) (As := [.int x, .int (y + 1)]) (rest := []) (ci := 1) (q0 := 0) S hP hK hD hS hA [0, 1, 2] [] [0, 1] rfl (by decide) rfl (by decide) (by decide) rfl (mX1_carries l D _ ad ds k2 m2 g hg hc x (y + 1)) rfl rfl (cwV 2 hts (lw_V q214 q165 q166 q13 q167) rfl rfl rfl (by decide +kernel) ⟨Nat.le_of_ble_eq_true rfl, Nat.le_of_ble_eq_true rfl⟩) rfl hl.1 rfl (Nat.le_of_ble_eq_true rfl) dX1_full_25 ⟨Nat.le_of_ble_eq_true rfl, Nat.le_of_ble_eq_true rfl⟩ (fun r_3 u' H locs hw hP hD hS => ?_)
      obtain ⟨hz, hc⟩ := hw
      subst hz
      obtain ⟨k3, m3⟩ := u'
      have hP : va_P D vwCl (wM ad ds (k3, m3)) H := hP
      have hD : va_D A (wM ad ds (k3, m3)) := hD
      refine lv_if_ne (tgt := 35) hx hb dX1_full_28 (by decide) (fun c3 => ?_) (fun c3 => ?_)
      · have c3 := tf_bne c3
        refine lv_iconst (v := nI 0) hx hb dX1_full_35 (by decide) ?_
        exact tf_iret (wf := wM ad ds) (k3, m3) hx hb hr rfl hlocks hP hK hD hS (⟨tf_b0 (by unfold tf_fu; rw [c1, c2, c3]; rfl), hc⟩) dX1_full_36
      · have c3 := tf_be c3
        refine lv_iconst (v := nI 1) hx hb dX1_full_31 (by decide) ?_
        refine lv_goto (tgt := 36) hx hb dX1_full_32 (by decide) ?_
        exact tf_iret (wf := wM ad ds) (k3, m3) hx hb hr rfl hlocks hP hK hD hS (⟨tf_b1 (by unfold tf_fu; rw [c1, c2, c3]; rfl), hc⟩) dX1_full_36
end
section
/-- a TwoFlows just made -/
abbrev w0X0 (h : Nat) : va_W := [(h, .inr (0, [.null, .null, .null, .null, .int 0, .int 0, .int 0, .int 0]))]
abbrev u0X0 : tf_U := (fun _ => 0, fun _ => 0, fun _ => 0, fun _ => 0, 0, 0, 0, 0)
abbrev B0X0 (D : va_G) (h : Nat) (A : Nat → Prop) (z : (Nat → Nat) × (Nat → ClassId)) (t : State) : Prop := z.1 0 = h ∧ va_P D vwCl (wX z.1 z.2 u0X0) t.heap ∧ va_K D vwCl (tyX z.2) t ∧ va_D A (wX z.1 z.2 u0X0)
set_option maxHeartbeats 4000000 in
set_option maxRecDepth 100000 in
theorem mX0_init (l : Launch) (D : va_G) (sz h : Nat) : Met l yX0_init (ws_ yX0_init cX0_init 1 none) ({ frames := 1, cells := 4, slots := 86, locals := 12 }) (tf_pc D [.ref h] sz (w0X0 h) []) (va_Qv (fun _ => True) (B0X0 D h (va_A (w0X0 h) sz)) (va_A (w0X0 h) sz)) 4 86 (va_A (w0X0 h) sz) := by
  refine Met.ofW (cc := cX0_init) (maxL := 1) (ret := none) (by decide) rfl ?_
  intro p e s m args below meth c s₁ B hml hv
  obtain ⟨rfl, hsz, hP, hK, hD0⟩ := hv
  have hx := B.exec
  have hb := B.bytes
  have hr := B.returns
  have hts := atoms_spec (ws := ws_ yX0_init cX0_init 1 none) B.pre
  have hts : ∀ w ∈ lw_all, w.before _ s = true := fun w h => hts w (List.mem_cons_of_mem _ h)
  have hown : s.vm.findClass RX0 = some m.cls := findClass_of_methodNamed B.named
  have hlocks := B.notSynchronized
  have hin : meth.name = "<init>" := (name_of_methodNamed B.named B.method).1
  subst hsz
  have hD := hD0.self (sz := s.heap.size)
  generalize hAe : va_A (w0X0 h) s.heap.size = A at hD ⊢
  have hA : ∀ q : Nat, s.heap.size ≤ q → A q := fun q h => by rw [← hAe]; exact Or.inr h
  have hS : va_S A s.heap s.heap [] := va_S.rf
  have hl := lv_entry ([.ref h]) (n := 1) (Nat.le_of_ble_eq_true rfl)
  rw [lg_entry_eq]
  generalize (lg_sl ([.ref h]) ++ List.replicate (1 - (lg_sl ([.ref h])).length) Slot.unset).toArray = ls at hl ⊢
  have hl : lv_has ls 1 [(0, .ref h)] := hl
  refine lv_aload_n hx hb dX0_init_0 rfl (lv_at hl 0 rfl) ?_
  refine W.objInit hx hb hown (hts _ q19) (hts _ q20) (hts _ q21) rfl (by rw [hml]; exact hl.1) rfl dX0_init_1 (Nat.le_of_ble_eq_true rfl) (Nat.le_of_ble_eq_true rfl) ?_
  refine W.eq (g2 := F0 m 4 ls []) rfl ?_
  refine lv_aload_n hx hb dX0_init_4 rfl (lv_at hl 0 rfl) ?_
  refine lv_bipush (v := nI 36) hx hb dX0_init_5 (by decide) ?_
  refine va_newa (atype := .byte) (ty := .byte) (a0 := (36, .inl (fun _ => 0))) hx hb (hts _ q47) rfl hK hP hD hS hA (fun _ => rfl) (by decide) (N' := 36) (by decide) (by decide) (Nat.le_of_ble_eq_true rfl) (Nat.le_of_ble_eq_true rfl) dX0_init_7 (fun q1 d1 H hK hP hD hS => ?_)
  have hK : va_K D vwCl [(d1, .byte)] s := hK
  have hP : va_P D vwCl [(h, .inr (0, [.null, .null, .null, .null, .int 0, .int 0, .int 0, .int 0])), (q1, .inl (d1, 36, .inl (fun _ => 0)))] H := hP
  have hD : va_D A [(h, .inr (0, [.null, .null, .null, .null, .int 0, .int 0, .int 0, .int 0])), (q1, .inl (d1, 36, .inl (fun _ => 0)))] := hD
  refine W.widen (k := 1) (n := 36) (Nat.le_of_ble_eq_true rfl) (Nat.le_of_ble_eq_true rfl) ?_
  refine va_putF (D := D) (ci := 0) (v := .ref q1) (ty := .array .byte) (C := RX0) (T := TX0) (N := 8) hx hb hts in_X0 tyX0 tyX0_ok nmX0 hown hK hP hD hS 0 rfl rfl 0 (by decide) (hts _ q22) (fun _ h9 => h9) rfl hin rfl (by decide +kernel) rfl rfl (Nat.le_of_ble_eq_true rfl) dX0_init_9 (fun H locs hP hD hS => ?_)
  have hP : va_P D vwCl [(h, .inr (0, [.ref q1, .null, .null, .null, .int 0, .int 0, .int 0, .int 0])), (q1, .inl (d1, 36, .inl (fun _ => 0)))] H := hP
  have hD : va_D A [(h, .inr (0, [.ref q1, .null, .null, .null, .int 0, .int 0, .int 0, .int 0])), (q1, .inl (d1, 36, .inl (fun _ => 0)))] := hD
  refine lv_aload_n hx hb dX0_init_12 rfl (lv_at hl 0 rfl) ?_
  refine lv_bipush (v := nI 36) hx hb dX0_init_13 (by decide) ?_
  refine va_newa (atype := .int) (ty := .int) (a0 := (36, .inl (fun _ => 0))) hx hb (hts _ q48) rfl hK hP hD hS hA (fun _ => rfl) (by decide) (N' := 36) (by decide) (by decide) (Nat.le_of_ble_eq_true rfl) (Nat.le_of_ble_eq_true rfl) dX0_init_15 (fun q2 d2 H hK hP hD hS => ?_)
  have hK : va_K D vwCl [(d1, .byte), (d2, .int)] s := hK
  have hP : va_P D vwCl [(h, .inr (0, [.ref q1, .null, .null, .null, .int 0, .int 0, .int 0, .int 0])), (q1, .inl (d1, 36, .inl (fun _ => 0))), (q2, .inl (d2, 36, .inl (fun _ => 0)))] H := hP
  have hD : va_D A [(h, .inr (0, [.ref q1, .null, .null, .null, .int 0, .int 0, .int 0, .int 0])), (q1, .inl (d1, 36, .inl (fun _ => 0))), (q2, .inl (d2, 36, .inl (fun _ => 0)))] := hD
  refine W.widen (k := 2) (n := 72) (Nat.le_of_ble_eq_true rfl) (Nat.le_of_ble_eq_true rfl) ?_
  refine va_putF (D := D) (ci := 0) (v := .ref q2) (ty := .array .int) (C := RX0) (T := TX0) (N := 8) hx hb hts in_X0 tyX0 tyX0_ok nmX0 hown hK hP hD hS 0 rfl rfl 1 (by decide) (hts _ q23) (fun _ h9 => h9) rfl hin rfl (by decide +kernel) rfl rfl (Nat.le_of_ble_eq_true rfl) dX0_init_17 (fun H locs hP hD hS => ?_)
  have hP : va_P D vwCl [(h, .inr (0, [.ref q1, .ref q2, .null, .null, .int 0, .int 0, .int 0, .int 0])), (q1, .inl (d1, 36, .inl (fun _ => 0))), (q2, .inl (d2, 36, .inl (fun _ => 0)))] H := hP
  have hD : va_D A [(h, .inr (0, [.ref q1, .ref q2, .null, .null, .int 0, .int 0, .int 0, .int 0])), (q1, .inl (d1, 36, .inl (fun _ => 0))), (q2, .inl (d2, 36, .inl (fun _ => 0)))] := hD
  refine lv_aload_n hx hb dX0_init_20 rfl (lv_at hl 0 rfl) ?_
  refine lv_bipush (v := nI 6) hx hb dX0_init_21 (by decide) ?_
  refine va_newa (atype := .byte) (ty := .byte) (a0 := (6, .inl (fun _ => 0))) hx hb (hts _ q47) rfl hK hP hD hS hA (fun _ => rfl) (by decide) (N' := 6) (by decide) (by decide) (Nat.le_of_ble_eq_true rfl) (Nat.le_of_ble_eq_true rfl) dX0_init_23 (fun q3 d3 H hK hP hD hS => ?_)
  have hK : va_K D vwCl [(d1, .byte), (d2, .int), (d3, .byte)] s := hK
  have hP : va_P D vwCl [(h, .inr (0, [.ref q1, .ref q2, .null, .null, .int 0, .int 0, .int 0, .int 0])), (q1, .inl (d1, 36, .inl (fun _ => 0))), (q2, .inl (d2, 36, .inl (fun _ => 0))), (q3, .inl (d3, 6, .inl (fun _ => 0)))] H := hP
  have hD : va_D A [(h, .inr (0, [.ref q1, .ref q2, .null, .null, .int 0, .int 0, .int 0, .int 0])), (q1, .inl (d1, 36, .inl (fun _ => 0))), (q2, .inl (d2, 36, .inl (fun _ => 0))), (q3, .inl (d3, 6, .inl (fun _ => 0)))] := hD
  refine W.widen (k := 3) (n := 78) (Nat.le_of_ble_eq_true rfl) (Nat.le_of_ble_eq_true rfl) ?_
  refine va_putF (D := D) (ci := 0) (v := .ref q3) (ty := .array .byte) (C := RX0) (T := TX0) (N := 8) hx hb hts in_X0 tyX0 tyX0_ok nmX0 hown hK hP hD hS 0 rfl rfl 2 (by decide) (hts _ q24) (fun _ h9 => h9) rfl hin rfl (by decide +kernel) rfl rfl (Nat.le_of_ble_eq_true rfl) dX0_init_25 (fun H locs hP hD hS => ?_)
  have hP : va_P D vwCl [(h, .inr (0, [.ref q1, .ref q2, .ref q3, .null, .int 0, .int 0, .int 0, .int 0])), (q1, .inl (d1, 36, .inl (fun _ => 0))), (q2, .inl (d2, 36, .inl (fun _ => 0))), (q3, .inl (d3, 6, .inl (fun _ => 0)))] H := hP
  have hD : va_D A [(h, .inr (0, [.ref q1, .ref q2, .ref q3, .null, .int 0, .int 0, .int 0, .int 0])), (q1, .inl (d1, 36, .inl (fun _ => 0))), (q2, .inl (d2, 36, .inl (fun _ => 0))), (q3, .inl (d3, 6, .inl (fun _ => 0)))] := hD
  refine lv_aload_n hx hb dX0_init_28 rfl (lv_at hl 0 rfl) ?_
  refine lv_bipush (v := nI 8) hx hb dX0_init_29 (by decide) ?_
  refine va_newa (atype := .byte) (ty := .byte) (a0 := (8, .inl (fun _ => 0))) hx hb (hts _ q47) rfl hK hP hD hS hA (fun _ => rfl) (by decide) (N' := 8) (by decide) (by decide) (Nat.le_of_ble_eq_true rfl) (Nat.le_of_ble_eq_true rfl) dX0_init_31 (fun q4 d4 H hK hP hD hS => ?_)
  have hK : va_K D vwCl [(d1, .byte), (d2, .int), (d3, .byte), (d4, .byte)] s := hK
  have hP : va_P D vwCl [(h, .inr (0, [.ref q1, .ref q2, .ref q3, .null, .int 0, .int 0, .int 0, .int 0])), (q1, .inl (d1, 36, .inl (fun _ => 0))), (q2, .inl (d2, 36, .inl (fun _ => 0))), (q3, .inl (d3, 6, .inl (fun _ => 0))), (q4, .inl (d4, 8, .inl (fun _ => 0)))] H := hP
  have hD : va_D A [(h, .inr (0, [.ref q1, .ref q2, .ref q3, .null, .int 0, .int 0, .int 0, .int 0])), (q1, .inl (d1, 36, .inl (fun _ => 0))), (q2, .inl (d2, 36, .inl (fun _ => 0))), (q3, .inl (d3, 6, .inl (fun _ => 0))), (q4, .inl (d4, 8, .inl (fun _ => 0)))] := hD
  refine W.widen (k := 4) (n := 86) (Nat.le_of_ble_eq_true rfl) (Nat.le_of_ble_eq_true rfl) ?_
  refine va_putF (D := D) (ci := 0) (v := .ref q4) (ty := .array .byte) (C := RX0) (T := TX0) (N := 8) hx hb hts in_X0 tyX0 tyX0_ok nmX0 hown hK hP hD hS 0 rfl rfl 3 (by decide) (hts _ q25) (fun _ h9 => h9) rfl hin rfl (by decide +kernel) rfl rfl (Nat.le_of_ble_eq_true rfl) dX0_init_33 (fun H locs hP hD hS => ?_)
  have hP : va_P D vwCl [(h, .inr (0, [.ref q1, .ref q2, .ref q3, .ref q4, .int 0, .int 0, .int 0, .int 0])), (q1, .inl (d1, 36, .inl (fun _ => 0))), (q2, .inl (d2, 36, .inl (fun _ => 0))), (q3, .inl (d3, 6, .inl (fun _ => 0))), (q4, .inl (d4, 8, .inl (fun _ => 0)))] H := hP
  have hD : va_D A [(h, .inr (0, [.ref q1, .ref q2, .ref q3, .ref q4, .int 0, .int 0, .int 0, .int 0])), (q1, .inl (d1, 36, .inl (fun _ => 0))), (q2, .inl (d2, 36, .inl (fun _ => 0))), (q3, .inl (d3, 6, .inl (fun _ => 0))), (q4, .inl (d4, 8, .inl (fun _ => 0)))] := hD
  exact W.vret hx hb hr (fun t ht hW => ⟨⟨(fun k => match k with | 0 => h | 1 => q1 | 2 => q2 | 3 => q3 | _ => q4, fun k => match k with | 1 => d1 | 2 => d2 | 3 => d3 | _ => d4), rfl, trivial, rfl, by rw [ht]; exact hP, va_K.moved hW.alike hK, hD⟩, hS.F ht⟩) hS.2.2 dX0_init_36
/-- a TwoFlowsModel just made -/
abbrev w0X1 (h : Nat) : va_W := [(h, .inr (1, [.null, .null]))]
abbrev u0X1 : tf_V := (fun _ => 0, fun _ => 0)
abbrev B0X1 (D : va_G) (h : Nat) (A : Nat → Prop) (z : (Nat → Nat) × (Nat → ClassId)) (t : State) : Prop := z.1 0 = h ∧ va_P D vwCl (wM z.1 z.2 u0X1) t.heap ∧ va_K D vwCl (tyM z.2) t ∧ va_D A (wM z.1 z.2 u0X1)
set_option maxHeartbeats 4000000 in
set_option maxRecDepth 100000 in
theorem mX1_init (l : Launch) (D : va_G) (sz h : Nat) : Met l yX1_init (ws_ yX1_init cX1_init 1 none) ({ frames := 1, cells := 2, slots := 40, locals := 12 }) (tf_pc D [.ref h] sz (w0X1 h) []) (va_Qv (fun _ => True) (B0X1 D h (va_A (w0X1 h) sz)) (va_A (w0X1 h) sz)) 2 40 (va_A (w0X1 h) sz) := by
  refine Met.ofW (cc := cX1_init) (maxL := 1) (ret := none) (by decide) rfl ?_
  intro p e s m args below meth c s₁ B hml hv
  obtain ⟨rfl, hsz, hP, hK, hD0⟩ := hv
  have hx := B.exec
  have hb := B.bytes
  have hr := B.returns
  have hts := atoms_spec (ws := ws_ yX1_init cX1_init 1 none) B.pre
  have hts : ∀ w ∈ lw_all, w.before _ s = true := fun w h => hts w (List.mem_cons_of_mem _ h)
  have hown : s.vm.findClass RX1 = some m.cls := findClass_of_methodNamed B.named
  have hlocks := B.notSynchronized
  have hin : meth.name = "<init>" := (name_of_methodNamed B.named B.method).1
  subst hsz
  have hD := hD0.self (sz := s.heap.size)
  generalize hAe : va_A (w0X1 h) s.heap.size = A at hD ⊢
  have hA : ∀ q : Nat, s.heap.size ≤ q → A q := fun q h => by rw [← hAe]; exact Or.inr h
  have hS : va_S A s.heap s.heap [] := va_S.rf
  have hl := lv_entry ([.ref h]) (n := 1) (Nat.le_of_ble_eq_true rfl)
  rw [lg_entry_eq]
  generalize (lg_sl ([.ref h]) ++ List.replicate (1 - (lg_sl ([.ref h])).length) Slot.unset).toArray = ls at hl ⊢
  have hl : lv_has ls 1 [(0, .ref h)] := hl
  refine lv_aload_n hx hb dX1_init_0 rfl (lv_at hl 0 rfl) ?_
  refine W.objInit hx hb hown (hts _ q136) (hts _ q20) (hts _ q21) rfl (by rw [hml]; exact hl.1) rfl dX1_init_1 (Nat.le_of_ble_eq_true rfl) (Nat.le_of_ble_eq_true rfl) ?_
  refine W.eq (g2 := F0 m 4 ls []) rfl ?_
  refine lv_aload_n hx hb dX1_init_4 rfl (lv_at hl 0 rfl) ?_
  refine lv_bipush (v := nI 36) hx hb dX1_init_5 (by decide) ?_
  refine va_newa (atype := .int) (ty := .int) (a0 := (36, .inl (fun _ => 0))) hx hb (hts _ q48) rfl hK hP hD hS hA (fun _ => rfl) (by decide) (N' := 36) (by decide) (by decide) (Nat.le_of_ble_eq_true rfl) (Nat.le_of_ble_eq_true rfl) dX1_init_7 (fun q1 d1 H hK hP hD hS => ?_)
  have hK : va_K D vwCl [(d1, .int)] s := hK
  have hP : va_P D vwCl [(h, .inr (1, [.null, .null])), (q1, .inl (d1, 36, .inl (fun _ => 0)))] H := hP
  have hD : va_D A [(h, .inr (1, [.null, .null])), (q1, .inl (d1, 36, .inl (fun _ => 0)))] := hD
  refine W.widen (k := 1) (n := 36) (Nat.le_of_ble_eq_true rfl) (Nat.le_of_ble_eq_true rfl) ?_
  refine va_put (D := D) (ci := 1) (v := .ref q1) (ty := .array .int) (C := RX1) (T := TX1) (N := 2) hx hb hts in_X1 tyX1 tyX1_ok nmX1 hown hK hP hD hS 0 rfl rfl 0 (by decide) (hts _ q137) (fun _ h9 => h9) rfl (by decide +kernel) rfl rfl (Nat.le_of_ble_eq_true rfl) dX1_init_9 (fun H locs hP hD hS => ?_)
  have hP : va_P D vwCl [(h, .inr (1, [.ref q1, .null])), (q1, .inl (d1, 36, .inl (fun _ => 0)))] H := hP
  have hD : va_D A [(h, .inr (1, [.ref q1, .null])), (q1, .inl (d1, 36, .inl (fun _ => 0)))] := hD
  refine lv_aload_n hx hb dX1_init_12 rfl (lv_at hl 0 rfl) ?_
  refine lv_iconst (v := nI 4) hx hb dX1_init_13 (by decide) ?_
  refine va_newa (atype := .int) (ty := .int) (a0 := (4, .inl (fun _ => 0))) hx hb (hts _ q48) rfl hK hP hD hS hA (fun _ => rfl) (by decide) (N' := 4) (by decide) (by decide) (Nat.le_of_ble_eq_true rfl) (Nat.le_of_ble_eq_true rfl) dX1_init_14 (fun q2 d2 H hK hP hD hS => ?_)
  have hK : va_K D vwCl [(d1, .int), (d2, .int)] s := hK
  have hP : va_P D vwCl [(h, .inr (1, [.ref q1, .null])), (q1, .inl (d1, 36, .inl (fun _ => 0))), (q2, .inl (d2, 4, .inl (fun _ => 0)))] H := hP
  have hD : va_D A [(h, .inr (1, [.ref q1, .null])), (q1, .inl (d1, 36, .inl (fun _ => 0))), (q2, .inl (d2, 4, .inl (fun _ => 0)))] := hD
  refine W.widen (k := 2) (n := 40) (Nat.le_of_ble_eq_true rfl) (Nat.le_of_ble_eq_true rfl) ?_
  refine va_put (D := D) (ci := 1) (v := .ref q2) (ty := .array .int) (C := RX1) (T := TX1) (N := 2) hx hb hts in_X1 tyX1 tyX1_ok nmX1 hown hK hP hD hS 0 rfl rfl 1 (by decide) (hts _ q138) (fun _ h9 => h9) rfl (by decide +kernel) rfl rfl (Nat.le_of_ble_eq_true rfl) dX1_init_16 (fun H locs hP hD hS => ?_)
  have hP : va_P D vwCl [(h, .inr (1, [.ref q1, .ref q2])), (q1, .inl (d1, 36, .inl (fun _ => 0))), (q2, .inl (d2, 4, .inl (fun _ => 0)))] H := hP
  have hD : va_D A [(h, .inr (1, [.ref q1, .ref q2])), (q1, .inl (d1, 36, .inl (fun _ => 0))), (q2, .inl (d2, 4, .inl (fun _ => 0)))] := hD
  exact W.vret hx hb hr (fun t ht hW => ⟨⟨(fun k => match k with | 0 => h | 1 => q1 | _ => q2, fun k => match k with | 1 => d1 | _ => d2), rfl, trivial, rfl, by rw [ht]; exact hP, va_K.moved hW.alike hK, hD⟩, hS.F ht⟩) hS.2.2 dX1_init_19
end
section
/-! THE CLAIM OUT OF ONE WALK OF THE LAW'S BODY. Your part is whole_start (and what it stands on); all else here is the same for every law, but numbers. -/
def R_law : String := "TwoFlowsLaw"
def lw_P (b : Addr) (xs : List Int32) (args : Array Value) (s : State) : Prop := args = #[.ref b] ∧ s.IntsAt b xs ∧ xs.length ≤ 256 ∧ (Jvm.Cond.and given_1 narrow_1).before args s = true
def lw_Q (_ : Array Value) (s : State) (o : Outcome) (t : State) : Prop := o = .returned (some (.int 1)) ∧ Framed s o t [] 600000 7290000
def lw_Z (below : List Frame) (a : Array Value) (s : State) : State → Prop := fun t => ∃ o, t.status = .running ∧ Ended t below o ∧ lw_Q a s o t
/-- the law's own end, with 1 on the stack, nothing written that was there before, its room as the claim has it -/
theorem lw_ret {p : Program} {l : Launch} {e : Env} {s : State} {m : MethodId} {below : List Frame} {meth : Method} {c : Code} {b : Nat} (hx : p.tables.exec = Jvm.exec) (hb : c.code = code) (hr : meth.sig.returnType = ret) (hlocks : meth.locks = false) {pc : Nat} {H : Heap} {ls : Array Slot} (hdg : decode code pc = .ok (.ireturn, 1)) : W p l e room_1 s m #[Value.ref b] below meth c H [] 600000 7290000 (lw_Z below #[Value.ref b] s) (F0 m pc ls [.int 1]) := by
  intro T hT X
  obtain ⟨fs, hret, hrun, hended, hW, hframe⟩ := X.leave (v := some (.int 1)) (hlocks := hlocks) (fun h => by rw [hr] at h; cases h)
  have hmeth' : T.vm.method? m = some meth := X.method'
  refine ⟨T.setFrames fs, ?_, .returned (some (.int 1)), hrun, hended, rfl, ⟨_, rfl⟩, hW, hframe⟩
  jvm_step X.here [X.here.top, hx, hb, hdg, hmeth', hr, ret, narrow_b1]
  (try refine ⟨rfl, ?_⟩); (try refine ⟨rfl, ?_⟩)
  first | (intro acts; rw [hret _ acts rfl rfl rfl]) | rw [hret _ _ rfl rfl rfl]
  exact Steps.refl _
/-- what holds at the law's entry: the machine, the code, the tables' words (any of lw_tbl by 'hts w (by decide +kernel)'), the script of L ints xs at the cell b, what the Statement gives of the start (any of its parts by flat_of_before) -/
def lw_At (p : Program) (s : State) (m : MethodId) (meth : Method) (c : Code) (b L : Nat) (xs : Nat → Int32) : Prop :=
  p.tables.exec = Jvm.exec ∧ c.code = code ∧ meth.sig.returnType = ret ∧ c.maxLocals = 4 ∧ s.vm.findClass R_law = some m.cls ∧ (∀ w ∈ lw_tbl, w.before #[Value.ref b] s = true) ∧ va_X b L xs s s.heap ∧ b < s.heap.size ∧ meth.locks = false ∧ (Jvm.Cond.and given_1 narrow_1).before #[Value.ref b] s = true
section TFL
variable {p : Program} {l : Launch} {e : Env} {R : Room} {s : State} {m : MethodId} {args : Array Value} {below : List Frame} {meth : Method} {c : Code} {H : Heap} {locs : List Loc} {cells slots : Nat} {Q : State → Prop}
variable {cc : ByteArray} {pc : Nat} {ls : Array Slot} {rest : List Value} {A : Nat → Prop} {H0 : Heap}
/-- the script's int at place k -/
theorem tf_sld {b L : Nat} {xs : Nat → Int32} (hx : p.tables.exec = Jvm.exec) (hb : c.code = cc) (hX : va_X b L xs s H0) (hbl : b < H0.size) (hbA : ¬ A b) (hS : va_S A H0 H locs) {k : Nat} (hk : k < L) (hn : L < 2 ^ 31) (hdg : decode cc pc = .ok (.iaload, 1))
    (kk : W p l e R s m args below meth c H locs cells slots Q (F0 m (pc + 1) ls (.int (xs k) :: rest))) : W p l e R s m args below meth c H locs cells slots Q (F0 m pc ls (.int (nI k) :: .ref b :: rest)) := by
  refine va_sld hx hb hX hbl hbA hS (vp_in_nI hk hn) hdg ?_
  rw [nI_clamp (Nat.lt_trans hk hn)]
  exact kk
end TFL
/-- is there another call in the script -/
theorem tf_more {L i : Nat} (hL : L ≤ 256) (hi : i ≤ 256) (h : ¬ nI L - nI 4 < nI i) : i + 4 ≤ L := by
  have h1 : ¬ (nI L - nI 4).toInt < (nI i).toInt := fun q => h (Int32.lt_iff_toInt_lt.mpr q)
  rw [pk_sub_toInt (by omega) (by decide), nI_toInt (by omega)] at h1
  omega
/-- the world of the law -/
abbrev tf_WW (aX aM : Nat → Nat) (dX dM : Nat → ClassId) (u : tf_U) (v : tf_V) : va_W := wX aX dX u ++ wM aM dM v
abbrev tf_TT (dX dM : Nat → ClassId) : List (ClassId × FieldType) := tyX dX ++ tyM dM
/-- the law at pc, with both objects in their states -/
def tf_At (p : Program) (l : Launch) (e : Env) (s : State) (m : MethodId) (below : List Frame) (meth : Method) (c : Code) (D : va_G) (A : Nat → Prop) (b i : Nat) (aX aM : Nat → Nat) (dX dM : Nat → ClassId) (Q : State → Prop) (pc : Nat) : Prop :=
  ∀ (g : Nat → Nat) (u : tf_U) (v : tf_V) (H : Heap) (locs : List Loc) (ls : Array Slot), tf_ok 20 g → tf_XS g u → tf_MS g v → va_P D vwCl (tf_WW aX aM dX dM u v) H → va_D A (tf_WW aX aM dX dM u v) → va_S A s.heap H locs → lv_has ls 4 [(0, .ref b), (1, .ref (aX 0)), (2, .ref (aM 0)), (3, .int (nI i))] → W p l e room_1 s m #[Value.ref b] below meth c H locs 8 136 Q (F0 m pc ls [])
set_option maxHeartbeats 4000000 in
set_option maxRecDepth 100000 in
/-- the case 0: set -/
theorem lw_case_set {p : Program} {e : Env} {s : State} {m : MethodId} {below : List Frame} {meth : Method} {c : Code} (l : Launch) {b L : Nat} {xs : Nat → Int32} (hL : L ≤ 256) (C0 : lw_At p s m meth c b L xs) {D : va_G} {A : Nat → Prop} (hA : ∀ q : Nat, s.heap.size ≤ q → A q) (hbA : ¬ A b) {aX aM : Nat → Nat} {dX dM : Nat → ClassId} (hK : va_K D vwCl (tf_TT dX dM) s) {Q : State → Prop} {i : Nat} (hi : i + 4 ≤ L) (after : tf_At p l e s m below meth c D A b i aX aM dX dM Q 412) : tf_At p l e s m below meth c D A b i aX aM dX dM Q 96 := by
  obtain ⟨hx, hb, hr, hml, hown, hts0, hX, hbl, hlocks, hgv⟩ := C0
  have hts : ∀ w ∈ lw_all, w.before #[Value.ref b] s = true := fun w h => hts0 w (lw_all_tbl h)
  have S : CallFix p m c code 4 s #[Value.ref b] lw_all R_law := ⟨hx, hb, hml, hown, hts⟩
  intro g u v H locs ls hg hu hv hP hD hS hl
  obtain ⟨c0, r0, f0, l0, kn, fi, se, bo⟩ := u
  obtain ⟨k0, m0⟩ := v
  refine lv_aload_n hx hb dL_law_96 rfl (lv_at hl 1 rfl) ?_
  refine lv_aload_n hx hb dL_law_97 rfl (lv_at hl 0 rfl) ?_
  refine lv_iload_n hx hb dL_law_98 rfl (lv_at hl 3 rfl) ?_
  refine lv_iconst (v := nI 1) hx hb dL_law_99 (by decide) ?_
  refine lv_iadd hx hb dL_law_100 ?_
  refine tf_top (nI (i + 1)) (nI_add _ _) ?_
  refine tf_sld (k := i + 1) hx hb hX hbl hbA hS (by omega) (by omega) dL_law_101 ?_
  refine lv_aload_n hx hb dL_law_102 rfl (lv_at hl 0 rfl) ?_
  refine lv_iload_n hx hb dL_law_103 rfl (lv_at hl 3 rfl) ?_
  refine lv_iconst (v := nI 2) hx hb dL_law_104 (by decide) ?_
  refine lv_iadd hx hb dL_law_105 ?_
  refine tf_top (nI (i + 2)) (nI_add _ _) ?_
  refine tf_sld (k := i + 2) hx hb hX hbl hbA hS (by omega) (by omega) dL_law_106 ?_
  refine lv_aload_n hx hb dL_law_107 rfl (lv_at hl 0 rfl) ?_
  refine lv_iload_n hx hb dL_law_108 rfl (lv_at hl 3 rfl) ?_
  refine lv_iconst (v := nI 3) hx hb dL_law_109 (by decide) ?_
  refine lv_iadd hx hb dL_law_110 ?_
  refine tf_top (nI (i + 3)) (nI_add _ _) ?_
  refine tf_sld (k := i + 3) hx hb hX hbl hbA hS (by omega) (by omega) dL_law_111 ?_
  refine tf_calli (wf := wX aX dX) (u := (c0, r0, f0, l0, kn, fi, se, bo)) (wr := wM aM dM (k0, m0)) (As := [.int (xs (i + 1)), .int (xs (i + 2)), .int (xs (i + 3))]) (rest := []) (ci := 0) (q0 := 0) S hP hK hD hS hA [0, 1, 2, 3, 4] [5, 6, 7] [0, 1, 2, 3] rfl (by decide) rfl (by decide) (by decide) rfl (mX0_set l D _ aX dX c0 r0 f0 l0 kn fi se bo g hu (xs (i + 1)) (xs (i + 2)) (xs (i + 3))) rfl rfl (cwV 3 hts (lw_V q49 q50 q51 q12 q52) rfl rfl rfl (by decide +kernel) ⟨Nat.le_of_ble_eq_true rfl, Nat.le_of_ble_eq_true rfl⟩) rfl hl.1 rfl (Nat.le_of_ble_eq_true rfl) dL_law_112 ⟨Nat.le_of_ble_eq_true rfl, Nat.le_of_ble_eq_true rfl⟩ (fun r1 u1 H locs hr1 hP hD hS => ?_)
  have hP : va_P D vwCl (wM aM dM (k0, m0) ++ wX aX dX u1) H := hP
  have hD : va_D A (wM aM dM (k0, m0) ++ wX aX dX u1) := hD
  refine lv_aload_n hx hb dL_law_115 rfl (lv_at hl 2 rfl) ?_
  refine lv_aload_n hx hb dL_law_116 rfl (lv_at hl 0 rfl) ?_
  refine lv_iload_n hx hb dL_law_117 rfl (lv_at hl 3 rfl) ?_
  refine lv_iconst (v := nI 1) hx hb dL_law_118 (by decide) ?_
  refine lv_iadd hx hb dL_law_119 ?_
  refine tf_top (nI (i + 1)) (nI_add _ _) ?_
  refine tf_sld (k := i + 1) hx hb hX hbl hbA hS (by omega) (by omega) dL_law_120 ?_
  refine lv_aload_n hx hb dL_law_121 rfl (lv_at hl 0 rfl) ?_
  refine lv_iload_n hx hb dL_law_122 rfl (lv_at hl 3 rfl) ?_
  refine lv_iconst (v := nI 2) hx hb dL_law_123 (by decide) ?_
  refine lv_iadd hx hb dL_law_124 ?_
  refine tf_top (nI (i + 2)) (nI_add _ _) ?_
  refine tf_sld (k := i + 2) hx hb hX hbl hbA hS (by omega) (by omega) dL_law_125 ?_
  refine lv_aload_n hx hb dL_law_126 rfl (lv_at hl 0 rfl) ?_
  refine lv_iload_n hx hb dL_law_127 rfl (lv_at hl 3 rfl) ?_
  refine lv_iconst (v := nI 3) hx hb dL_law_128 (by decide) ?_
  refine lv_iadd hx hb dL_law_129 ?_
  refine tf_top (nI (i + 3)) (nI_add _ _) ?_
  refine tf_sld (k := i + 3) hx hb hX hbl hbA hS (by omega) (by omega) dL_law_130 ?_
  refine tf_calli (wf := wM aM dM) (u := (k0, m0)) (wr := wX aX dX u1) (As := [.int (xs (i + 1)), .int (xs (i + 2)), .int (xs (i + 3))]) (rest := [.int r1]) (ci := 1) (q0 := 0) S hP hK hD hS hA [0, 1, 2] [3, 4, 5, 6, 7] [4, 5] rfl (by decide) rfl (by decide) (by decide) rfl (mX1_set l D _ aM dM k0 m0 g hv (xs (i + 1)) (xs (i + 2)) (xs (i + 3))) rfl rfl (cwV 3 hts (lw_V q144 q145 q146 q13 q147) rfl rfl rfl (by decide +kernel) ⟨Nat.le_of_ble_eq_true rfl, Nat.le_of_ble_eq_true rfl⟩) rfl hl.1 rfl (Nat.le_of_ble_eq_true rfl) dL_law_131 ⟨Nat.le_of_ble_eq_true rfl, Nat.le_of_ble_eq_true rfl⟩ (fun r2 v1 H locs hr2 hP hD hS => ?_)
  have hP : va_P D vwCl (wX aX dX u1 ++ wM aM dM v1) H := hP
  have hD : va_D A (wX aX dX u1 ++ wM aM dM v1) := hD
  refine lv_icmp_eq (tgt := 412) hx hb dL_law_134 (by decide) (fun c1 => ?_) (fun c1 => ?_)
  · exact after _ u1 v1 H locs ls (tf_ok_setG hg _ _ _) (hr1.2) hr2.2 hP hD hS hl
  · exact absurd (hr1.1.trans hr2.1.symm) c1
set_option maxHeartbeats 4000000 in
set_option maxRecDepth 100000 in
/-- the case 1: capacity -/
theorem lw_case_capacity {p : Program} {e : Env} {s : State} {m : MethodId} {below : List Frame} {meth : Method} {c : Code} (l : Launch) {b L : Nat} {xs : Nat → Int32} (hL : L ≤ 256) (C0 : lw_At p s m meth c b L xs) {D : va_G} {A : Nat → Prop} (hA : ∀ q : Nat, s.heap.size ≤ q → A q) (hbA : ¬ A b) {aX aM : Nat → Nat} {dX dM : Nat → ClassId} (hK : va_K D vwCl (tf_TT dX dM) s) {Q : State → Prop} {i : Nat} (hi : i + 4 ≤ L) (after : tf_At p l e s m below meth c D A b i aX aM dX dM Q 412) : tf_At p l e s m below meth c D A b i aX aM dX dM Q 139 := by
  obtain ⟨hx, hb, hr, hml, hown, hts0, hX, hbl, hlocks, hgv⟩ := C0
  have hts : ∀ w ∈ lw_all, w.before #[Value.ref b] s = true := fun w h => hts0 w (lw_all_tbl h)
  have S : CallFix p m c code 4 s #[Value.ref b] lw_all R_law := ⟨hx, hb, hml, hown, hts⟩
  intro g u v H locs ls hg hu hv hP hD hS hl
  obtain ⟨c0, r0, f0, l0, kn, fi, se, bo⟩ := u
  obtain ⟨k0, m0⟩ := v
  refine lv_aload_n hx hb dL_law_139 rfl (lv_at hl 1 rfl) ?_
  refine lv_aload_n hx hb dL_law_140 rfl (lv_at hl 0 rfl) ?_
  refine lv_iload_n hx hb dL_law_141 rfl (lv_at hl 3 rfl) ?_
  refine lv_iconst (v := nI 1) hx hb dL_law_142 (by decide) ?_
  refine lv_iadd hx hb dL_law_143 ?_
  refine tf_top (nI (i + 1)) (nI_add _ _) ?_
  refine tf_sld (k := i + 1) hx hb hX hbl hbA hS (by omega) (by omega) dL_law_144 ?_
  refine lv_aload_n hx hb dL_law_145 rfl (lv_at hl 0 rfl) ?_
  refine lv_iload_n hx hb dL_law_146 rfl (lv_at hl 3 rfl) ?_
  refine lv_iconst (v := nI 2) hx hb dL_law_147 (by decide) ?_
  refine lv_iadd hx hb dL_law_148 ?_
  refine tf_top (nI (i + 2)) (nI_add _ _) ?_
  refine tf_sld (k := i + 2) hx hb hX hbl hbA hS (by omega) (by omega) dL_law_149 ?_
  refine tf_callR (As := [.int (xs (i + 1)), .int (xs (i + 2))]) (rest := []) (ci := 0) (q0 := 0) S (hP.sub (ws' := wX aX dX (c0, r0, f0, l0, kn, fi, se, bo)) [0, 1, 2, 3, 4] rfl) (hK.sub (tys' := tyX dX) [0, 1, 2, 3] rfl) ((hD.sub (ws' := wX aX dX (c0, r0, f0, l0, kn, fi, se, bo)) [0, 1, 2, 3, 4] (by decide) rfl).weaken (fun _ _ _ _ => trivial)) (mX0_capacity l D _ aX dX c0 r0 f0 l0 kn fi se bo g hu.1 (xs (i + 1)) (xs (i + 2))) rfl rfl (cwV 2 hts (lw_V q60 q61 q62 q12 q63) rfl rfl rfl (by decide +kernel) ⟨Nat.le_of_ble_eq_true rfl, Nat.le_of_ble_eq_true rfl⟩) rfl hl.1 rfl (Nat.le_of_ble_eq_true rfl) dL_law_150 ⟨Nat.le_of_ble_eq_true rfl, Nat.le_of_ble_eq_true rfl⟩ ?_
  refine lv_aload_n hx hb dL_law_153 rfl (lv_at hl 2 rfl) ?_
  refine lv_aload_n hx hb dL_law_154 rfl (lv_at hl 0 rfl) ?_
  refine lv_iload_n hx hb dL_law_155 rfl (lv_at hl 3 rfl) ?_
  refine lv_iconst (v := nI 1) hx hb dL_law_156 (by decide) ?_
  refine lv_iadd hx hb dL_law_157 ?_
  refine tf_top (nI (i + 1)) (nI_add _ _) ?_
  refine tf_sld (k := i + 1) hx hb hX hbl hbA hS (by omega) (by omega) dL_law_158 ?_
  refine lv_aload_n hx hb dL_law_159 rfl (lv_at hl 0 rfl) ?_
  refine lv_iload_n hx hb dL_law_160 rfl (lv_at hl 3 rfl) ?_
  refine lv_iconst (v := nI 2) hx hb dL_law_161 (by decide) ?_
  refine lv_iadd hx hb dL_law_162 ?_
  refine tf_top (nI (i + 2)) (nI_add _ _) ?_
  refine tf_sld (k := i + 2) hx hb hX hbl hbA hS (by omega) (by omega) dL_law_163 ?_
  refine tf_callR (As := [.int (xs (i + 1)), .int (xs (i + 2))]) (rest := [.int (tf_cap g (xs (i + 1)) (xs (i + 2)))]) (ci := 1) (q0 := 0) S (hP.sub (ws' := wM aM dM (k0, m0)) [5, 6, 7] rfl) (hK.sub (tys' := tyM dM) [4, 5] rfl) ((hD.sub (ws' := wM aM dM (k0, m0)) [5, 6, 7] (by decide) rfl).weaken (fun _ _ _ _ => trivial)) (mX1_capacity l D _ aM dM k0 m0 g hv (xs (i + 1)) (xs (i + 2))) rfl rfl (cwV 2 hts (lw_V q156 q157 q158 q13 q159) rfl rfl rfl (by decide +kernel) ⟨Nat.le_of_ble_eq_true rfl, Nat.le_of_ble_eq_true rfl⟩) rfl hl.1 rfl (Nat.le_of_ble_eq_true rfl) dL_law_164 ⟨Nat.le_of_ble_eq_true rfl, Nat.le_of_ble_eq_true rfl⟩ ?_
  refine lv_icmp_eq (tgt := 412) hx hb dL_law_167 (by decide) (fun c1 => ?_) (fun c1 => ?_)
  · exact after g _ _ H locs ls hg hu hv hP hD hS hl
  · exact absurd rfl c1
set_option maxHeartbeats 4000000 in
set_option maxRecDepth 100000 in
/-- the case 2: width -/
theorem lw_case_width {p : Program} {e : Env} {s : State} {m : MethodId} {below : List Frame} {meth : Method} {c : Code} (l : Launch) {b L : Nat} {xs : Nat → Int32} (hL : L ≤ 256) (C0 : lw_At p s m meth c b L xs) {D : va_G} {A : Nat → Prop} (hA : ∀ q : Nat, s.heap.size ≤ q → A q) (hbA : ¬ A b) {aX aM : Nat → Nat} {dX dM : Nat → ClassId} (hK : va_K D vwCl (tf_TT dX dM) s) {Q : State → Prop} {i : Nat} (hi : i + 4 ≤ L) (after : tf_At p l e s m below meth c D A b i aX aM dX dM Q 412) : tf_At p l e s m below meth c D A b i aX aM dX dM Q 172 := by
  obtain ⟨hx, hb, hr, hml, hown, hts0, hX, hbl, hlocks, hgv⟩ := C0
  have hts : ∀ w ∈ lw_all, w.before #[Value.ref b] s = true := fun w h => hts0 w (lw_all_tbl h)
  have S : CallFix p m c code 4 s #[Value.ref b] lw_all R_law := ⟨hx, hb, hml, hown, hts⟩
  intro g u v H locs ls hg hu hv hP hD hS hl
  obtain ⟨c0, r0, f0, l0, kn, fi, se, bo⟩ := u
  obtain ⟨k0, m0⟩ := v
  refine lv_aload_n hx hb dL_law_172 rfl (lv_at hl 1 rfl) ?_
  refine lv_aload_n hx hb dL_law_173 rfl (lv_at hl 0 rfl) ?_
  refine lv_iload_n hx hb dL_law_174 rfl (lv_at hl 3 rfl) ?_
  refine lv_iconst (v := nI 1) hx hb dL_law_175 (by decide) ?_
  refine lv_iadd hx hb dL_law_176 ?_
  refine tf_top (nI (i + 1)) (nI_add _ _) ?_
  refine tf_sld (k := i + 1) hx hb hX hbl hbA hS (by omega) (by omega) dL_law_177 ?_
  refine tf_callR (As := [.int (xs (i + 1))]) (rest := []) (ci := 0) (q0 := 0) S (hP.sub (ws' := wX aX dX (c0, r0, f0, l0, kn, fi, se, bo)) [0, 1, 2, 3, 4] rfl) (hK.sub (tys' := tyX dX) [0, 1, 2, 3] rfl) ((hD.sub (ws' := wX aX dX (c0, r0, f0, l0, kn, fi, se, bo)) [0, 1, 2, 3, 4] (by decide) rfl).weaken (fun _ _ _ _ => trivial)) (mX0_width l D _ aX dX c0 r0 f0 l0 kn fi se bo g hu.1 (xs (i + 1))) rfl rfl (cwV 1 hts (lw_V q64 q65 q66 q12 q67) rfl rfl rfl (by decide +kernel) ⟨Nat.le_of_ble_eq_true rfl, Nat.le_of_ble_eq_true rfl⟩) rfl hl.1 rfl (Nat.le_of_ble_eq_true rfl) dL_law_178 ⟨Nat.le_of_ble_eq_true rfl, Nat.le_of_ble_eq_true rfl⟩ ?_
  refine lv_aload_n hx hb dL_law_181 rfl (lv_at hl 2 rfl) ?_
  refine lv_aload_n hx hb dL_law_182 rfl (lv_at hl 0 rfl) ?_
  refine lv_iload_n hx hb dL_law_183 rfl (lv_at hl 3 rfl) ?_
  refine lv_iconst (v := nI 1) hx hb dL_law_184 (by decide) ?_
  refine lv_iadd hx hb dL_law_185 ?_
  refine tf_top (nI (i + 1)) (nI_add _ _) ?_
  refine tf_sld (k := i + 1) hx hb hX hbl hbA hS (by omega) (by omega) dL_law_186 ?_
  refine tf_callR (As := [.int (xs (i + 1))]) (rest := [.int (tf_wiR g (xs (i + 1)))]) (ci := 1) (q0 := 0) S (hP.sub (ws' := wM aM dM (k0, m0)) [5, 6, 7] rfl) (hK.sub (tys' := tyM dM) [4, 5] rfl) ((hD.sub (ws' := wM aM dM (k0, m0)) [5, 6, 7] (by decide) rfl).weaken (fun _ _ _ _ => trivial)) (mX1_width l D _ aM dM k0 m0 g hv (xs (i + 1))) rfl rfl (cwV 1 hts (lw_V q160 q161 q162 q13 q163) rfl rfl rfl (by decide +kernel) ⟨Nat.le_of_ble_eq_true rfl, Nat.le_of_ble_eq_true rfl⟩) rfl hl.1 rfl (Nat.le_of_ble_eq_true rfl) dL_law_187 ⟨Nat.le_of_ble_eq_true rfl, Nat.le_of_ble_eq_true rfl⟩ ?_
  refine lv_icmp_eq (tgt := 412) hx hb dL_law_190 (by decide) (fun c1 => ?_) (fun c1 => ?_)
  · exact after g _ _ H locs ls hg hu hv hP hD hS hl
  · exact absurd rfl c1
set_option maxHeartbeats 4000000 in
set_option maxRecDepth 100000 in
/-- the case 3: carries -/
theorem lw_case_carries {p : Program} {e : Env} {s : State} {m : MethodId} {below : List Frame} {meth : Method} {c : Code} (l : Launch) {b L : Nat} {xs : Nat → Int32} (hL : L ≤ 256) (C0 : lw_At p s m meth c b L xs) {D : va_G} {A : Nat → Prop} (hA : ∀ q : Nat, s.heap.size ≤ q → A q) (hbA : ¬ A b) {aX aM : Nat → Nat} {dX dM : Nat → ClassId} (hK : va_K D vwCl (tf_TT dX dM) s) {Q : State → Prop} {i : Nat} (hi : i + 4 ≤ L) (after : tf_At p l e s m below meth c D A b i aX aM dX dM Q 412) : tf_At p l e s m below meth c D A b i aX aM dX dM Q 195 := by
  obtain ⟨hx, hb, hr, hml, hown, hts0, hX, hbl, hlocks, hgv⟩ := C0
  have hts : ∀ w ∈ lw_all, w.before #[Value.ref b] s = true := fun w h => hts0 w (lw_all_tbl h)
  have S : CallFix p m c code 4 s #[Value.ref b] lw_all R_law := ⟨hx, hb, hml, hown, hts⟩
  intro g u v H locs ls hg hu hv hP hD hS hl
  obtain ⟨c0, r0, f0, l0, kn, fi, se, bo⟩ := u
  obtain ⟨k0, m0⟩ := v
  refine lv_aload_n hx hb dL_law_195 rfl (lv_at hl 1 rfl) ?_
  refine lv_aload_n hx hb dL_law_196 rfl (lv_at hl 0 rfl) ?_
  refine lv_iload_n hx hb dL_law_197 rfl (lv_at hl 3 rfl) ?_
  refine lv_iconst (v := nI 1) hx hb dL_law_198 (by decide) ?_
  refine lv_iadd hx hb dL_law_199 ?_
  refine tf_top (nI (i + 1)) (nI_add _ _) ?_
  refine tf_sld (k := i + 1) hx hb hX hbl hbA hS (by omega) (by omega) dL_law_200 ?_
  refine lv_aload_n hx hb dL_law_201 rfl (lv_at hl 0 rfl) ?_
  refine lv_iload_n hx hb dL_law_202 rfl (lv_at hl 3 rfl) ?_
  refine lv_iconst (v := nI 2) hx hb dL_law_203 (by decide) ?_
  refine lv_iadd hx hb dL_law_204 ?_
  refine tf_top (nI (i + 2)) (nI_add _ _) ?_
  refine tf_sld (k := i + 2) hx hb hX hbl hbA hS (by omega) (by omega) dL_law_205 ?_
  refine tf_calli (wf := wX aX dX) (u := (c0, r0, f0, l0, kn, fi, se, bo)) (wr := wM aM dM (k0, m0)) (As := [.int (xs (i + 1)), .int (xs (i + 2))]) (rest := []) (ci := 0) (q0 := 0) S hP hK hD hS hA [0, 1, 2, 3, 4] [5, 6, 7] [0, 1, 2, 3] rfl (by decide) rfl (by decide) (by decide) rfl (mX0_carries l D _ aX dX c0 r0 f0 l0 kn fi se bo g (tf_ok_mono hg (by decide)) hu (xs (i + 1)) (xs (i + 2))) rfl rfl (cwV 2 hts (lw_V q71 q72 q73 q12 q74) rfl rfl rfl (by decide +kernel) ⟨Nat.le_of_ble_eq_true rfl, Nat.le_of_ble_eq_true rfl⟩) rfl hl.1 rfl (Nat.le_of_ble_eq_true rfl) dL_law_206 ⟨Nat.le_of_ble_eq_true rfl, Nat.le_of_ble_eq_true rfl⟩ (fun r1 u1 H locs hr1 hP hD hS => ?_)
  have hP : va_P D vwCl (wM aM dM (k0, m0) ++ wX aX dX u1) H := hP
  have hD : va_D A (wM aM dM (k0, m0) ++ wX aX dX u1) := hD
  refine lv_aload_n hx hb dL_law_209 rfl (lv_at hl 2 rfl) ?_
  refine lv_aload_n hx hb dL_law_210 rfl (lv_at hl 0 rfl) ?_
  refine lv_iload_n hx hb dL_law_211 rfl (lv_at hl 3 rfl) ?_
  refine lv_iconst (v := nI 1) hx hb dL_law_212 (by decide) ?_
  refine lv_iadd hx hb dL_law_213 ?_
  refine tf_top (nI (i + 1)) (nI_add _ _) ?_
  refine tf_sld (k := i + 1) hx hb hX hbl hbA hS (by omega) (by omega) dL_law_214 ?_
  refine lv_aload_n hx hb dL_law_215 rfl (lv_at hl 0 rfl) ?_
  refine lv_iload_n hx hb dL_law_216 rfl (lv_at hl 3 rfl) ?_
  refine lv_iconst (v := nI 2) hx hb dL_law_217 (by decide) ?_
  refine lv_iadd hx hb dL_law_218 ?_
  refine tf_top (nI (i + 2)) (nI_add _ _) ?_
  refine tf_sld (k := i + 2) hx hb hX hbl hbA hS (by omega) (by omega) dL_law_219 ?_
  refine tf_calli (wf := wM aM dM) (u := (k0, m0)) (wr := wX aX dX u1) (As := [.int (xs (i + 1)), .int (xs (i + 2))]) (rest := [.int r1]) (ci := 1) (q0 := 0) S hP hK hD hS hA [0, 1, 2] [3, 4, 5, 6, 7] [4, 5] rfl (by decide) rfl (by decide) (by decide) rfl (mX1_carries l D _ aM dM k0 m0 g (tf_ok_mono hg (by decide)) hv (xs (i + 1)) (xs (i + 2))) rfl rfl (cwV 2 hts (lw_V q164 q165 q166 q13 q167) rfl rfl rfl (by decide +kernel) ⟨Nat.le_of_ble_eq_true rfl, Nat.le_of_ble_eq_true rfl⟩) rfl hl.1 rfl (Nat.le_of_ble_eq_true rfl) dL_law_220 ⟨Nat.le_of_ble_eq_true rfl, Nat.le_of_ble_eq_true rfl⟩ (fun r2 v1 H locs hr2 hP hD hS => ?_)
  have hP : va_P D vwCl (wX aX dX u1 ++ wM aM dM v1) H := hP
  have hD : va_D A (wX aX dX u1 ++ wM aM dM v1) := hD
  refine lv_icmp_eq (tgt := 412) hx hb dL_law_223 (by decide) (fun c1 => ?_) (fun c1 => ?_)
  · exact after _ u1 v1 H locs ls hg (hr1.2.XS) hr2.2 hP hD hS hl
  · exact absurd (hr1.1.trans hr2.1.symm) c1
set_option maxHeartbeats 4000000 in
set_option maxRecDepth 100000 in
/-- the case 4: alone -/
theorem lw_case_alone {p : Program} {e : Env} {s : State} {m : MethodId} {below : List Frame} {meth : Method} {c : Code} (l : Launch) {b L : Nat} {xs : Nat → Int32} (hL : L ≤ 256) (C0 : lw_At p s m meth c b L xs) {D : va_G} {A : Nat → Prop} (hA : ∀ q : Nat, s.heap.size ≤ q → A q) (hbA : ¬ A b) {aX aM : Nat → Nat} {dX dM : Nat → ClassId} (hK : va_K D vwCl (tf_TT dX dM) s) {Q : State → Prop} {i : Nat} (hi : i + 4 ≤ L) (after : tf_At p l e s m below meth c D A b i aX aM dX dM Q 412) : tf_At p l e s m below meth c D A b i aX aM dX dM Q 228 := by
  obtain ⟨hx, hb, hr, hml, hown, hts0, hX, hbl, hlocks, hgv⟩ := C0
  have hts : ∀ w ∈ lw_all, w.before #[Value.ref b] s = true := fun w h => hts0 w (lw_all_tbl h)
  have S : CallFix p m c code 4 s #[Value.ref b] lw_all R_law := ⟨hx, hb, hml, hown, hts⟩
  intro g u v H locs ls hg hu hv hP hD hS hl
  obtain ⟨c0, r0, f0, l0, kn, fi, se, bo⟩ := u
  obtain ⟨k0, m0⟩ := v
  refine lv_aload_n hx hb dL_law_228 rfl (lv_at hl 1 rfl) ?_
  refine lv_aload_n hx hb dL_law_229 rfl (lv_at hl 0 rfl) ?_
  refine lv_iload_n hx hb dL_law_230 rfl (lv_at hl 3 rfl) ?_
  refine lv_iconst (v := nI 1) hx hb dL_law_231 (by decide) ?_
  refine lv_iadd hx hb dL_law_232 ?_
  refine tf_top (nI (i + 1)) (nI_add _ _) ?_
  refine tf_sld (k := i + 1) hx hb hX hbl hbA hS (by omega) (by omega) dL_law_233 ?_
  refine tf_calli (wf := wX aX dX) (u := (c0, r0, f0, l0, kn, fi, se, bo)) (wr := wM aM dM (k0, m0)) (As := [.int (xs (i + 1))]) (rest := []) (ci := 0) (q0 := 0) S hP hK hD hS hA [0, 1, 2, 3, 4] [5, 6, 7] [0, 1, 2, 3] rfl (by decide) rfl (by decide) (by decide) rfl (mX0_alone l D _ aX dX c0 r0 f0 l0 kn fi se bo g (tf_ok_mono hg (by decide)) hu (xs (i + 1))) rfl rfl (cwV 1 hts (lw_V q92 q93 q94 q12 q95) rfl rfl rfl (by decide +kernel) ⟨Nat.le_of_ble_eq_true rfl, Nat.le_of_ble_eq_true rfl⟩) rfl hl.1 rfl (Nat.le_of_ble_eq_true rfl) dL_law_234 ⟨Nat.le_of_ble_eq_true rfl, Nat.le_of_ble_eq_true rfl⟩ (fun r1 u1 H locs hr1 hP hD hS => ?_)
  have hP : va_P D vwCl (wM aM dM (k0, m0) ++ wX aX dX u1) H := hP
  have hD : va_D A (wM aM dM (k0, m0) ++ wX aX dX u1) := hD
  refine lv_aload_n hx hb dL_law_237 rfl (lv_at hl 2 rfl) ?_
  refine lv_aload_n hx hb dL_law_238 rfl (lv_at hl 0 rfl) ?_
  refine lv_iload_n hx hb dL_law_239 rfl (lv_at hl 3 rfl) ?_
  refine lv_iconst (v := nI 1) hx hb dL_law_240 (by decide) ?_
  refine lv_iadd hx hb dL_law_241 ?_
  refine tf_top (nI (i + 1)) (nI_add _ _) ?_
  refine tf_sld (k := i + 1) hx hb hX hbl hbA hS (by omega) (by omega) dL_law_242 ?_
  refine tf_calli (wf := wM aM dM) (u := (k0, m0)) (wr := wX aX dX u1) (As := [.int (xs (i + 1))]) (rest := [.int r1]) (ci := 1) (q0 := 0) S hP hK hD hS hA [0, 1, 2] [3, 4, 5, 6, 7] [4, 5] rfl (by decide) rfl (by decide) (by decide) rfl (mX1_alone l D _ aM dM k0 m0 g hg hv (xs (i + 1))) rfl rfl (cwV 1 hts (lw_V q177 q178 q179 q13 q180) rfl rfl rfl (by decide +kernel) ⟨Nat.le_of_ble_eq_true rfl, Nat.le_of_ble_eq_true rfl⟩) rfl hl.1 rfl (Nat.le_of_ble_eq_true rfl) dL_law_243 ⟨Nat.le_of_ble_eq_true rfl, Nat.le_of_ble_eq_true rfl⟩ (fun r2 v1 H locs hr2 hP hD hS => ?_)
  have hP : va_P D vwCl (wX aX dX u1 ++ wM aM dM v1) H := hP
  have hD : va_D A (wX aX dX u1 ++ wM aM dM v1) := hD
  refine lv_icmp_eq (tgt := 412) hx hb dL_law_246 (by decide) (fun c1 => ?_) (fun c1 => ?_)
  · exact after _ u1 v1 H locs ls hg (hr1.2.XS) hr2.2 hP hD hS hl
  · exact absurd (hr1.1.trans hr2.1.symm) c1
set_option maxHeartbeats 4000000 in
set_option maxRecDepth 100000 in
/-- the case 5: most -/
theorem lw_case_most {p : Program} {e : Env} {s : State} {m : MethodId} {below : List Frame} {meth : Method} {c : Code} (l : Launch) {b L : Nat} {xs : Nat → Int32} (hL : L ≤ 256) (C0 : lw_At p s m meth c b L xs) {D : va_G} {A : Nat → Prop} (hA : ∀ q : Nat, s.heap.size ≤ q → A q) (hbA : ¬ A b) {aX aM : Nat → Nat} {dX dM : Nat → ClassId} (hK : va_K D vwCl (tf_TT dX dM) s) {Q : State → Prop} {i : Nat} (hi : i + 4 ≤ L) (after : tf_At p l e s m below meth c D A b i aX aM dX dM Q 412) : tf_At p l e s m below meth c D A b i aX aM dX dM Q 251 := by
  obtain ⟨hx, hb, hr, hml, hown, hts0, hX, hbl, hlocks, hgv⟩ := C0
  have hts : ∀ w ∈ lw_all, w.before #[Value.ref b] s = true := fun w h => hts0 w (lw_all_tbl h)
  have S : CallFix p m c code 4 s #[Value.ref b] lw_all R_law := ⟨hx, hb, hml, hown, hts⟩
  intro g u v H locs ls hg hu hv hP hD hS hl
  obtain ⟨c0, r0, f0, l0, kn, fi, se, bo⟩ := u
  obtain ⟨k0, m0⟩ := v
  refine lv_aload_n hx hb dL_law_251 rfl (lv_at hl 1 rfl) ?_
  refine tf_calli (wf := wX aX dX) (u := (c0, r0, f0, l0, kn, fi, se, bo)) (wr := wM aM dM (k0, m0)) (As := []) (rest := []) (ci := 0) (q0 := 0) S hP hK hD hS hA [0, 1, 2, 3, 4] [5, 6, 7] [0, 1, 2, 3] rfl (by decide) rfl (by decide) (by decide) rfl (mX0_most l D _ aX dX c0 r0 f0 l0 kn fi se bo g (tf_ok_mono hg (by decide)) hu ) rfl rfl (cwV 0 hts (lw_V q96 q97 q98 q12 q99) rfl rfl rfl (by decide +kernel) ⟨Nat.le_of_ble_eq_true rfl, Nat.le_of_ble_eq_true rfl⟩) rfl hl.1 rfl (Nat.le_of_ble_eq_true rfl) dL_law_252 ⟨Nat.le_of_ble_eq_true rfl, Nat.le_of_ble_eq_true rfl⟩ (fun r1 u1 H locs hr1 hP hD hS => ?_)
  have hP : va_P D vwCl (wM aM dM (k0, m0) ++ wX aX dX u1) H := hP
  have hD : va_D A (wM aM dM (k0, m0) ++ wX aX dX u1) := hD
  refine lv_aload_n hx hb dL_law_255 rfl (lv_at hl 2 rfl) ?_
  refine tf_calli (wf := wM aM dM) (u := (k0, m0)) (wr := wX aX dX u1) (As := []) (rest := [.int r1]) (ci := 1) (q0 := 0) S hP hK hD hS hA [0, 1, 2] [3, 4, 5, 6, 7] [4, 5] rfl (by decide) rfl (by decide) (by decide) rfl (mX1_most l D _ aM dM k0 m0 g (tf_ok_mono hg (by decide)) hv ) rfl rfl (cwV 0 hts (lw_V q181 q182 q183 q13 q184) rfl rfl rfl (by decide +kernel) ⟨Nat.le_of_ble_eq_true rfl, Nat.le_of_ble_eq_true rfl⟩) rfl hl.1 rfl (Nat.le_of_ble_eq_true rfl) dL_law_256 ⟨Nat.le_of_ble_eq_true rfl, Nat.le_of_ble_eq_true rfl⟩ (fun r2 v1 H locs hr2 hP hD hS => ?_)
  have hP : va_P D vwCl (wX aX dX u1 ++ wM aM dM v1) H := hP
  have hD : va_D A (wX aX dX u1 ++ wM aM dM v1) := hD
  refine lv_icmp_eq (tgt := 412) hx hb dL_law_259 (by decide) (fun c1 => ?_) (fun c1 => ?_)
  · exact after _ u1 v1 H locs ls hg (hr1.2.XS) (by obtain ⟨m1, rfl⟩ := hr2.2; exact hv) hP hD hS hl
  · exact absurd (hr1.1.trans hr2.1.symm) c1
set_option maxHeartbeats 4000000 in
set_option maxRecDepth 100000 in
/-- the case 6: besides -/
theorem lw_case_besides {p : Program} {e : Env} {s : State} {m : MethodId} {below : List Frame} {meth : Method} {c : Code} (l : Launch) {b L : Nat} {xs : Nat → Int32} (hL : L ≤ 256) (C0 : lw_At p s m meth c b L xs) {D : va_G} {A : Nat → Prop} (hA : ∀ q : Nat, s.heap.size ≤ q → A q) (hbA : ¬ A b) {aX aM : Nat → Nat} {dX dM : Nat → ClassId} (hK : va_K D vwCl (tf_TT dX dM) s) {Q : State → Prop} {i : Nat} (hi : i + 4 ≤ L) (after : tf_At p l e s m below meth c D A b i aX aM dX dM Q 412) : tf_At p l e s m below meth c D A b i aX aM dX dM Q 264 := by
  obtain ⟨hx, hb, hr, hml, hown, hts0, hX, hbl, hlocks, hgv⟩ := C0
  have hts : ∀ w ∈ lw_all, w.before #[Value.ref b] s = true := fun w h => hts0 w (lw_all_tbl h)
  have S : CallFix p m c code 4 s #[Value.ref b] lw_all R_law := ⟨hx, hb, hml, hown, hts⟩
  intro g u v H locs ls hg hu hv hP hD hS hl
  obtain ⟨c0, r0, f0, l0, kn, fi, se, bo⟩ := u
  obtain ⟨k0, m0⟩ := v
  refine lv_aload_n hx hb dL_law_264 rfl (lv_at hl 1 rfl) ?_
  refine lv_aload_n hx hb dL_law_265 rfl (lv_at hl 0 rfl) ?_
  refine lv_iload_n hx hb dL_law_266 rfl (lv_at hl 3 rfl) ?_
  refine lv_iconst (v := nI 1) hx hb dL_law_267 (by decide) ?_
  refine lv_iadd hx hb dL_law_268 ?_
  refine tf_top (nI (i + 1)) (nI_add _ _) ?_
  refine tf_sld (k := i + 1) hx hb hX hbl hbA hS (by omega) (by omega) dL_law_269 ?_
  refine tf_calli (wf := wX aX dX) (u := (c0, r0, f0, l0, kn, fi, se, bo)) (wr := wM aM dM (k0, m0)) (As := [.int (xs (i + 1))]) (rest := []) (ci := 0) (q0 := 0) S hP hK hD hS hA [0, 1, 2, 3, 4] [5, 6, 7] [0, 1, 2, 3] rfl (by decide) rfl (by decide) (by decide) rfl (mX0_besides l D _ aX dX c0 r0 f0 l0 kn fi se bo g (tf_ok_mono hg (by decide)) hu (xs (i + 1))) rfl rfl (cwV 1 hts (lw_V q100 q101 q102 q12 q103) rfl rfl rfl (by decide +kernel) ⟨Nat.le_of_ble_eq_true rfl, Nat.le_of_ble_eq_true rfl⟩) rfl hl.1 rfl (Nat.le_of_ble_eq_true rfl) dL_law_270 ⟨Nat.le_of_ble_eq_true rfl, Nat.le_of_ble_eq_true rfl⟩ (fun r1 u1 H locs hr1 hP hD hS => ?_)
  have hP : va_P D vwCl (wM aM dM (k0, m0) ++ wX aX dX u1) H := hP
  have hD : va_D A (wM aM dM (k0, m0) ++ wX aX dX u1) := hD
  refine lv_aload_n hx hb dL_law_273 rfl (lv_at hl 2 rfl) ?_
  refine lv_aload_n hx hb dL_law_274 rfl (lv_at hl 0 rfl) ?_
  refine lv_iload_n hx hb dL_law_275 rfl (lv_at hl 3 rfl) ?_
  refine lv_iconst (v := nI 1) hx hb dL_law_276 (by decide) ?_
  refine lv_iadd hx hb dL_law_277 ?_
  refine tf_top (nI (i + 1)) (nI_add _ _) ?_
  refine tf_sld (k := i + 1) hx hb hX hbl hbA hS (by omega) (by omega) dL_law_278 ?_
  refine tf_calli (wf := wM aM dM) (u := (k0, m0)) (wr := wX aX dX u1) (As := [.int (xs (i + 1))]) (rest := [.int r1]) (ci := 1) (q0 := 0) S hP hK hD hS hA [0, 1, 2] [3, 4, 5, 6, 7] [4, 5] rfl (by decide) rfl (by decide) (by decide) rfl (mX1_besides l D _ aM dM k0 m0 g hg hv (xs (i + 1))) rfl rfl (cwV 1 hts (lw_V q185 q186 q187 q13 q188) rfl rfl rfl (by decide +kernel) ⟨Nat.le_of_ble_eq_true rfl, Nat.le_of_ble_eq_true rfl⟩) rfl hl.1 rfl (Nat.le_of_ble_eq_true rfl) dL_law_279 ⟨Nat.le_of_ble_eq_true rfl, Nat.le_of_ble_eq_true rfl⟩ (fun r2 v1 H locs hr2 hP hD hS => ?_)
  have hP : va_P D vwCl (wX aX dX u1 ++ wM aM dM v1) H := hP
  have hD : va_D A (wX aX dX u1 ++ wM aM dM v1) := hD
  refine lv_icmp_eq (tgt := 412) hx hb dL_law_282 (by decide) (fun c1 => ?_) (fun c1 => ?_)
  · exact after _ u1 v1 H locs ls hg (hr1.2.XS) hr2.2 hP hD hS hl
  · exact absurd (hr1.1.trans hr2.1.symm) c1
set_option maxHeartbeats 4000000 in
set_option maxRecDepth 100000 in
/-- the case 7: evenly -/
theorem lw_case_evenly {p : Program} {e : Env} {s : State} {m : MethodId} {below : List Frame} {meth : Method} {c : Code} (l : Launch) {b L : Nat} {xs : Nat → Int32} (hL : L ≤ 256) (C0 : lw_At p s m meth c b L xs) {D : va_G} {A : Nat → Prop} (hA : ∀ q : Nat, s.heap.size ≤ q → A q) (hbA : ¬ A b) {aX aM : Nat → Nat} {dX dM : Nat → ClassId} (hK : va_K D vwCl (tf_TT dX dM) s) {Q : State → Prop} {i : Nat} (hi : i + 4 ≤ L) (after : tf_At p l e s m below meth c D A b i aX aM dX dM Q 412) : tf_At p l e s m below meth c D A b i aX aM dX dM Q 287 := by
  obtain ⟨hx, hb, hr, hml, hown, hts0, hX, hbl, hlocks, hgv⟩ := C0
  have hts : ∀ w ∈ lw_all, w.before #[Value.ref b] s = true := fun w h => hts0 w (lw_all_tbl h)
  have S : CallFix p m c code 4 s #[Value.ref b] lw_all R_law := ⟨hx, hb, hml, hown, hts⟩
  intro g u v H locs ls hg hu hv hP hD hS hl
  obtain ⟨c0, r0, f0, l0, kn, fi, se, bo⟩ := u
  obtain ⟨k0, m0⟩ := v
  refine lv_aload_n hx hb dL_law_287 rfl (lv_at hl 1 rfl) ?_
  refine tf_calli (wf := wX aX dX) (u := (c0, r0, f0, l0, kn, fi, se, bo)) (wr := wM aM dM (k0, m0)) (As := []) (rest := []) (ci := 0) (q0 := 0) S hP hK hD hS hA [0, 1, 2, 3, 4] [5, 6, 7] [0, 1, 2, 3] rfl (by decide) rfl (by decide) (by decide) rfl (mX0_evenly l D _ aX dX c0 r0 f0 l0 kn fi se bo g (tf_ok_mono hg (by decide)) hu ) rfl rfl (cwV 0 hts (lw_V q104 q105 q106 q12 q107) rfl rfl rfl (by decide +kernel) ⟨Nat.le_of_ble_eq_true rfl, Nat.le_of_ble_eq_true rfl⟩) rfl hl.1 rfl (Nat.le_of_ble_eq_true rfl) dL_law_288 ⟨Nat.le_of_ble_eq_true rfl, Nat.le_of_ble_eq_true rfl⟩ (fun r1 u1 H locs hr1 hP hD hS => ?_)
  have hP : va_P D vwCl (wM aM dM (k0, m0) ++ wX aX dX u1) H := hP
  have hD : va_D A (wM aM dM (k0, m0) ++ wX aX dX u1) := hD
  refine lv_aload_n hx hb dL_law_291 rfl (lv_at hl 2 rfl) ?_
  refine tf_calli (wf := wM aM dM) (u := (k0, m0)) (wr := wX aX dX u1) (As := []) (rest := [.int r1]) (ci := 1) (q0 := 0) S hP hK hD hS hA [0, 1, 2] [3, 4, 5, 6, 7] [4, 5] rfl (by decide) rfl (by decide) (by decide) rfl (mX1_evenly l D _ aM dM k0 m0 g hg hv ) rfl rfl (cwV 0 hts (lw_V q189 q190 q191 q13 q192) rfl rfl rfl (by decide +kernel) ⟨Nat.le_of_ble_eq_true rfl, Nat.le_of_ble_eq_true rfl⟩) rfl hl.1 rfl (Nat.le_of_ble_eq_true rfl) dL_law_292 ⟨Nat.le_of_ble_eq_true rfl, Nat.le_of_ble_eq_true rfl⟩ (fun r2 v1 H locs hr2 hP hD hS => ?_)
  have hP : va_P D vwCl (wX aX dX u1 ++ wM aM dM v1) H := hP
  have hD : va_D A (wX aX dX u1 ++ wM aM dM v1) := hD
  refine lv_icmp_eq (tgt := 412) hx hb dL_law_295 (by decide) (fun c1 => ?_) (fun c1 => ?_)
  · exact after _ u1 v1 H locs ls hg (hr1.2.XS) hr2.2 hP hD hS hl
  · exact absurd (hr1.1.trans hr2.1.symm) c1
set_option maxHeartbeats 4000000 in
set_option maxRecDepth 100000 in
/-- the case 8: pairs -/
theorem lw_case_pairs {p : Program} {e : Env} {s : State} {m : MethodId} {below : List Frame} {meth : Method} {c : Code} (l : Launch) {b L : Nat} {xs : Nat → Int32} (hL : L ≤ 256) (C0 : lw_At p s m meth c b L xs) {D : va_G} {A : Nat → Prop} (hA : ∀ q : Nat, s.heap.size ≤ q → A q) (hbA : ¬ A b) {aX aM : Nat → Nat} {dX dM : Nat → ClassId} (hK : va_K D vwCl (tf_TT dX dM) s) {Q : State → Prop} {i : Nat} (hi : i + 4 ≤ L) (after : tf_At p l e s m below meth c D A b i aX aM dX dM Q 412) : tf_At p l e s m below meth c D A b i aX aM dX dM Q 300 := by
  obtain ⟨hx, hb, hr, hml, hown, hts0, hX, hbl, hlocks, hgv⟩ := C0
  have hts : ∀ w ∈ lw_all, w.before #[Value.ref b] s = true := fun w h => hts0 w (lw_all_tbl h)
  have S : CallFix p m c code 4 s #[Value.ref b] lw_all R_law := ⟨hx, hb, hml, hown, hts⟩
  intro g u v H locs ls hg hu hv hP hD hS hl
  obtain ⟨c0, r0, f0, l0, kn, fi, se, bo⟩ := u
  obtain ⟨k0, m0⟩ := v
  refine lv_aload_n hx hb dL_law_300 rfl (lv_at hl 1 rfl) ?_
  refine tf_calli (wf := wX aX dX) (u := (c0, r0, f0, l0, kn, fi, se, bo)) (wr := wM aM dM (k0, m0)) (As := []) (rest := []) (ci := 0) (q0 := 0) S hP hK hD hS hA [0, 1, 2, 3, 4] [5, 6, 7] [0, 1, 2, 3] rfl (by decide) rfl (by decide) (by decide) rfl (mX0_pairs l D _ aX dX c0 r0 f0 l0 kn fi se bo g (tf_ok_mono hg (by decide)) hu ) rfl rfl (cwV 0 hts (lw_V q108 q109 q110 q12 q111) rfl rfl rfl (by decide +kernel) ⟨Nat.le_of_ble_eq_true rfl, Nat.le_of_ble_eq_true rfl⟩) rfl hl.1 rfl (Nat.le_of_ble_eq_true rfl) dL_law_301 ⟨Nat.le_of_ble_eq_true rfl, Nat.le_of_ble_eq_true rfl⟩ (fun r1 u1 H locs hr1 hP hD hS => ?_)
  have hP : va_P D vwCl (wM aM dM (k0, m0) ++ wX aX dX u1) H := hP
  have hD : va_D A (wM aM dM (k0, m0) ++ wX aX dX u1) := hD
  refine lv_aload_n hx hb dL_law_304 rfl (lv_at hl 2 rfl) ?_
  refine tf_calli (wf := wM aM dM) (u := (k0, m0)) (wr := wX aX dX u1) (As := []) (rest := [.int r1]) (ci := 1) (q0 := 0) S hP hK hD hS hA [0, 1, 2] [3, 4, 5, 6, 7] [4, 5] rfl (by decide) rfl (by decide) (by decide) rfl (mX1_pairs l D _ aM dM k0 m0 g hg hv ) rfl rfl (cwV 0 hts (lw_V q193 q194 q195 q13 q196) rfl rfl rfl (by decide +kernel) ⟨Nat.le_of_ble_eq_true rfl, Nat.le_of_ble_eq_true rfl⟩) rfl hl.1 rfl (Nat.le_of_ble_eq_true rfl) dL_law_305 ⟨Nat.le_of_ble_eq_true rfl, Nat.le_of_ble_eq_true rfl⟩ (fun r2 v1 H locs hr2 hP hD hS => ?_)
  have hP : va_P D vwCl (wX aX dX u1 ++ wM aM dM v1) H := hP
  have hD : va_D A (wX aX dX u1 ++ wM aM dM v1) := hD
  refine lv_icmp_eq (tgt := 412) hx hb dL_law_308 (by decide) (fun c1 => ?_) (fun c1 => ?_)
  · exact after _ u1 v1 H locs ls hg (hr1.2.XS) hr2.2 hP hD hS hl
  · exact absurd (hr1.1.trans hr2.1.symm) c1
set_option maxHeartbeats 4000000 in
set_option maxRecDepth 100000 in
/-- the case 9: worth -/
theorem lw_case_worth {p : Program} {e : Env} {s : State} {m : MethodId} {below : List Frame} {meth : Method} {c : Code} (l : Launch) {b L : Nat} {xs : Nat → Int32} (hL : L ≤ 256) (C0 : lw_At p s m meth c b L xs) {D : va_G} {A : Nat → Prop} (hA : ∀ q : Nat, s.heap.size ≤ q → A q) (hbA : ¬ A b) {aX aM : Nat → Nat} {dX dM : Nat → ClassId} (hK : va_K D vwCl (tf_TT dX dM) s) {Q : State → Prop} {i : Nat} (hi : i + 4 ≤ L) (after : tf_At p l e s m below meth c D A b i aX aM dX dM Q 412) : tf_At p l e s m below meth c D A b i aX aM dX dM Q 313 := by
  obtain ⟨hx, hb, hr, hml, hown, hts0, hX, hbl, hlocks, hgv⟩ := C0
  have hts : ∀ w ∈ lw_all, w.before #[Value.ref b] s = true := fun w h => hts0 w (lw_all_tbl h)
  have S : CallFix p m c code 4 s #[Value.ref b] lw_all R_law := ⟨hx, hb, hml, hown, hts⟩
  intro g u v H locs ls hg hu hv hP hD hS hl
  obtain ⟨c0, r0, f0, l0, kn, fi, se, bo⟩ := u
  obtain ⟨k0, m0⟩ := v
  refine lv_aload_n hx hb dL_law_313 rfl (lv_at hl 1 rfl) ?_
  refine lv_aload_n hx hb dL_law_314 rfl (lv_at hl 0 rfl) ?_
  refine lv_iload_n hx hb dL_law_315 rfl (lv_at hl 3 rfl) ?_
  refine lv_iconst (v := nI 1) hx hb dL_law_316 (by decide) ?_
  refine lv_iadd hx hb dL_law_317 ?_
  refine tf_top (nI (i + 1)) (nI_add _ _) ?_
  refine tf_sld (k := i + 1) hx hb hX hbl hbA hS (by omega) (by omega) dL_law_318 ?_
  refine lv_aload_n hx hb dL_law_319 rfl (lv_at hl 0 rfl) ?_
  refine lv_iload_n hx hb dL_law_320 rfl (lv_at hl 3 rfl) ?_
  refine lv_iconst (v := nI 2) hx hb dL_law_321 (by decide) ?_
  refine lv_iadd hx hb dL_law_322 ?_
  refine tf_top (nI (i + 2)) (nI_add _ _) ?_
  refine tf_sld (k := i + 2) hx hb hX hbl hbA hS (by omega) (by omega) dL_law_323 ?_
  refine tf_calli (wf := wX aX dX) (u := (c0, r0, f0, l0, kn, fi, se, bo)) (wr := wM aM dM (k0, m0)) (As := [.int (xs (i + 1)), .int (xs (i + 2))]) (rest := []) (ci := 0) (q0 := 0) S hP hK hD hS hA [0, 1, 2, 3, 4] [5, 6, 7] [0, 1, 2, 3] rfl (by decide) rfl (by decide) (by decide) rfl (mX0_worth l D _ aX dX c0 r0 f0 l0 kn fi se bo g hg hu (xs (i + 1)) (xs (i + 2))) rfl rfl (cwV 2 hts (lw_V q113 q114 q115 q12 q116) rfl rfl rfl (by decide +kernel) ⟨Nat.le_of_ble_eq_true rfl, Nat.le_of_ble_eq_true rfl⟩) rfl hl.1 rfl (Nat.le_of_ble_eq_true rfl) dL_law_324 ⟨Nat.le_of_ble_eq_true rfl, Nat.le_of_ble_eq_true rfl⟩ (fun r1 u1 H locs hr1 hP hD hS => ?_)
  have hP : va_P D vwCl (wM aM dM (k0, m0) ++ wX aX dX u1) H := hP
  have hD : va_D A (wM aM dM (k0, m0) ++ wX aX dX u1) := hD
  refine lv_aload_n hx hb dL_law_327 rfl (lv_at hl 2 rfl) ?_
  refine lv_aload_n hx hb dL_law_328 rfl (lv_at hl 0 rfl) ?_
  refine lv_iload_n hx hb dL_law_329 rfl (lv_at hl 3 rfl) ?_
  refine lv_iconst (v := nI 1) hx hb dL_law_330 (by decide) ?_
  refine lv_iadd hx hb dL_law_331 ?_
  refine tf_top (nI (i + 1)) (nI_add _ _) ?_
  refine tf_sld (k := i + 1) hx hb hX hbl hbA hS (by omega) (by omega) dL_law_332 ?_
  refine lv_aload_n hx hb dL_law_333 rfl (lv_at hl 0 rfl) ?_
  refine lv_iload_n hx hb dL_law_334 rfl (lv_at hl 3 rfl) ?_
  refine lv_iconst (v := nI 2) hx hb dL_law_335 (by decide) ?_
  refine lv_iadd hx hb dL_law_336 ?_
  refine tf_top (nI (i + 2)) (nI_add _ _) ?_
  refine tf_sld (k := i + 2) hx hb hX hbl hbA hS (by omega) (by omega) dL_law_337 ?_
  refine tf_calli (wf := wM aM dM) (u := (k0, m0)) (wr := wX aX dX u1) (As := [.int (xs (i + 1)), .int (xs (i + 2))]) (rest := [.int r1]) (ci := 1) (q0 := 0) S hP hK hD hS hA [0, 1, 2] [3, 4, 5, 6, 7] [4, 5] rfl (by decide) rfl (by decide) (by decide) rfl (mX1_worth l D _ aM dM k0 m0 g hg hv (xs (i + 1)) (xs (i + 2))) rfl rfl (cwV 2 hts (lw_V q197 q198 q199 q13 q200) rfl rfl rfl (by decide +kernel) ⟨Nat.le_of_ble_eq_true rfl, Nat.le_of_ble_eq_true rfl⟩) rfl hl.1 rfl (Nat.le_of_ble_eq_true rfl) dL_law_338 ⟨Nat.le_of_ble_eq_true rfl, Nat.le_of_ble_eq_true rfl⟩ (fun r2 v1 H locs hr2 hP hD hS => ?_)
  have hP : va_P D vwCl (wX aX dX u1 ++ wM aM dM v1) H := hP
  have hD : va_D A (wX aX dX u1 ++ wM aM dM v1) := hD
  refine lv_icmp_eq (tgt := 412) hx hb dL_law_341 (by decide) (fun c1 => ?_) (fun c1 => ?_)
  · exact after _ u1 v1 H locs ls hg (hr1.2) hr2.2 hP hD hS hl
  · exact absurd (hr1.1.trans hr2.1.symm) c1
set_option maxHeartbeats 4000000 in
set_option maxRecDepth 100000 in
/-- the case 10: loss -/
theorem lw_case_loss {p : Program} {e : Env} {s : State} {m : MethodId} {below : List Frame} {meth : Method} {c : Code} (l : Launch) {b L : Nat} {xs : Nat → Int32} (hL : L ≤ 256) (C0 : lw_At p s m meth c b L xs) {D : va_G} {A : Nat → Prop} (hA : ∀ q : Nat, s.heap.size ≤ q → A q) (hbA : ¬ A b) {aX aM : Nat → Nat} {dX dM : Nat → ClassId} (hK : va_K D vwCl (tf_TT dX dM) s) {Q : State → Prop} {i : Nat} (hi : i + 4 ≤ L) (after : tf_At p l e s m below meth c D A b i aX aM dX dM Q 412) : tf_At p l e s m below meth c D A b i aX aM dX dM Q 346 := by
  obtain ⟨hx, hb, hr, hml, hown, hts0, hX, hbl, hlocks, hgv⟩ := C0
  have hts : ∀ w ∈ lw_all, w.before #[Value.ref b] s = true := fun w h => hts0 w (lw_all_tbl h)
  have S : CallFix p m c code 4 s #[Value.ref b] lw_all R_law := ⟨hx, hb, hml, hown, hts⟩
  intro g u v H locs ls hg hu hv hP hD hS hl
  obtain ⟨c0, r0, f0, l0, kn, fi, se, bo⟩ := u
  obtain ⟨k0, m0⟩ := v
  refine lv_aload_n hx hb dL_law_346 rfl (lv_at hl 1 rfl) ?_
  refine lv_aload_n hx hb dL_law_347 rfl (lv_at hl 0 rfl) ?_
  refine lv_iload_n hx hb dL_law_348 rfl (lv_at hl 3 rfl) ?_
  refine lv_iconst (v := nI 1) hx hb dL_law_349 (by decide) ?_
  refine lv_iadd hx hb dL_law_350 ?_
  refine tf_top (nI (i + 1)) (nI_add _ _) ?_
  refine tf_sld (k := i + 1) hx hb hX hbl hbA hS (by omega) (by omega) dL_law_351 ?_
  refine lv_aload_n hx hb dL_law_352 rfl (lv_at hl 0 rfl) ?_
  refine lv_iload_n hx hb dL_law_353 rfl (lv_at hl 3 rfl) ?_
  refine lv_iconst (v := nI 2) hx hb dL_law_354 (by decide) ?_
  refine lv_iadd hx hb dL_law_355 ?_
  refine tf_top (nI (i + 2)) (nI_add _ _) ?_
  refine tf_sld (k := i + 2) hx hb hX hbl hbA hS (by omega) (by omega) dL_law_356 ?_
  refine tf_calli (wf := wX aX dX) (u := (c0, r0, f0, l0, kn, fi, se, bo)) (wr := wM aM dM (k0, m0)) (As := [.int (xs (i + 1)), .int (xs (i + 2))]) (rest := []) (ci := 0) (q0 := 0) S hP hK hD hS hA [0, 1, 2, 3, 4] [5, 6, 7] [0, 1, 2, 3] rfl (by decide) rfl (by decide) (by decide) rfl (mX0_loss l D _ aX dX c0 r0 f0 l0 kn fi se bo g hg hu (xs (i + 1)) (xs (i + 2))) rfl rfl (cwV 2 hts (lw_V q122 q123 q124 q12 q125) rfl rfl rfl (by decide +kernel) ⟨Nat.le_of_ble_eq_true rfl, Nat.le_of_ble_eq_true rfl⟩) rfl hl.1 rfl (Nat.le_of_ble_eq_true rfl) dL_law_357 ⟨Nat.le_of_ble_eq_true rfl, Nat.le_of_ble_eq_true rfl⟩ (fun r1 u1 H locs hr1 hP hD hS => ?_)
  have hP : va_P D vwCl (wM aM dM (k0, m0) ++ wX aX dX u1) H := hP
  have hD : va_D A (wM aM dM (k0, m0) ++ wX aX dX u1) := hD
  refine lv_aload_n hx hb dL_law_360 rfl (lv_at hl 2 rfl) ?_
  refine lv_aload_n hx hb dL_law_361 rfl (lv_at hl 0 rfl) ?_
  refine lv_iload_n hx hb dL_law_362 rfl (lv_at hl 3 rfl) ?_
  refine lv_iconst (v := nI 1) hx hb dL_law_363 (by decide) ?_
  refine lv_iadd hx hb dL_law_364 ?_
  refine tf_top (nI (i + 1)) (nI_add _ _) ?_
  refine tf_sld (k := i + 1) hx hb hX hbl hbA hS (by omega) (by omega) dL_law_365 ?_
  refine lv_aload_n hx hb dL_law_366 rfl (lv_at hl 0 rfl) ?_
  refine lv_iload_n hx hb dL_law_367 rfl (lv_at hl 3 rfl) ?_
  refine lv_iconst (v := nI 2) hx hb dL_law_368 (by decide) ?_
  refine lv_iadd hx hb dL_law_369 ?_
  refine tf_top (nI (i + 2)) (nI_add _ _) ?_
  refine tf_sld (k := i + 2) hx hb hX hbl hbA hS (by omega) (by omega) dL_law_370 ?_
  refine tf_calli (wf := wM aM dM) (u := (k0, m0)) (wr := wX aX dX u1) (As := [.int (xs (i + 1)), .int (xs (i + 2))]) (rest := [.int r1]) (ci := 1) (q0 := 0) S hP hK hD hS hA [0, 1, 2] [3, 4, 5, 6, 7] [4, 5] rfl (by decide) rfl (by decide) (by decide) rfl (mX1_loss l D _ aM dM k0 m0 g hg hv (xs (i + 1)) (xs (i + 2))) rfl rfl (cwV 2 hts (lw_V q206 q207 q208 q13 q209) rfl rfl rfl (by decide +kernel) ⟨Nat.le_of_ble_eq_true rfl, Nat.le_of_ble_eq_true rfl⟩) rfl hl.1 rfl (Nat.le_of_ble_eq_true rfl) dL_law_371 ⟨Nat.le_of_ble_eq_true rfl, Nat.le_of_ble_eq_true rfl⟩ (fun r2 v1 H locs hr2 hP hD hS => ?_)
  have hP : va_P D vwCl (wX aX dX u1 ++ wM aM dM v1) H := hP
  have hD : va_D A (wX aX dX u1 ++ wM aM dM v1) := hD
  refine lv_icmp_eq (tgt := 412) hx hb dL_law_374 (by decide) (fun c1 => ?_) (fun c1 => ?_)
  · exact after _ u1 v1 H locs ls hg (hr1.2) hr2.2 hP hD hS hl
  · exact absurd (hr1.1.trans hr2.1.symm) c1
set_option maxHeartbeats 4000000 in
set_option maxRecDepth 100000 in
/-- the case 11: full -/
theorem lw_case_full {p : Program} {e : Env} {s : State} {m : MethodId} {below : List Frame} {meth : Method} {c : Code} (l : Launch) {b L : Nat} {xs : Nat → Int32} (hL : L ≤ 256) (C0 : lw_At p s m meth c b L xs) {D : va_G} {A : Nat → Prop} (hA : ∀ q : Nat, s.heap.size ≤ q → A q) (hbA : ¬ A b) {aX aM : Nat → Nat} {dX dM : Nat → ClassId} (hK : va_K D vwCl (tf_TT dX dM) s) {Q : State → Prop} {i : Nat} (hi : i + 4 ≤ L) (after : tf_At p l e s m below meth c D A b i aX aM dX dM Q 412) : tf_At p l e s m below meth c D A b i aX aM dX dM Q 379 := by
  obtain ⟨hx, hb, hr, hml, hown, hts0, hX, hbl, hlocks, hgv⟩ := C0
  have hts : ∀ w ∈ lw_all, w.before #[Value.ref b] s = true := fun w h => hts0 w (lw_all_tbl h)
  have S : CallFix p m c code 4 s #[Value.ref b] lw_all R_law := ⟨hx, hb, hml, hown, hts⟩
  intro g u v H locs ls hg hu hv hP hD hS hl
  obtain ⟨c0, r0, f0, l0, kn, fi, se, bo⟩ := u
  obtain ⟨k0, m0⟩ := v
  refine lv_aload_n hx hb dL_law_379 rfl (lv_at hl 1 rfl) ?_
  refine lv_aload_n hx hb dL_law_380 rfl (lv_at hl 0 rfl) ?_
  refine lv_iload_n hx hb dL_law_381 rfl (lv_at hl 3 rfl) ?_
  refine lv_iconst (v := nI 1) hx hb dL_law_382 (by decide) ?_
  refine lv_iadd hx hb dL_law_383 ?_
  refine tf_top (nI (i + 1)) (nI_add _ _) ?_
  refine tf_sld (k := i + 1) hx hb hX hbl hbA hS (by omega) (by omega) dL_law_384 ?_
  refine lv_aload_n hx hb dL_law_385 rfl (lv_at hl 0 rfl) ?_
  refine lv_iload_n hx hb dL_law_386 rfl (lv_at hl 3 rfl) ?_
  refine lv_iconst (v := nI 2) hx hb dL_law_387 (by decide) ?_
  refine lv_iadd hx hb dL_law_388 ?_
  refine tf_top (nI (i + 2)) (nI_add _ _) ?_
  refine tf_sld (k := i + 2) hx hb hX hbl hbA hS (by omega) (by omega) dL_law_389 ?_
  refine tf_calli (wf := wX aX dX) (u := (c0, r0, f0, l0, kn, fi, se, bo)) (wr := wM aM dM (k0, m0)) (As := [.int (xs (i + 1)), .int (xs (i + 2))]) (rest := []) (ci := 0) (q0 := 0) S hP hK hD hS hA [0, 1, 2, 3, 4] [5, 6, 7] [0, 1, 2, 3] rfl (by decide) rfl (by decide) (by decide) rfl (mX0_full l D _ aX dX c0 r0 f0 l0 kn fi se bo g (tf_ok_mono hg (by decide)) hu (xs (i + 1)) (xs (i + 2))) rfl rfl (cwV 2 hts (lw_V q126 q127 q128 q12 q129) rfl rfl rfl (by decide +kernel) ⟨Nat.le_of_ble_eq_true rfl, Nat.le_of_ble_eq_true rfl⟩) rfl hl.1 rfl (Nat.le_of_ble_eq_true rfl) dL_law_390 ⟨Nat.le_of_ble_eq_true rfl, Nat.le_of_ble_eq_true rfl⟩ (fun r1 u1 H locs hr1 hP hD hS => ?_)
  have hP : va_P D vwCl (wM aM dM (k0, m0) ++ wX aX dX u1) H := hP
  have hD : va_D A (wM aM dM (k0, m0) ++ wX aX dX u1) := hD
  refine lv_aload_n hx hb dL_law_393 rfl (lv_at hl 2 rfl) ?_
  refine lv_aload_n hx hb dL_law_394 rfl (lv_at hl 0 rfl) ?_
  refine lv_iload_n hx hb dL_law_395 rfl (lv_at hl 3 rfl) ?_
  refine lv_iconst (v := nI 1) hx hb dL_law_396 (by decide) ?_
  refine lv_iadd hx hb dL_law_397 ?_
  refine tf_top (nI (i + 1)) (nI_add _ _) ?_
  refine tf_sld (k := i + 1) hx hb hX hbl hbA hS (by omega) (by omega) dL_law_398 ?_
  refine lv_aload_n hx hb dL_law_399 rfl (lv_at hl 0 rfl) ?_
  refine lv_iload_n hx hb dL_law_400 rfl (lv_at hl 3 rfl) ?_
  refine lv_iconst (v := nI 2) hx hb dL_law_401 (by decide) ?_
  refine lv_iadd hx hb dL_law_402 ?_
  refine tf_top (nI (i + 2)) (nI_add _ _) ?_
  refine tf_sld (k := i + 2) hx hb hX hbl hbA hS (by omega) (by omega) dL_law_403 ?_
  refine tf_calli (wf := wM aM dM) (u := (k0, m0)) (wr := wX aX dX u1) (As := [.int (xs (i + 1)), .int (xs (i + 2))]) (rest := [.int r1]) (ci := 1) (q0 := 0) S hP hK hD hS hA [0, 1, 2] [3, 4, 5, 6, 7] [4, 5] rfl (by decide) rfl (by decide) (by decide) rfl (mX1_full l D _ aM dM k0 m0 g (tf_ok_mono hg (by decide)) hv (xs (i + 1)) (xs (i + 2))) rfl rfl (cwV 2 hts (lw_V q210 q211 q212 q13 q213) rfl rfl rfl (by decide +kernel) ⟨Nat.le_of_ble_eq_true rfl, Nat.le_of_ble_eq_true rfl⟩) rfl hl.1 rfl (Nat.le_of_ble_eq_true rfl) dL_law_404 ⟨Nat.le_of_ble_eq_true rfl, Nat.le_of_ble_eq_true rfl⟩ (fun r2 v1 H locs hr2 hP hD hS => ?_)
  have hP : va_P D vwCl (wX aX dX u1 ++ wM aM dM v1) H := hP
  have hD : va_D A (wX aX dX u1 ++ wM aM dM v1) := hD
  refine lv_icmp_eq (tgt := 412) hx hb dL_law_407 (by decide) (fun c1 => ?_) (fun c1 => ?_)
  · exact after _ u1 v1 H locs ls hg (hr1.2.XS) hr2.2 hP hD hS hl
  · exact absurd (hr1.1.trans hr2.1.symm) c1
end
section
set_option maxHeartbeats 4000000 in
set_option maxRecDepth 100000 in
/-- the law's loop at its head -/
theorem law_loop {p : Program} {e : Env} {s : State} {m : MethodId} {below : List Frame} {meth : Method} {c : Code} (l : Launch) {b L : Nat} {xs : Nat → Int32} (hL : L ≤ 256) (C0 : lw_At p s m meth c b L xs) {D : va_G} {A : Nat → Prop} (hA : ∀ q : Nat, s.heap.size ≤ q → A q) (hbA : ¬ A b) {aX aM : Nat → Nat} {dX dM : Nat → ClassId} (hK : va_K D vwCl (tf_TT dX dM) s) {Q : State → Prop} (hZ : Q = lw_Z below #[Value.ref b] s) (hA1 : ∀ q, A q → s.heap.size ≤ q) : ∀ (n i : Nat), i ≤ L → L + 1 ≤ i + n → tf_At p l e s m below meth c D A b i aX aM dX dM Q 18 := by
  intro n
  induction n with
  | zero =>
    intro i h1 h2
    exact absurd h2 (by omega)
  | succ n ih =>
    intro i hi0 hn g u v H locs ls hg hu hv hP hD hS hl
    obtain ⟨hx, hb, hr, hml, hown, hts0, hX, hbl, hlocks, hgv⟩ := id C0
    refine lv_iload_n hx hb dL_law_18 rfl (lv_at hl 3 rfl) ?_
    refine lv_aload_n hx hb dL_law_19 rfl (lv_at hl 0 rfl) ?_
    refine va_slen hx hb hX hbl hbA hS dL_law_20 ?_
    refine tf_top (nI L) rfl ?_
    refine lv_iconst (v := nI 4) hx hb dL_law_21 (by decide) ?_
    refine lv_isub hx hb dL_law_22 ?_
    refine lv_icmp_gt (tgt := 418) hx hb dL_law_23 (by decide) (fun c1 => ?_) (fun c1 => ?_)
    · refine lv_iconst (v := nI 1) hx hb dL_law_418 (by decide) ?_
      refine va_forget (fun q hq => hA1 _ (hS.2.2 q hq)) ?_
      refine W.widen (k := 600000) (n := 7290000) (Nat.le_of_ble_eq_true rfl) (Nat.le_of_ble_eq_true rfl) ?_
      rw [hZ]
      exact lw_ret hx hb hr hlocks dL_law_419
    · have hi : i + 4 ≤ L := tf_more hL (by omega) c1
      refine lv_aload_n hx hb dL_law_26 rfl (lv_at hl 0 rfl) ?_
      refine lv_iload_n hx hb dL_law_27 rfl (lv_at hl 3 rfl) ?_
      refine tf_sld (k := i) hx hb hX hbl hbA hS (by omega) (by omega) dL_law_28 ?_
      refine lv_bipush (v := nI 15) hx hb dL_law_29 (by decide) ?_
      refine lv_iand hx hb dL_law_31 ?_
      obtain ⟨k, hk, ek⟩ := pk_andE (xs (i)) (m := nI 15) 4 (by decide)
      refine tf_top (nI k) ek ?_
      have after : tf_At p l e s m below meth c D A b i aX aM dX dM Q 412 := by
        intro g u v H locs ls hg hu hv hP hD hS hl
        refine lv_iinc (v := nI (i + 4)) (lv' := [(3, .int (nI (i + 4))), (0, .ref b), (1, .ref (aX 0)), (2, .ref (aM 0))]) hx hb dL_law_412 hl (k := 3) rfl (tf_inc4 _) (by decide) rfl (fun ls hl => ?_)
        refine lv_goto (tgt := 18) hx hb dL_law_415 (by decide) ?_
        exact ih (i + 4) hi (by omega) g u v H locs ls hg hu hv hP hD hS (lv_sub hl [1, 2, 3, 0] rfl)
      rcases (show k = 0 ∨ k = 1 ∨ k = 2 ∨ k = 3 ∨ k = 4 ∨ k = 5 ∨ k = 6 ∨ k = 7 ∨ k = 8 ∨ k = 9 ∨ k = 10 ∨ k = 11 ∨ 12 ≤ k by omega) with rfl | rfl | rfl | rfl | rfl | rfl | rfl | rfl | rfl | rfl | rfl | rfl | hk2
      · refine lv_tableIn (off := 64) (tgt := 96) hx hb dL_law_32 (by decide) (by decide) rfl (by decide) ?_
        exact lw_case_set l hL C0 hA hbA hK hi after g u v H locs ls hg hu hv hP hD hS hl
      · refine lv_tableIn (off := 107) (tgt := 139) hx hb dL_law_32 (by decide) (by decide) rfl (by decide) ?_
        exact lw_case_capacity l hL C0 hA hbA hK hi after g u v H locs ls hg hu hv hP hD hS hl
      · refine lv_tableIn (off := 140) (tgt := 172) hx hb dL_law_32 (by decide) (by decide) rfl (by decide) ?_
        exact lw_case_width l hL C0 hA hbA hK hi after g u v H locs ls hg hu hv hP hD hS hl
      · refine lv_tableIn (off := 163) (tgt := 195) hx hb dL_law_32 (by decide) (by decide) rfl (by decide) ?_
        exact lw_case_carries l hL C0 hA hbA hK hi after g u v H locs ls hg hu hv hP hD hS hl
      · refine lv_tableIn (off := 196) (tgt := 228) hx hb dL_law_32 (by decide) (by decide) rfl (by decide) ?_
        exact lw_case_alone l hL C0 hA hbA hK hi after g u v H locs ls hg hu hv hP hD hS hl
      · refine lv_tableIn (off := 219) (tgt := 251) hx hb dL_law_32 (by decide) (by decide) rfl (by decide) ?_
        exact lw_case_most l hL C0 hA hbA hK hi after g u v H locs ls hg hu hv hP hD hS hl
      · refine lv_tableIn (off := 232) (tgt := 264) hx hb dL_law_32 (by decide) (by decide) rfl (by decide) ?_
        exact lw_case_besides l hL C0 hA hbA hK hi after g u v H locs ls hg hu hv hP hD hS hl
      · refine lv_tableIn (off := 255) (tgt := 287) hx hb dL_law_32 (by decide) (by decide) rfl (by decide) ?_
        exact lw_case_evenly l hL C0 hA hbA hK hi after g u v H locs ls hg hu hv hP hD hS hl
      · refine lv_tableIn (off := 268) (tgt := 300) hx hb dL_law_32 (by decide) (by decide) rfl (by decide) ?_
        exact lw_case_pairs l hL C0 hA hbA hK hi after g u v H locs ls hg hu hv hP hD hS hl
      · refine lv_tableIn (off := 281) (tgt := 313) hx hb dL_law_32 (by decide) (by decide) rfl (by decide) ?_
        exact lw_case_worth l hL C0 hA hbA hK hi after g u v H locs ls hg hu hv hP hD hS hl
      · refine lv_tableIn (off := 314) (tgt := 346) hx hb dL_law_32 (by decide) (by decide) rfl (by decide) ?_
        exact lw_case_loss l hL C0 hA hbA hK hi after g u v H locs ls hg hu hv hP hD hS hl
      · refine lv_tableIn (off := 347) (tgt := 379) hx hb dL_law_32 (by decide) (by decide) rfl (by decide) ?_
        exact lw_case_full l hL C0 hA hbA hK hi after g u v H locs ls hg hu hv hP hD hS hl
      · refine lv_tableOut (tgt := 412) hx hb dL_law_32 (Or.inr (by rw [nI_toInt (by omega)]; omega)) (by decide) ?_
        exact after g u v H locs ls hg hu hv hP hD hS hl
set_option maxHeartbeats 4000000 in
set_option maxRecDepth 100000 in
/-- THE LAW, from its entry -/
theorem whole_start {p : Program} {e : Env} {s : State} {m : MethodId} {below : List Frame} {meth : Method} {c : Code} (l : Launch) {b L : Nat} {xs : Nat → Int32} (hL : L ≤ 256) (C0 : lw_At p s m meth c b L xs) : W p l e room_1 s m #[Value.ref b] below meth c s.heap [] 0 0 (lw_Z below #[Value.ref b] s) (entryFrame m ([Value.ref b] : List Value).toArray 4) := by
  obtain ⟨hx, hb, hr, hml, hown, hts0, hX, hbl, hlocks, hgv⟩ := id C0
  have hts : ∀ w ∈ lw_all, w.before #[Value.ref b] s = true := fun w h => hts0 w (lw_all_tbl h)
  have S : CallFix p m c code 4 s #[Value.ref b] lw_all R_law := ⟨hx, hb, hml, hown, hts⟩
  obtain ⟨A, hAe⟩ : ∃ A : Nat → Prop, A = fun q : Nat => s.heap.size ≤ q := ⟨_, rfl⟩
  have hA : ∀ q : Nat, s.heap.size ≤ q → A q := fun q h => by rw [hAe]; exact h
  have hA1 : ∀ q : Nat, A q → s.heap.size ≤ q := fun q h => by rw [hAe] at h; exact h
  have hbA : ¬ A b := fun h => Nat.not_le.mpr hbl (hA1 b h)
  obtain ⟨c0_, iS0, hKn0⟩ := u_known (C := RX0) (T := TX0) (N := 8) (n := 8) hts in_X0 (hts _ q15)
  obtain ⟨c1_, iS1, hKn1⟩ := u_known (C := RX1) (T := TX1) (N := 2) (n := 2) hts in_X1 (hts _ q132)
  obtain ⟨D, hKD⟩ : ∃ D : va_G, ∀ (k : Nat) (q : vw_C), vwCl[k]? = some q → u_Kn s q.1 q.2.1 q.2.2 (D.1 k) (D.2 k) := by
    refine ⟨(fun k => if k = 0 then c0_ else c1_, fun k => if k = 0 then iS0 else iS1), ?_⟩
    intro k q hq
    match k, hq with
    | 0, hq => cases hq; exact hKn0
    | 1, hq => cases hq; exact hKn1
    | k + 2, hq => simp [vwCl] at hq
  have hS : va_S A s.heap s.heap [] := va_S.rf
  have hK : va_K D vwCl [] s := ⟨hKD, fun k q h => by simp at h⟩
  have hP : va_P D vwCl [] s.heap := tf_P0
  have hD : va_D A [] := tf_D0
  have hl := lv_entry ([.ref b]) (n := 4) (Nat.le_of_ble_eq_true rfl)
  rw [lg_entry_eq]
  generalize (lg_sl ([.ref b]) ++ List.replicate (4 - (lg_sl ([.ref b])).length) Slot.unset).toArray = ls at hl ⊢
  have hl : lv_has ls 4 [(0, .ref b)] := hl
  refine va_new (ci := 0) (fs := [.null, .null, .null, .null, .int 0, .int 0, .int 0, .int 0]) (C := RX0) (T := TX0) (N := 8) hx hb hts in_X0 tyX0 tyX0_ok hown (hts _ q14) (hts _ q15) (hts _ q12) hK hP hD hS hA rfl (fun j hj => by rcases (show j = 0 ∨ j = 1 ∨ j = 2 ∨ j = 3 ∨ j = 4 ∨ j = 5 ∨ j = 6 ∨ j = 7 by omega) with rfl | rfl | rfl | rfl | rfl | rfl | rfl | rfl <;> rfl) (Nat.le_of_ble_eq_true rfl) (Nat.le_of_ble_eq_true rfl) dL_law_0 (fun h0 H hP hD hS => ?_)
  have hP : va_P D vwCl (w0X0 h0) H := hP
  have hD : va_D A (w0X0 h0) := hD
  refine W.widen (k := 1) (n := 8) (Nat.le_of_ble_eq_true rfl) (Nat.le_of_ble_eq_true rfl) ?_
  refine lv_dup hx hb dL_law_3 rfl ?_
  have hPc := hP.sub (ws' := w0X0 h0) [0] rfl
  have hDc := hD.sub (ws' := w0X0 h0) [0] (by decide) rfl
  have hKc := hK.sub (tys' := []) [] rfl
  have hFc := va_free (wc := w0X0 h0) hD hS hA [0] rfl
  refine va_callv (va_runI (As := []) (rest := [.ref h0]) S (mX0_init l D H.size h0) (cwI 0 hts (lw_meth q18) rfl rfl rfl (hts _ q12) (hts _ q16) (hts _ q17) rfl (by decide +kernel) ⟨Nat.le_of_ble_eq_true rfl, Nat.le_of_ble_eq_true rfl⟩) ⟨tf_fb, fun U hU hW => ⟨rfl, by rw [hU], by rw [hU]; exact hPc, va_K.moved hW.alike hKc, hDc.weaken (fun _ _ _ _ => trivial)⟩⟩ rfl rfl hl.1 rfl (lv_room (Nat.le_of_ble_eq_true rfl)) dL_law_4 ⟨Nat.le_of_ble_eq_true rfl, Nat.le_of_ble_eq_true rfl⟩) hS (fun q _ h => hFc q h) hFc (fun zx t H1 locs ht hvm hw hB hz1 hk1 hS => ?_)
  obtain ⟨ezx, hP1, hK1, hD1⟩ := hB
  rw [ht] at hP1
  have hK1 := va_K.moved hvm.symm hK1
  obtain ⟨hP, hD⟩ := va_join (wr := []) (w1 := wX zx.1 zx.2 u0X0) hP hD [0] [] rfl rfl (by decide) (by decide) hk1 hFc hP1 hD1
  have hK := (hK.sub (tys' := []) [] rfl).app hK1
  generalize H1 = H at hP hS ⊢
  refine W.widen (k := 5) (n := 94) (Nat.le_of_ble_eq_true rfl) (Nat.le_of_ble_eq_true rfl) ?_
  rw [← ezx]
  have hP : va_P D vwCl (wX zx.1 zx.2 u0X0) H := hP
  have hD : va_D A (wX zx.1 zx.2 u0X0) := hD
  have hK : va_K D vwCl (tyX zx.2) s := hK
  refine lv_astore_n (lv' := [(1, .ref (zx.1 0)), (0, .ref b)]) hx hb dL_law_7 rfl hl (by decide) rfl (fun ls hl => ?_)
  refine va_new (ci := 1) (fs := [.null, .null]) (C := RX1) (T := TX1) (N := 2) hx hb hts in_X1 tyX1 tyX1_ok hown (hts _ q131) (hts _ q132) (hts _ q13) hK hP hD hS hA rfl (fun j hj => by rcases (show j = 0 ∨ j = 1 by omega) with rfl | rfl <;> rfl) (Nat.le_of_ble_eq_true rfl) (Nat.le_of_ble_eq_true rfl) dL_law_8 (fun h1 H hP hD hS => ?_)
  have hP : va_P D vwCl (wX zx.1 zx.2 u0X0 ++ w0X1 h1) H := hP
  have hD : va_D A (wX zx.1 zx.2 u0X0 ++ w0X1 h1) := hD
  refine W.widen (k := 6) (n := 96) (Nat.le_of_ble_eq_true rfl) (Nat.le_of_ble_eq_true rfl) ?_
  refine lv_dup hx hb dL_law_11 rfl ?_
  have hPc := hP.sub (ws' := w0X1 h1) [5] rfl
  have hDc := hD.sub (ws' := w0X1 h1) [5] (by decide) rfl
  have hKc := hK.sub (tys' := []) [] rfl
  have hFc := va_free (wc := w0X1 h1) hD hS hA [5] rfl
  refine va_callv (va_runI (As := []) (rest := [.ref h1]) S (mX1_init l D H.size h1) (cwI 0 hts (lw_meth q135) rfl rfl rfl (hts _ q13) (hts _ q133) (hts _ q134) rfl (by decide +kernel) ⟨Nat.le_of_ble_eq_true rfl, Nat.le_of_ble_eq_true rfl⟩) ⟨tf_fb, fun U hU hW => ⟨rfl, by rw [hU], by rw [hU]; exact hPc, va_K.moved hW.alike hKc, hDc.weaken (fun _ _ _ _ => trivial)⟩⟩ rfl rfl hl.1 rfl (lv_room (Nat.le_of_ble_eq_true rfl)) dL_law_12 ⟨Nat.le_of_ble_eq_true rfl, Nat.le_of_ble_eq_true rfl⟩) hS (fun q _ h => hFc q h) hFc (fun zm t H1 locs ht hvm hw hB hz1 hk1 hS => ?_)
  obtain ⟨ezm, hP1, hK1, hD1⟩ := hB
  rw [ht] at hP1
  have hK1 := va_K.moved hvm.symm hK1
  obtain ⟨hP, hD⟩ := va_join (wr := wX zx.1 zx.2 u0X0) (w1 := wM zm.1 zm.2 u0X1) hP hD [5] [0, 1, 2, 3, 4] rfl rfl (by decide) (by decide) hk1 hFc hP1 hD1
  have hK := (hK.sub (tys' := tyX zx.2) [0, 1, 2, 3] rfl).app hK1
  generalize H1 = H at hP hS ⊢
  refine W.widen (k := 8) (n := 136) (Nat.le_of_ble_eq_true rfl) (Nat.le_of_ble_eq_true rfl) ?_
  rw [← ezm]
  have hP : va_P D vwCl (tf_WW zx.1 zm.1 zx.2 zm.2 u0X0 u0X1) H := hP
  have hD : va_D A (tf_WW zx.1 zm.1 zx.2 zm.2 u0X0 u0X1) := hD
  have hK : va_K D vwCl (tf_TT zx.2 zm.2) s := hK
  refine lv_astore_n (lv' := [(2, .ref (zm.1 0)), (1, .ref (zx.1 0)), (0, .ref b)]) hx hb dL_law_15 rfl hl (by decide) rfl (fun ls hl => ?_)
  refine lv_iconst (v := nI 0) hx hb dL_law_16 (by decide) ?_
  refine lv_istore_n (lv' := [(3, .int (nI 0)), (2, .ref (zm.1 0)), (1, .ref (zx.1 0)), (0, .ref b)]) hx hb dL_law_17 rfl hl (by decide) rfl (fun ls hl => ?_)
  exact law_loop l hL C0 hA hbA hK rfl hA1 (L + 1) 0 (Nat.zero_le _) (by omega) (fun _ => 0) u0X0 u0X1 H _ ls ⟨fun _ _ _ _ => rfl, fun _ _ => Nat.zero_le _⟩ ⟨fun _ _ => rfl, Or.inl rfl⟩ (fun _ _ => rfl) hP hD hS (lv_sub hl [3, 2, 1, 0] rfl)
set_option maxHeartbeats 4000000 in
theorem lw_walk (l : Launch) (b : Addr) (xs : List Int32) : MetFree l x (headSpec (Jvm.Cond.code x code maxLocals ret :: tables_1) room_1) (lw_P b xs) (fun _ _ _ _ _ => True) lw_Q := by
  refine MetFree.of_bodyS (code := code) (maxLocals := maxLocals) (ret := ret) (by decide) ?_ ?_
  · intro args s m h hn
    obtain ⟨meth, c, h1, h2, h3, h4, h5, h6, -, -⟩ := Cond.code_spec hn (atoms_spec (ws := Jvm.Cond.code x code maxLocals ret :: tables_1) h _ List.mem_cons_self)
    exact ⟨meth, c, h1, h2, h3, h4, h5, h6⟩
  · intro p e s m args below meth c s₁ B hml0 hP _
    obtain ⟨rfl, hx, hbd, hgv⟩ := hP
    obtain ⟨scr, harrAt, hlist, hof, hsmall⟩ := hx
    obtain ⟨hcb, hkn, -, -⟩ := State.arrayAt?_spec harrAt
    have hown : s.vm.findClass R_law = some m.cls := findClass_of_methodNamed B.named
    have hts0 : ∀ c ∈ (Jvm.Cond.code x code maxLocals ret :: tables_1), c.before #[Value.ref b] s = true := atoms_spec (ws := Jvm.Cond.code x code maxLocals ret :: tables_1) B.pre
    have hts : ∀ w ∈ lw_tbl, w.before #[Value.ref b] s = true := k2_hts_sels lw_privs (fun w hw => hts0 w (List.mem_cons_of_mem _ hw)) lw_privs_ok
    have hml : c.maxLocals = 4 := B.maxLocals_eq (hts0 _ List.mem_cons_self)
    have X₀ : Stand p l e room_1 s m #[Value.ref b] below meth c s₁ [] 0 0 := Stand.of_body B
    have hh0 : s₁.heap = s.heap := by rw [B.state]; rfl
    have hsz : scr.slots.size = xs.length := by rw [← Array.length_toList, hlist, List.length_map]
    have hval : ∀ j : Nat, j < xs.length → scr.slots[j]? = some (.int (xs.getD j 0)) := fun j hj => by
      rw [← Array.getElem?_toList, hlist]
      simp [hj]
    have hbl : b < s.heap.size := (Array.getElem?_eq_some_iff.mp hcb).1
    have hX : va_X b xs.length (fun j => xs.getD j 0) s s.heap := ⟨scr, hcb, hof, hkn, hsz, hval⟩
    have K : W p l e room_1 s m #[Value.ref b] below meth c s₁.heap [] 0 0 (lw_Z below #[Value.ref b] s) (entryFrame m ([Value.ref b] : List Value).toArray 4) := by
      rw [hh0]
      exact whole_start l hbd ⟨B.exec, B.bytes, B.returns, hml, hown, hts, hX, hbl, B.notSynchronized, hgv⟩
    obtain ⟨t, a1, o, b1, b2, b3⟩ := K s₁ rfl X₀
    exact ⟨t, o, a1, b1, b2, b3⟩
theorem lw_pre_spec {args : Array Value} {s : State} (h : (Jvm.Cond.and given_1 narrow_1).before args s = true) (hr : rest_1_c.before args s = true) : ∃ (b : Addr) (xs : List Int32), lw_P b xs args s := by
  have hs := flat_of_before _ h
  have hq := flat_of_before _ hr
  have hc : (Cond.count 1).before args s = true := hs _ (by decide +kernel)
  have harr : (Cond.arrayOf (.arg 0) .int).before args s = true := hs _ (by decide +kernel)
  have hle : (Cond.le (.length (.arg 0)) (.int 256)).before args s = true := hs _ (by decide +kernel)
  have hlen : (Cond.isInt (.length (.arg 0))).before args s = true := hq _ (by decide +kernel)
  have hall : (Cond.all (.arg 0) (.isInt (.elem (.arg 0) (.index 0)))).before args s = true := hq _ (by decide +kernel)
  obtain ⟨b, xs, hb, hx⟩ := State.ints_of_pre rfl harr hlen hall
  have hsm : xs.length < 2 ^ 31 := hx.choose_spec.2.2.2
  have hev : (Term.length (.arg 0)).eval args s none [] s = some (.int xs.length.toInt32) := hx.length_eval hb
  have hv := Cond.le_ints hev (show (Term.int 256).eval args s none [] s = some (.int 256) from rfl)
  have hd : xs.length.toInt32 ≤ 256 := by
    simpa [Cond.before, Cond.holds, hv] using hle
  have hN : xs.length ≤ 256 := (Int32.ofNat_le_ofNat hsm (by decide)).mp (show Int32.ofNat xs.length ≤ Int32.ofNat 256 from hd)
  exact ⟨b, xs, Cond.one_arg hc (show args[0]? = some (.ref b) from hb), hx, hN, h⟩
theorem lw_comes (l : Launch) : Comes l x (Jvm.Cond.code x code maxLocals ret :: tables_1) room_1 (fun tb e args s => Calls_1 tb e args s ∧ rest_1 tb e args s ∧ Pre_1 tb e args s)
    (fun _ _ args s o t => lw_Q args s o t) := by
  intro p e ha hc hk s m args below hf hfit hheap happ hpre
  obtain ⟨b, xs, hP⟩ := lw_pre_spec hpre.2.2 hpre.2.1
  obtain ⟨k, o, h1, h2, h3, hQ⟩ := lw_walk l b xs p e ha hc hk s m args below hf ((Spec.applies_iff_loose hf).mp happ).1 hP trivial
  exact ⟨k, o, h1, h2, h3, hQ⟩
theorem lw_frame {s t : State} {o : Outcome} {args : Array Value} (h : Framed s o t [] 600000 7290000) :
    Framed s o t (fieldLocs frame_1_writes args s ++ arrayLocs frame_1_arrays args s ++ staticLocs frame_1_statics s) 600000 7290000 := h
theorem lw_limb (L : Cond) (hL : ∀ (args : Array Value) (s t : State), L.after args s (.returned (some (.int 1))) t = true) :
    ArmFor flags0 classFile x code maxLocals ret World_1 tables_1 room_1 Calls_1 rest_1 Pre_1
      (fun tb e a s o t => postC L tb e a s o t ∧ Framed s o t (fieldLocs frame_1_writes a s ++ arrayLocs frame_1_arrays a s ++ staticLocs frame_1_statics s) 600000 7290000) := by
  intro l _ _ _ p e ha hc hk s m args below hf hfit hheap happ hpre
  obtain ⟨k, o, h1, h2, h3, rfl, hF⟩ := lw_comes l p e ha hc hk s m args below hf hfit hheap happ hpre
  exact ⟨k, _, h1, h2, h3, hL args s _, lw_frame hF⟩
theorem i_vc : Claimed_1_1 ∧ Claimed_1_2 := ⟨lw_limb limb_1_1 (fun args s t => by simp [limb_1_1, Cond.after, Cond.holds, Cond.value]), lw_limb limb_1_2 (fun args s t => Cond.after_iff.mpr (by
  first | (rw [show limb_1_2 = Cond.eq .result (.int 1) from rfl, Cond.eq_ints (x := 1) (y := 1) rfl rfl]; simp; done) | (simp [limb_1_2, Cond.value, Term.eval]; done)))⟩
end
