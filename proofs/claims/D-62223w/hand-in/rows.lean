section
-- ===== PART A: goes FIRST, ahead of the names: the tables' words, and 'selects' of the private methods out of them =====
/-- a private method of a class that the tables say can be made, by its rows of tables_1 -/
def lw_okq (q : MethodName × Nat) : Prop := (q.1.cls ≠ "java/lang/invoke/MethodHandle" ∧ q.1.cls ≠ "java/lang/invoke/VarHandle") ∧ Cond.instantiable q.1.cls q.2 ∈ tables_1 ∧ Cond.privateMethod q.1 ∈ tables_1 ∧ Cond.instanceMethod q.1 ∈ tables_1
set_option maxRecDepth 100000
theorem lw_p0 : lw_okq (⟨"MachineTwins", "prepare", "()V"⟩, 7) := ⟨⟨by decide +kernel, by decide +kernel⟩, List.mem_of_getElem? (i := 4) rfl, List.mem_of_getElem? (i := 50) rfl, List.mem_of_getElem? (i := 51) rfl⟩
theorem lw_p1 : lw_okq (⟨"MachineTwins", "split", "(I)Z"⟩, 7) := ⟨⟨by decide +kernel, by decide +kernel⟩, List.mem_of_getElem? (i := 4) rfl, List.mem_of_getElem? (i := 54) rfl, List.mem_of_getElem? (i := 55) rfl⟩
theorem lw_p2 : lw_okq (⟨"MachineTwins", "together", "(III)Z"⟩, 7) := ⟨⟨by decide +kernel, by decide +kernel⟩, List.mem_of_getElem? (i := 4) rfl, List.mem_of_getElem? (i := 58) rfl, List.mem_of_getElem? (i := 59) rfl⟩
theorem lw_p3 : lw_okq (⟨"MachineTwins", "parting", "(II)I"⟩, 7) := ⟨⟨by decide +kernel, by decide +kernel⟩, List.mem_of_getElem? (i := 4) rfl, List.mem_of_getElem? (i := 62) rfl, List.mem_of_getElem? (i := 63) rfl⟩
theorem lw_p4 : lw_okq (⟨"MachineTwins", "groupOf", "(II)I"⟩, 7) := ⟨⟨by decide +kernel, by decide +kernel⟩, List.mem_of_getElem? (i := 4) rfl, List.mem_of_getElem? (i := 66) rfl, List.mem_of_getElem? (i := 67) rfl⟩
theorem lw_p5 : lw_okq (⟨"MachineTwins", "findWord", "(II)V"⟩, 7) := ⟨⟨by decide +kernel, by decide +kernel⟩, List.mem_of_getElem? (i := 4) rfl, List.mem_of_getElem? (i := 78) rfl, List.mem_of_getElem? (i := 79) rfl⟩
theorem lw_p6 : lw_okq (⟨"MachineTwins", "firstInput", "(III)I"⟩, 7) := ⟨⟨by decide +kernel, by decide +kernel⟩, List.mem_of_getElem? (i := 4) rfl, List.mem_of_getElem? (i := 82) rfl, List.mem_of_getElem? (i := 83) rfl⟩
theorem lw_p7 : lw_okq (⟨"MachineTwins", "reach", "(I)I"⟩, 7) := ⟨⟨by decide +kernel, by decide +kernel⟩, List.mem_of_getElem? (i := 4) rfl, List.mem_of_getElem? (i := 98) rfl, List.mem_of_getElem? (i := 99) rfl⟩
theorem lw_p8 : lw_okq (⟨"MachineTwinsModel", "isState", "(I)Z"⟩, 8) := ⟨⟨by decide +kernel, by decide +kernel⟩, List.mem_of_getElem? (i := 110) rfl, List.mem_of_getElem? (i := 146) rfl, List.mem_of_getElem? (i := 147) rfl⟩
theorem lw_p9 : lw_okq (⟨"MachineTwinsModel", "isInput", "(I)Z"⟩, 8) := ⟨⟨by decide +kernel, by decide +kernel⟩, List.mem_of_getElem? (i := 110) rfl, List.mem_of_getElem? (i := 150) rfl, List.mem_of_getElem? (i := 151) rfl⟩
theorem lw_p10 : lw_okq (⟨"MachineTwinsModel", "search", "(II)I"⟩, 8) := ⟨⟨by decide +kernel, by decide +kernel⟩, List.mem_of_getElem? (i := 110) rfl, List.mem_of_getElem? (i := 162) rfl, List.mem_of_getElem? (i := 163) rfl⟩
theorem lw_p11 : lw_okq (⟨"MachineTwinsModel", "come", "(IIII)V"⟩, 8) := ⟨⟨by decide +kernel, by decide +kernel⟩, List.mem_of_getElem? (i := 110) rfl, List.mem_of_getElem? (i := 166) rfl, List.mem_of_getElem? (i := 167) rfl⟩
theorem lw_p12 : lw_okq (⟨"MachineTwinsModel", "spell", "(II)I"⟩, 8) := ⟨⟨by decide +kernel, by decide +kernel⟩, List.mem_of_getElem? (i := 110) rfl, List.mem_of_getElem? (i := 170) rfl, List.mem_of_getElem? (i := 171) rfl⟩
def lw_privs_1 : List (MethodName × Nat) := [(⟨"MachineTwins", "prepare", "()V"⟩, 7), (⟨"MachineTwins", "split", "(I)Z"⟩, 7), (⟨"MachineTwins", "together", "(III)Z"⟩, 7), (⟨"MachineTwins", "parting", "(II)I"⟩, 7), (⟨"MachineTwins", "groupOf", "(II)I"⟩, 7), (⟨"MachineTwins", "findWord", "(II)V"⟩, 7), (⟨"MachineTwins", "firstInput", "(III)I"⟩, 7), (⟨"MachineTwins", "reach", "(I)I"⟩, 7), (⟨"MachineTwinsModel", "isState", "(I)Z"⟩, 8), (⟨"MachineTwinsModel", "isInput", "(I)Z"⟩, 8), (⟨"MachineTwinsModel", "search", "(II)I"⟩, 8), (⟨"MachineTwinsModel", "come", "(IIII)V"⟩, 8), (⟨"MachineTwinsModel", "spell", "(II)I"⟩, 8)]
theorem lw_r1 : ∀ q ∈ lw_privs_1, lw_okq q := List.forall_mem_cons.mpr ⟨lw_p0, List.forall_mem_cons.mpr ⟨lw_p1, List.forall_mem_cons.mpr ⟨lw_p2, List.forall_mem_cons.mpr ⟨lw_p3, List.forall_mem_cons.mpr ⟨lw_p4, List.forall_mem_cons.mpr ⟨lw_p5, List.forall_mem_cons.mpr ⟨lw_p6, List.forall_mem_cons.mpr ⟨lw_p7, List.forall_mem_cons.mpr ⟨lw_p8, List.forall_mem_cons.mpr ⟨lw_p9, List.forall_mem_cons.mpr ⟨lw_p10, List.forall_mem_cons.mpr ⟨lw_p11, List.forall_mem_cons.mpr ⟨lw_p12, fun _ h => absurd h List.not_mem_nil⟩⟩⟩⟩⟩⟩⟩⟩⟩⟩⟩⟩⟩
def lw_privs : List (MethodName × Nat) := lw_privs_1
def lw_tbl : List Cond := k2_sels lw_privs ++ tables_1
theorem lw_privs_ok : ∀ q ∈ lw_privs, lw_okq q := lw_r1
-- ===== ONE list of words for every method: the tables' words that hold all through a run =====
def lw_all : List Cond := lw_tbl.filter goodWord
/-- a word of the tables by its place: claim/WORDS.tsv -/
theorem lw_w {w : Cond} (i : Nat) (h : lw_tbl[i]? = some w) (g : goodWord w = true) : w ∈ lw_all := List.mem_filter.mpr ⟨List.mem_of_getElem? h, g⟩
theorem lw_all_tbl {w : Cond} (h : w ∈ lw_all) : w ∈ lw_tbl := (List.mem_filter.mp h).1
theorem lw_self : GoodIn lw_all lw_all := fun w h => ⟨h, good_of_word (List.mem_filter.mp h).2⟩
/-- a class's field words, by their places -/
theorem lw_in (ws : List Cond) (ps : List Nat) (hp : ws = ps.filterMap (fun i => lw_tbl[i]?)) (hg : ws.all goodWord = true) : ∀ w ∈ ws, w ∈ lw_all := by
  intro w h
  have h1 := List.all_eq_true.mp hg w h
  rw [hp] at h
  obtain ⟨i, -, hi⟩ := List.mem_filterMap.mp h
  exact lw_w i hi h1
/-- the words of a contract for the method y with code b, L locals, answer r -/
abbrev ws_ (y : MethodName) (b : ByteArray) (L : Nat) (r : Option FieldType) : List Cond := Cond.code y b L r :: lw_all
theorem lw_meth {y : MethodName} {b : ByteArray} {L : Nat} {r : Option FieldType} (h : Cond.code y b L r ∈ lw_all) : GoodIn lw_all (ws_ y b L r) := by
  intro w hw
  rcases List.mem_cons.mp hw with e | e
  · rw [e]
    exact lw_self _ h
  · exact lw_self _ e
theorem lw_app {a c : List Cond} (ha : ∀ w ∈ a, w ∈ lw_all) (hc : GoodIn lw_all c) : GoodIn lw_all (a ++ c) := by
  intro w hw
  rcases List.mem_append.mp hw with e | e
  · exact lw_self w (ha w e)
  · exact hc w e
/-- what a call through an object asks: cwV n hts (lw_V ..) -/
theorem lw_V {own : String} {idx : Nat} {C : String} {y : MethodName} {b : ByteArray} {L : Nat} {r : Option FieldType} (h1 : Cond.methodLink own idx y ∈ lw_all) (h2 : Cond.instanceMethod y ∈ lw_all) (h3 : Cond.selects C y y ∈ lw_all) (h4 : Cond.initialized C ∈ lw_all) (h5 : Cond.code y b L r ∈ lw_all) : GoodIn lw_all (wsV own idx C y (ws_ y b L r)) := by
  refine lw_app ?_ (lw_meth h5)
  intro w hw
  simp only [List.mem_cons, List.not_mem_nil, or_false] at hw
  rcases hw with e | e | e | e
  · rw [e]; exact h1
  · rw [e]; exact h2
  · rw [e]; exact h3
  · rw [e]; exact h4
/-- what a static call asks: va_cwS n hts (lw_S ..) -/
theorem lw_S {own : String} {idx : Nat} {y : MethodName} {b : ByteArray} {L : Nat} {r : Option FieldType} (h1 : Cond.methodLink own idx y ∈ lw_all) (h2 : Cond.static y ∈ lw_all) (h3 : Cond.initialized y.cls ∈ lw_all) (h4 : Cond.code y b L r ∈ lw_all) : GoodIn lw_all (va_wsS own idx y (ws_ y b L r)) := by
  refine lw_app ?_ (lw_meth h4)
  intro w hw
  simp only [List.mem_cons, List.not_mem_nil, or_false] at hw
  rcases hw with e | e | e
  · rw [e]; exact h1
  · rw [e]; exact h2
  · rw [e]; exact h3
/-- the words of a contract for a method WITH HANDLERS (hh: its table) -/
abbrev wsW_ (y : MethodName) (b : ByteArray) (L : Nat) (r : Option FieldType) (hh : List (Nat × Nat × Nat × Nat)) : List Cond := Cond.codeWith y b L r hh :: lw_all
theorem lw_methW {y : MethodName} {b : ByteArray} {L : Nat} {r : Option FieldType} {hh : List (Nat × Nat × Nat × Nat)} (h : Cond.codeWith y b L r hh ∈ lw_all) : GoodIn lw_all (wsW_ y b L r hh) := by
  intro w hw
  rcases List.mem_cons.mp hw with e | e
  · rw [e]
    exact lw_self _ h
  · exact lw_self _ e
/-- any list of words by their places (lw_in), good -/
theorem lw_good {ws : List Cond} (h : ∀ w ∈ ws, w ∈ lw_all) : GoodIn lw_all ws := fun w hw => lw_self w (h w hw)
/-- what a call of a method with handlers asks: vx_cwVW n hts (lw_VW ..), vx_cwSW n hts (lw_SW ..) -/
theorem lw_VW {own : String} {idx : Nat} {C : String} {y : MethodName} {b : ByteArray} {L : Nat} {r : Option FieldType} {hh : List (Nat × Nat × Nat × Nat)} (h1 : Cond.methodLink own idx y ∈ lw_all) (h2 : Cond.instanceMethod y ∈ lw_all) (h3 : Cond.selects C y y ∈ lw_all) (h4 : Cond.initialized C ∈ lw_all) (h5 : Cond.codeWith y b L r hh ∈ lw_all) : GoodIn lw_all (wsV own idx C y (wsW_ y b L r hh)) := by
  refine lw_app ?_ (lw_methW h5)
  intro w hw
  simp only [List.mem_cons, List.not_mem_nil, or_false] at hw
  rcases hw with e | e | e | e
  · rw [e]; exact h1
  · rw [e]; exact h2
  · rw [e]; exact h3
  · rw [e]; exact h4
theorem lw_SW {own : String} {idx : Nat} {y : MethodName} {b : ByteArray} {L : Nat} {r : Option FieldType} {hh : List (Nat × Nat × Nat × Nat)} (h1 : Cond.methodLink own idx y ∈ lw_all) (h2 : Cond.static y ∈ lw_all) (h3 : Cond.initialized y.cls ∈ lw_all) (h4 : Cond.codeWith y b L r hh ∈ lw_all) : GoodIn lw_all (va_wsS own idx y (wsW_ y b L r hh)) := by
  refine lw_app ?_ (lw_methW h4)
  intro w hw
  simp only [List.mem_cons, List.not_mem_nil, or_false] at hw
  rcases hw with e | e | e
  · rw [e]; exact h1
  · rw [e]; exact h2
  · rw [e]; exact h3
/-- a word by its place in its run of the tables -/
theorem lw_at {r : List Cond} (hr : ∀ w ∈ r, w ∈ lw_tbl) {w : Cond} (i : Nat) (h : r[i]? = some w) : w ∈ lw_tbl := hr w (List.mem_of_getElem? h)
theorem lw_g {w : Cond} (h : w ∈ lw_tbl) (g : goodWord w = true) : w ∈ lw_all := List.mem_filter.mpr ⟨h, g⟩
theorem lw_ms : ∀ w ∈ k2_sels lw_privs, w ∈ lw_tbl := fun w h => show w ∈ k2_sels lw_privs ++ tables_1 from List.mem_append_left _ h
theorem lw_m0 : ∀ w ∈ tables_1, w ∈ lw_tbl := fun w h => show w ∈ k2_sels lw_privs ++ tables_1 from List.mem_append_right (k2_sels lw_privs) h
theorem qs0 : (Cond.selects "MachineTwins" ⟨"MachineTwins", "prepare", "()V"⟩ ⟨"MachineTwins", "prepare", "()V"⟩) ∈ lw_all := lw_g (lw_at lw_ms 0 rfl) rfl
theorem qs1 : (Cond.selects "MachineTwins" ⟨"MachineTwins", "split", "(I)Z"⟩ ⟨"MachineTwins", "split", "(I)Z"⟩) ∈ lw_all := lw_g (lw_at lw_ms 1 rfl) rfl
theorem qs2 : (Cond.selects "MachineTwins" ⟨"MachineTwins", "together", "(III)Z"⟩ ⟨"MachineTwins", "together", "(III)Z"⟩) ∈ lw_all := lw_g (lw_at lw_ms 2 rfl) rfl
theorem qs3 : (Cond.selects "MachineTwins" ⟨"MachineTwins", "parting", "(II)I"⟩ ⟨"MachineTwins", "parting", "(II)I"⟩) ∈ lw_all := lw_g (lw_at lw_ms 3 rfl) rfl
theorem qs4 : (Cond.selects "MachineTwins" ⟨"MachineTwins", "groupOf", "(II)I"⟩ ⟨"MachineTwins", "groupOf", "(II)I"⟩) ∈ lw_all := lw_g (lw_at lw_ms 4 rfl) rfl
theorem qs5 : (Cond.selects "MachineTwins" ⟨"MachineTwins", "findWord", "(II)V"⟩ ⟨"MachineTwins", "findWord", "(II)V"⟩) ∈ lw_all := lw_g (lw_at lw_ms 5 rfl) rfl
theorem qs6 : (Cond.selects "MachineTwins" ⟨"MachineTwins", "firstInput", "(III)I"⟩ ⟨"MachineTwins", "firstInput", "(III)I"⟩) ∈ lw_all := lw_g (lw_at lw_ms 6 rfl) rfl
theorem qs7 : (Cond.selects "MachineTwins" ⟨"MachineTwins", "reach", "(I)I"⟩ ⟨"MachineTwins", "reach", "(I)I"⟩) ∈ lw_all := lw_g (lw_at lw_ms 7 rfl) rfl
theorem qs8 : (Cond.selects "MachineTwinsModel" ⟨"MachineTwinsModel", "isState", "(I)Z"⟩ ⟨"MachineTwinsModel", "isState", "(I)Z"⟩) ∈ lw_all := lw_g (lw_at lw_ms 8 rfl) rfl
theorem qs9 : (Cond.selects "MachineTwinsModel" ⟨"MachineTwinsModel", "isInput", "(I)Z"⟩ ⟨"MachineTwinsModel", "isInput", "(I)Z"⟩) ∈ lw_all := lw_g (lw_at lw_ms 9 rfl) rfl
theorem qs10 : (Cond.selects "MachineTwinsModel" ⟨"MachineTwinsModel", "search", "(II)I"⟩ ⟨"MachineTwinsModel", "search", "(II)I"⟩) ∈ lw_all := lw_g (lw_at lw_ms 10 rfl) rfl
theorem qs11 : (Cond.selects "MachineTwinsModel" ⟨"MachineTwinsModel", "come", "(IIII)V"⟩ ⟨"MachineTwinsModel", "come", "(IIII)V"⟩) ∈ lw_all := lw_g (lw_at lw_ms 11 rfl) rfl
theorem qs12 : (Cond.selects "MachineTwinsModel" ⟨"MachineTwinsModel", "spell", "(II)I"⟩ ⟨"MachineTwinsModel", "spell", "(II)I"⟩) ∈ lw_all := lw_g (lw_at lw_ms 12 rfl) rfl
end
section
set_option maxRecDepth 100000
theorem q13 : (Jvm.Cond.initialized "MachineTwinsLaw") ∈ lw_all := lw_g (lw_at lw_m0 0 rfl) rfl
theorem q16 : (Jvm.Cond.classLink "MachineTwinsLaw" (7 : Nat) "MachineTwins") ∈ lw_all := lw_g (lw_at lw_m0 3 rfl) rfl
theorem q18 : (Jvm.Cond.methodLink "MachineTwinsLaw" (9 : Nat) ({ cls := "MachineTwins", name := "<init>", desc := "()V" } : Jvm.MethodName)) ∈ lw_all := lw_g (lw_at lw_m0 5 rfl) rfl
theorem q47 : (Jvm.Cond.methodLink "MachineTwinsLaw" (13 : Nat) ({ cls := "MachineTwins", name := "transition", desc := "(III)I" } : Jvm.MethodName)) ∈ lw_all := lw_g (lw_at lw_m0 34 rfl) rfl
theorem q54 : (Jvm.Cond.methodLink "MachineTwinsLaw" (18 : Nat) ({ cls := "MachineTwins", name := "exchange", desc := "(III)I" } : Jvm.MethodName)) ∈ lw_all := lw_g (lw_at lw_m0 41 rfl) rfl
theorem q58 : (Jvm.Cond.methodLink "MachineTwinsLaw" (22 : Nat) ({ cls := "MachineTwins", name := "alike", desc := "(II)Z" } : Jvm.MethodName)) ∈ lw_all := lw_g (lw_at lw_m0 45 rfl) rfl
theorem q82 : (Jvm.Cond.methodLink "MachineTwinsLaw" (27 : Nat) ({ cls := "MachineTwins", name := "distance", desc := "(II)I" } : Jvm.MethodName)) ∈ lw_all := lw_g (lw_at lw_m0 69 rfl) rfl
theorem q86 : (Jvm.Cond.methodLink "MachineTwinsLaw" (32 : Nat) ({ cls := "MachineTwins", name := "teller", desc := "(III)I" } : Jvm.MethodName)) ∈ lw_all := lw_g (lw_at lw_m0 73 rfl) rfl
theorem q98 : (Jvm.Cond.methodLink "MachineTwinsLaw" (36 : Nat) ({ cls := "MachineTwins", name := "kind", desc := "(I)I" } : Jvm.MethodName)) ∈ lw_all := lw_g (lw_at lw_m0 85 rfl) rfl
theorem q102 : (Jvm.Cond.methodLink "MachineTwinsLaw" (41 : Nat) ({ cls := "MachineTwins", name := "kinds", desc := "()I" } : Jvm.MethodName)) ∈ lw_all := lw_g (lw_at lw_m0 89 rfl) rfl
theorem q106 : (Jvm.Cond.methodLink "MachineTwinsLaw" (46 : Nat) ({ cls := "MachineTwins", name := "reachableKinds", desc := "(I)I" } : Jvm.MethodName)) ∈ lw_all := lw_g (lw_at lw_m0 93 rfl) rfl
theorem q114 : (Jvm.Cond.methodLink "MachineTwinsLaw" (50 : Nat) ({ cls := "MachineTwins", name := "depth", desc := "()I" } : Jvm.MethodName)) ∈ lw_all := lw_g (lw_at lw_m0 101 rfl) rfl
theorem q118 : (Jvm.Cond.methodLink "MachineTwinsLaw" (54 : Nat) ({ cls := "MachineTwins", name := "run", desc := "(III)I" } : Jvm.MethodName)) ∈ lw_all := lw_g (lw_at lw_m0 105 rfl) rfl
theorem q122 : (Jvm.Cond.classLink "MachineTwinsLaw" (10 : Nat) "MachineTwinsModel") ∈ lw_all := lw_g (lw_at lw_m0 109 rfl) rfl
theorem q124 : (Jvm.Cond.methodLink "MachineTwinsLaw" (12 : Nat) ({ cls := "MachineTwinsModel", name := "<init>", desc := "()V" } : Jvm.MethodName)) ∈ lw_all := lw_g (lw_at lw_m0 111 rfl) rfl
theorem q154 : (Jvm.Cond.methodLink "MachineTwinsLaw" (17 : Nat) ({ cls := "MachineTwinsModel", name := "transition", desc := "(III)I" } : Jvm.MethodName)) ∈ lw_all := lw_g (lw_at lw_m0 141 rfl) rfl
theorem q166 : (Jvm.Cond.methodLink "MachineTwinsLaw" (21 : Nat) ({ cls := "MachineTwinsModel", name := "exchange", desc := "(III)I" } : Jvm.MethodName)) ∈ lw_all := lw_g (lw_at lw_m0 153 rfl) rfl
theorem q170 : (Jvm.Cond.methodLink "MachineTwinsLaw" (26 : Nat) ({ cls := "MachineTwinsModel", name := "alike", desc := "(II)Z" } : Jvm.MethodName)) ∈ lw_all := lw_g (lw_at lw_m0 157 rfl) rfl
theorem q186 : (Jvm.Cond.methodLink "MachineTwinsLaw" (31 : Nat) ({ cls := "MachineTwinsModel", name := "distance", desc := "(II)I" } : Jvm.MethodName)) ∈ lw_all := lw_g (lw_at lw_m0 173 rfl) rfl
theorem q190 : (Jvm.Cond.methodLink "MachineTwinsLaw" (35 : Nat) ({ cls := "MachineTwinsModel", name := "teller", desc := "(III)I" } : Jvm.MethodName)) ∈ lw_all := lw_g (lw_at lw_m0 177 rfl) rfl
theorem q194 : (Jvm.Cond.methodLink "MachineTwinsLaw" (40 : Nat) ({ cls := "MachineTwinsModel", name := "kind", desc := "(I)I" } : Jvm.MethodName)) ∈ lw_all := lw_g (lw_at lw_m0 181 rfl) rfl
theorem q199 : (Jvm.Cond.methodLink "MachineTwinsLaw" (45 : Nat) ({ cls := "MachineTwinsModel", name := "kinds", desc := "()I" } : Jvm.MethodName)) ∈ lw_all := lw_g (lw_at lw_m0 186 rfl) rfl
theorem q204 : (Jvm.Cond.methodLink "MachineTwinsLaw" (49 : Nat) ({ cls := "MachineTwinsModel", name := "reachableKinds", desc := "(I)I" } : Jvm.MethodName)) ∈ lw_all := lw_g (lw_at lw_m0 191 rfl) rfl
theorem q208 : (Jvm.Cond.methodLink "MachineTwinsLaw" (53 : Nat) ({ cls := "MachineTwinsModel", name := "depth", desc := "()I" } : Jvm.MethodName)) ∈ lw_all := lw_g (lw_at lw_m0 195 rfl) rfl
theorem q212 : (Jvm.Cond.methodLink "MachineTwinsLaw" (57 : Nat) ({ cls := "MachineTwinsModel", name := "run", desc := "(III)I" } : Jvm.MethodName)) ∈ lw_all := lw_g (lw_at lw_m0 199 rfl) rfl
theorem q46 : (Jvm.Cond.arrayClass Jvm.ClassFile.FieldType.int) ∈ lw_all := lw_g (lw_at lw_m0 33 rfl) rfl
theorem q153 : (Jvm.Cond.arrayClass Jvm.ClassFile.FieldType.boolean) ∈ lw_all := lw_g (lw_at lw_m0 140 rfl) rfl
/-! java/lang/Object -/
def RJ0 : String := "java/lang/Object"
abbrev cJ0_init : ByteArray := object_method_1_code
def yJ0_init : MethodName := ⟨RJ0, "<init>", "()V"⟩
theorem dJ0_init_0 : decode cJ0_init 0 = .ok (.return_, 1) := by decide +kernel
theorem q22 : (Jvm.Cond.instanceMethod ({ cls := "java/lang/Object", name := "<init>", desc := "()V" } : Jvm.MethodName)) ∈ lw_all := lw_g (lw_at lw_m0 9 rfl) rfl
theorem q23 : (Jvm.Cond.code ({ cls := "java/lang/Object", name := "<init>", desc := "()V" } : Jvm.MethodName) object_method_1_code (1 : Nat) (Option.none : Option Jvm.ClassFile.FieldType)) ∈ lw_all := lw_g (lw_at lw_m0 10 rfl) rfl
/-! MachineTwins -/
def RX0 : String := "MachineTwins"
def TX0 : u_T := fun k => match k with
  | 0 => ("MachineTwins", "next", "[I", true)
  | 1 => ("MachineTwins", "output", "[I", true)
  | 2 => ("MachineTwins", "ready", "Z", false)
  | 3 => ("MachineTwins", "rounds", "I", false)
  | 4 => ("MachineTwins", "group", "[I", true)
  | 5 => ("MachineTwins", "letters", "[I", true)
  | _ => ("MachineTwins", "wordLength", "I", false)
def tyX0 : Nat → FieldType := fun k => match k with
  | 0 => .array .int
  | 1 => .array .int
  | 2 => .boolean
  | 3 => .int
  | 4 => .array .int
  | 5 => .array .int
  | _ => .int
abbrev wsX00 : List Cond := u_ws RX0 TX0 7
theorem nmX0 : ∀ a, a < 7 → ∀ b, b < 7 → a ≠ b → (TX0 a).2.1 ≠ (TX0 b).2.1 := by decide +kernel
theorem tyX0_ok : ∀ k, k < 7 → parseFieldDescriptor (TX0 k).2.2.1 = some (tyX0 k) := by decide +kernel
abbrev cX0_init : ByteArray := prog_1_method_1_code
def yX0_init : MethodName := ⟨RX0, "<init>", "()V"⟩
abbrev cX0_transition : ByteArray := prog_1_method_3_code
def yX0_transition : MethodName := ⟨RX0, "transition", "(III)I"⟩
abbrev cX0_bad : ByteArray := prog_1_method_2_code
def yX0_bad : MethodName := ⟨RX0, "bad", "(I)Z"⟩
abbrev cX0_exchange : ByteArray := prog_1_method_4_code
def yX0_exchange : MethodName := ⟨RX0, "exchange", "(III)I"⟩
abbrev cX0_alike : ByteArray := prog_1_method_12_code
def yX0_alike : MethodName := ⟨RX0, "alike", "(II)Z"⟩
abbrev cX0_prepare : ByteArray := prog_1_method_8_code
def yX0_prepare : MethodName := ⟨RX0, "prepare", "()V"⟩
abbrev cX0_split : ByteArray := prog_1_method_7_code
def yX0_split : MethodName := ⟨RX0, "split", "(I)Z"⟩
abbrev cX0_together : ByteArray := prog_1_method_6_code
def yX0_together : MethodName := ⟨RX0, "together", "(III)Z"⟩
abbrev cX0_parting : ByteArray := prog_1_method_9_code
def yX0_parting : MethodName := ⟨RX0, "parting", "(II)I"⟩
abbrev cX0_groupOf : ByteArray := prog_1_method_5_code
def yX0_groupOf : MethodName := ⟨RX0, "groupOf", "(II)I"⟩
abbrev cX0_distance : ByteArray := prog_1_method_13_code
def yX0_distance : MethodName := ⟨RX0, "distance", "(II)I"⟩
abbrev cX0_teller : ByteArray := prog_1_method_14_code
def yX0_teller : MethodName := ⟨RX0, "teller", "(III)I"⟩
abbrev cX0_findWord : ByteArray := prog_1_method_11_code
def yX0_findWord : MethodName := ⟨RX0, "findWord", "(II)V"⟩
abbrev cX0_firstInput : ByteArray := prog_1_method_10_code
def yX0_firstInput : MethodName := ⟨RX0, "firstInput", "(III)I"⟩
abbrev cX0_kind : ByteArray := prog_1_method_15_code
def yX0_kind : MethodName := ⟨RX0, "kind", "(I)I"⟩
abbrev cX0_kinds : ByteArray := prog_1_method_16_code
def yX0_kinds : MethodName := ⟨RX0, "kinds", "()I"⟩
abbrev cX0_reachableKinds : ByteArray := prog_1_method_18_code
def yX0_reachableKinds : MethodName := ⟨RX0, "reachableKinds", "(I)I"⟩
abbrev cX0_reach : ByteArray := prog_1_method_17_code
def yX0_reach : MethodName := ⟨RX0, "reach", "(I)I"⟩
abbrev cX0_depth : ByteArray := prog_1_method_19_code
def yX0_depth : MethodName := ⟨RX0, "depth", "()I"⟩
abbrev cX0_run : ByteArray := prog_1_method_20_code
def yX0_run : MethodName := ⟨RX0, "run", "(III)I"⟩
theorem q14 : (Jvm.Cond.initialized "MachineTwins") ∈ lw_all := lw_g (lw_at lw_m0 1 rfl) rfl
theorem q17 : (Jvm.Cond.instantiable "MachineTwins" (7 : Nat)) ∈ lw_all := lw_g (lw_at lw_m0 4 rfl) rfl
theorem q19 : (Jvm.Cond.instanceMethod ({ cls := "MachineTwins", name := "<init>", desc := "()V" } : Jvm.MethodName)) ∈ lw_all := lw_g (lw_at lw_m0 6 rfl) rfl
theorem q20 : (Jvm.Cond.code ({ cls := "MachineTwins", name := "<init>", desc := "()V" } : Jvm.MethodName) prog_1_method_1_code (2 : Nat) (Option.none : Option Jvm.ClassFile.FieldType)) ∈ lw_all := lw_g (lw_at lw_m0 7 rfl) rfl
theorem q21 : (Jvm.Cond.methodLink "MachineTwins" (1 : Nat) ({ cls := "java/lang/Object", name := "<init>", desc := "()V" } : Jvm.MethodName)) ∈ lw_all := lw_g (lw_at lw_m0 8 rfl) rfl
theorem q24 : (Jvm.Cond.fieldLink "MachineTwins" (7 : Nat) "MachineTwins" "next" "[I") ∈ lw_all := lw_g (lw_at lw_m0 11 rfl) rfl
theorem q25 : (Jvm.Cond.fieldLink "MachineTwins" (13 : Nat) "MachineTwins" "output" "[I") ∈ lw_all := lw_g (lw_at lw_m0 12 rfl) rfl
theorem q26 : (Jvm.Cond.fieldLink "MachineTwins" (26 : Nat) "MachineTwins" "ready" "Z") ∈ lw_all := lw_g (lw_at lw_m0 13 rfl) rfl
theorem q27 : (Jvm.Cond.fieldLink "MachineTwins" (34 : Nat) "MachineTwins" "rounds" "I") ∈ lw_all := lw_g (lw_at lw_m0 14 rfl) rfl
theorem q28 : (Jvm.Cond.fieldLink "MachineTwins" (16 : Nat) "MachineTwins" "group" "[I") ∈ lw_all := lw_g (lw_at lw_m0 15 rfl) rfl
theorem q29 : (Jvm.Cond.fieldLink "MachineTwins" (19 : Nat) "MachineTwins" "letters" "[I") ∈ lw_all := lw_g (lw_at lw_m0 16 rfl) rfl
theorem q30 : (Jvm.Cond.fieldLink "MachineTwins" (48 : Nat) "MachineTwins" "wordLength" "I") ∈ lw_all := lw_g (lw_at lw_m0 17 rfl) rfl
theorem q31 : (Jvm.Cond.laysFinal "MachineTwins" "MachineTwins" "next" "[I") ∈ lw_all := lw_g (lw_at lw_m0 18 rfl) rfl
theorem q32 : (Jvm.Cond.soleField "MachineTwins" "next") ∈ lw_all := lw_g (lw_at lw_m0 19 rfl) rfl
theorem q33 : (Jvm.Cond.laysFinal "MachineTwins" "MachineTwins" "output" "[I") ∈ lw_all := lw_g (lw_at lw_m0 20 rfl) rfl
theorem q34 : (Jvm.Cond.soleField "MachineTwins" "output") ∈ lw_all := lw_g (lw_at lw_m0 21 rfl) rfl
theorem q35 : (Jvm.Cond.lays "MachineTwins" "MachineTwins" "ready" "Z") ∈ lw_all := lw_g (lw_at lw_m0 22 rfl) rfl
theorem q36 : (Jvm.Cond.soleField "MachineTwins" "ready") ∈ lw_all := lw_g (lw_at lw_m0 23 rfl) rfl
theorem q37 : (Jvm.Cond.lays "MachineTwins" "MachineTwins" "rounds" "I") ∈ lw_all := lw_g (lw_at lw_m0 24 rfl) rfl
theorem q38 : (Jvm.Cond.soleField "MachineTwins" "rounds") ∈ lw_all := lw_g (lw_at lw_m0 25 rfl) rfl
theorem q39 : (Jvm.Cond.laysFinal "MachineTwins" "MachineTwins" "group" "[I") ∈ lw_all := lw_g (lw_at lw_m0 26 rfl) rfl
theorem q40 : (Jvm.Cond.soleField "MachineTwins" "group") ∈ lw_all := lw_g (lw_at lw_m0 27 rfl) rfl
theorem q41 : (Jvm.Cond.laysFinal "MachineTwins" "MachineTwins" "letters" "[I") ∈ lw_all := lw_g (lw_at lw_m0 28 rfl) rfl
theorem q42 : (Jvm.Cond.soleField "MachineTwins" "letters") ∈ lw_all := lw_g (lw_at lw_m0 29 rfl) rfl
theorem q43 : (Jvm.Cond.lays "MachineTwins" "MachineTwins" "wordLength" "I") ∈ lw_all := lw_g (lw_at lw_m0 30 rfl) rfl
theorem q44 : (Jvm.Cond.soleField "MachineTwins" "wordLength") ∈ lw_all := lw_g (lw_at lw_m0 31 rfl) rfl
theorem q45 : (Jvm.Cond.superclass "MachineTwins" "java/lang/Object") ∈ lw_all := lw_g (lw_at lw_m0 32 rfl) rfl
theorem q48 : (Jvm.Cond.instanceMethod ({ cls := "MachineTwins", name := "transition", desc := "(III)I" } : Jvm.MethodName)) ∈ lw_all := lw_g (lw_at lw_m0 35 rfl) rfl
theorem q49 : (Jvm.Cond.selects "MachineTwins" ({ cls := "MachineTwins", name := "transition", desc := "(III)I" } : Jvm.MethodName) ({ cls := "MachineTwins", name := "transition", desc := "(III)I" } : Jvm.MethodName)) ∈ lw_all := lw_g (lw_at lw_m0 36 rfl) rfl
theorem q50 : (Jvm.Cond.code ({ cls := "MachineTwins", name := "transition", desc := "(III)I" } : Jvm.MethodName) prog_1_method_3_code (6 : Nat) (Option.some Jvm.ClassFile.FieldType.int)) ∈ lw_all := lw_g (lw_at lw_m0 37 rfl) rfl
theorem q51 : (Jvm.Cond.methodLink "MachineTwins" (22 : Nat) ({ cls := "MachineTwins", name := "bad", desc := "(I)Z" } : Jvm.MethodName)) ∈ lw_all := lw_g (lw_at lw_m0 38 rfl) rfl
theorem q52 : (Jvm.Cond.static ({ cls := "MachineTwins", name := "bad", desc := "(I)Z" } : Jvm.MethodName)) ∈ lw_all := lw_g (lw_at lw_m0 39 rfl) rfl
theorem q53 : (Jvm.Cond.code ({ cls := "MachineTwins", name := "bad", desc := "(I)Z" } : Jvm.MethodName) prog_1_method_2_code (1 : Nat) (Option.some Jvm.ClassFile.FieldType.boolean)) ∈ lw_all := lw_g (lw_at lw_m0 40 rfl) rfl
theorem q55 : (Jvm.Cond.instanceMethod ({ cls := "MachineTwins", name := "exchange", desc := "(III)I" } : Jvm.MethodName)) ∈ lw_all := lw_g (lw_at lw_m0 42 rfl) rfl
theorem q56 : (Jvm.Cond.selects "MachineTwins" ({ cls := "MachineTwins", name := "exchange", desc := "(III)I" } : Jvm.MethodName) ({ cls := "MachineTwins", name := "exchange", desc := "(III)I" } : Jvm.MethodName)) ∈ lw_all := lw_g (lw_at lw_m0 43 rfl) rfl
theorem q57 : (Jvm.Cond.code ({ cls := "MachineTwins", name := "exchange", desc := "(III)I" } : Jvm.MethodName) prog_1_method_4_code (5 : Nat) (Option.some Jvm.ClassFile.FieldType.int)) ∈ lw_all := lw_g (lw_at lw_m0 44 rfl) rfl
theorem q59 : (Jvm.Cond.instanceMethod ({ cls := "MachineTwins", name := "alike", desc := "(II)Z" } : Jvm.MethodName)) ∈ lw_all := lw_g (lw_at lw_m0 46 rfl) rfl
theorem q60 : (Jvm.Cond.selects "MachineTwins" ({ cls := "MachineTwins", name := "alike", desc := "(II)Z" } : Jvm.MethodName) ({ cls := "MachineTwins", name := "alike", desc := "(II)Z" } : Jvm.MethodName)) ∈ lw_all := lw_g (lw_at lw_m0 47 rfl) rfl
theorem q61 : (Jvm.Cond.code ({ cls := "MachineTwins", name := "alike", desc := "(II)Z" } : Jvm.MethodName) prog_1_method_12_code (4 : Nat) (Option.some Jvm.ClassFile.FieldType.boolean)) ∈ lw_all := lw_g (lw_at lw_m0 48 rfl) rfl
theorem q62 : (Jvm.Cond.methodLink "MachineTwins" (55 : Nat) ({ cls := "MachineTwins", name := "prepare", desc := "()V" } : Jvm.MethodName)) ∈ lw_all := lw_g (lw_at lw_m0 49 rfl) rfl
theorem q63 : (Jvm.Cond.privateMethod ({ cls := "MachineTwins", name := "prepare", desc := "()V" } : Jvm.MethodName)) ∈ lw_tbl := lw_at lw_m0 50 rfl
theorem q64 : (Jvm.Cond.instanceMethod ({ cls := "MachineTwins", name := "prepare", desc := "()V" } : Jvm.MethodName)) ∈ lw_all := lw_g (lw_at lw_m0 51 rfl) rfl
theorem q65 : (Jvm.Cond.code ({ cls := "MachineTwins", name := "prepare", desc := "()V" } : Jvm.MethodName) prog_1_method_8_code (2 : Nat) (Option.none : Option Jvm.ClassFile.FieldType)) ∈ lw_all := lw_g (lw_at lw_m0 52 rfl) rfl
theorem q66 : (Jvm.Cond.methodLink "MachineTwins" (38 : Nat) ({ cls := "MachineTwins", name := "split", desc := "(I)Z" } : Jvm.MethodName)) ∈ lw_all := lw_g (lw_at lw_m0 53 rfl) rfl
theorem q67 : (Jvm.Cond.privateMethod ({ cls := "MachineTwins", name := "split", desc := "(I)Z" } : Jvm.MethodName)) ∈ lw_tbl := lw_at lw_m0 54 rfl
theorem q68 : (Jvm.Cond.instanceMethod ({ cls := "MachineTwins", name := "split", desc := "(I)Z" } : Jvm.MethodName)) ∈ lw_all := lw_g (lw_at lw_m0 55 rfl) rfl
theorem q69 : (Jvm.Cond.code ({ cls := "MachineTwins", name := "split", desc := "(I)Z" } : Jvm.MethodName) prog_1_method_7_code (5 : Nat) (Option.some Jvm.ClassFile.FieldType.boolean)) ∈ lw_all := lw_g (lw_at lw_m0 56 rfl) rfl
theorem q70 : (Jvm.Cond.methodLink "MachineTwins" (30 : Nat) ({ cls := "MachineTwins", name := "together", desc := "(III)Z" } : Jvm.MethodName)) ∈ lw_all := lw_g (lw_at lw_m0 57 rfl) rfl
theorem q71 : (Jvm.Cond.privateMethod ({ cls := "MachineTwins", name := "together", desc := "(III)Z" } : Jvm.MethodName)) ∈ lw_tbl := lw_at lw_m0 58 rfl
theorem q72 : (Jvm.Cond.instanceMethod ({ cls := "MachineTwins", name := "together", desc := "(III)Z" } : Jvm.MethodName)) ∈ lw_all := lw_g (lw_at lw_m0 59 rfl) rfl
theorem q73 : (Jvm.Cond.code ({ cls := "MachineTwins", name := "together", desc := "(III)Z" } : Jvm.MethodName) prog_1_method_6_code (7 : Nat) (Option.some Jvm.ClassFile.FieldType.boolean)) ∈ lw_all := lw_g (lw_at lw_m0 60 rfl) rfl
theorem q74 : (Jvm.Cond.methodLink "MachineTwins" (45 : Nat) ({ cls := "MachineTwins", name := "parting", desc := "(II)I" } : Jvm.MethodName)) ∈ lw_all := lw_g (lw_at lw_m0 61 rfl) rfl
theorem q75 : (Jvm.Cond.privateMethod ({ cls := "MachineTwins", name := "parting", desc := "(II)I" } : Jvm.MethodName)) ∈ lw_tbl := lw_at lw_m0 62 rfl
theorem q76 : (Jvm.Cond.instanceMethod ({ cls := "MachineTwins", name := "parting", desc := "(II)I" } : Jvm.MethodName)) ∈ lw_all := lw_g (lw_at lw_m0 63 rfl) rfl
theorem q77 : (Jvm.Cond.code ({ cls := "MachineTwins", name := "parting", desc := "(II)I" } : Jvm.MethodName) prog_1_method_9_code (6 : Nat) (Option.some Jvm.ClassFile.FieldType.int)) ∈ lw_all := lw_g (lw_at lw_m0 64 rfl) rfl
theorem q78 : (Jvm.Cond.methodLink "MachineTwins" (41 : Nat) ({ cls := "MachineTwins", name := "groupOf", desc := "(II)I" } : Jvm.MethodName)) ∈ lw_all := lw_g (lw_at lw_m0 65 rfl) rfl
theorem q79 : (Jvm.Cond.privateMethod ({ cls := "MachineTwins", name := "groupOf", desc := "(II)I" } : Jvm.MethodName)) ∈ lw_tbl := lw_at lw_m0 66 rfl
theorem q80 : (Jvm.Cond.instanceMethod ({ cls := "MachineTwins", name := "groupOf", desc := "(II)I" } : Jvm.MethodName)) ∈ lw_all := lw_g (lw_at lw_m0 67 rfl) rfl
theorem q81 : (Jvm.Cond.code ({ cls := "MachineTwins", name := "groupOf", desc := "(II)I" } : Jvm.MethodName) prog_1_method_5_code (3 : Nat) (Option.some Jvm.ClassFile.FieldType.int)) ∈ lw_all := lw_g (lw_at lw_m0 68 rfl) rfl
theorem q83 : (Jvm.Cond.instanceMethod ({ cls := "MachineTwins", name := "distance", desc := "(II)I" } : Jvm.MethodName)) ∈ lw_all := lw_g (lw_at lw_m0 70 rfl) rfl
theorem q84 : (Jvm.Cond.selects "MachineTwins" ({ cls := "MachineTwins", name := "distance", desc := "(II)I" } : Jvm.MethodName) ({ cls := "MachineTwins", name := "distance", desc := "(II)I" } : Jvm.MethodName)) ∈ lw_all := lw_g (lw_at lw_m0 71 rfl) rfl
theorem q85 : (Jvm.Cond.code ({ cls := "MachineTwins", name := "distance", desc := "(II)I" } : Jvm.MethodName) prog_1_method_13_code (4 : Nat) (Option.some Jvm.ClassFile.FieldType.int)) ∈ lw_all := lw_g (lw_at lw_m0 72 rfl) rfl
theorem q87 : (Jvm.Cond.instanceMethod ({ cls := "MachineTwins", name := "teller", desc := "(III)I" } : Jvm.MethodName)) ∈ lw_all := lw_g (lw_at lw_m0 74 rfl) rfl
theorem q88 : (Jvm.Cond.selects "MachineTwins" ({ cls := "MachineTwins", name := "teller", desc := "(III)I" } : Jvm.MethodName) ({ cls := "MachineTwins", name := "teller", desc := "(III)I" } : Jvm.MethodName)) ∈ lw_all := lw_g (lw_at lw_m0 75 rfl) rfl
theorem q89 : (Jvm.Cond.code ({ cls := "MachineTwins", name := "teller", desc := "(III)I" } : Jvm.MethodName) prog_1_method_14_code (4 : Nat) (Option.some Jvm.ClassFile.FieldType.int)) ∈ lw_all := lw_g (lw_at lw_m0 76 rfl) rfl
theorem q90 : (Jvm.Cond.methodLink "MachineTwins" (58 : Nat) ({ cls := "MachineTwins", name := "findWord", desc := "(II)V" } : Jvm.MethodName)) ∈ lw_all := lw_g (lw_at lw_m0 77 rfl) rfl
theorem q91 : (Jvm.Cond.privateMethod ({ cls := "MachineTwins", name := "findWord", desc := "(II)V" } : Jvm.MethodName)) ∈ lw_tbl := lw_at lw_m0 78 rfl
theorem q92 : (Jvm.Cond.instanceMethod ({ cls := "MachineTwins", name := "findWord", desc := "(II)V" } : Jvm.MethodName)) ∈ lw_all := lw_g (lw_at lw_m0 79 rfl) rfl
theorem q93 : (Jvm.Cond.code ({ cls := "MachineTwins", name := "findWord", desc := "(II)V" } : Jvm.MethodName) prog_1_method_11_code (7 : Nat) (Option.none : Option Jvm.ClassFile.FieldType)) ∈ lw_all := lw_g (lw_at lw_m0 80 rfl) rfl
theorem q94 : (Jvm.Cond.methodLink "MachineTwins" (51 : Nat) ({ cls := "MachineTwins", name := "firstInput", desc := "(III)I" } : Jvm.MethodName)) ∈ lw_all := lw_g (lw_at lw_m0 81 rfl) rfl
theorem q95 : (Jvm.Cond.privateMethod ({ cls := "MachineTwins", name := "firstInput", desc := "(III)I" } : Jvm.MethodName)) ∈ lw_tbl := lw_at lw_m0 82 rfl
theorem q96 : (Jvm.Cond.instanceMethod ({ cls := "MachineTwins", name := "firstInput", desc := "(III)I" } : Jvm.MethodName)) ∈ lw_all := lw_g (lw_at lw_m0 83 rfl) rfl
theorem q97 : (Jvm.Cond.code ({ cls := "MachineTwins", name := "firstInput", desc := "(III)I" } : Jvm.MethodName) prog_1_method_10_code (8 : Nat) (Option.some Jvm.ClassFile.FieldType.int)) ∈ lw_all := lw_g (lw_at lw_m0 84 rfl) rfl
theorem q99 : (Jvm.Cond.instanceMethod ({ cls := "MachineTwins", name := "kind", desc := "(I)I" } : Jvm.MethodName)) ∈ lw_all := lw_g (lw_at lw_m0 86 rfl) rfl
theorem q100 : (Jvm.Cond.selects "MachineTwins" ({ cls := "MachineTwins", name := "kind", desc := "(I)I" } : Jvm.MethodName) ({ cls := "MachineTwins", name := "kind", desc := "(I)I" } : Jvm.MethodName)) ∈ lw_all := lw_g (lw_at lw_m0 87 rfl) rfl
theorem q101 : (Jvm.Cond.code ({ cls := "MachineTwins", name := "kind", desc := "(I)I" } : Jvm.MethodName) prog_1_method_15_code (2 : Nat) (Option.some Jvm.ClassFile.FieldType.int)) ∈ lw_all := lw_g (lw_at lw_m0 88 rfl) rfl
theorem q103 : (Jvm.Cond.instanceMethod ({ cls := "MachineTwins", name := "kinds", desc := "()I" } : Jvm.MethodName)) ∈ lw_all := lw_g (lw_at lw_m0 90 rfl) rfl
theorem q104 : (Jvm.Cond.selects "MachineTwins" ({ cls := "MachineTwins", name := "kinds", desc := "()I" } : Jvm.MethodName) ({ cls := "MachineTwins", name := "kinds", desc := "()I" } : Jvm.MethodName)) ∈ lw_all := lw_g (lw_at lw_m0 91 rfl) rfl
theorem q105 : (Jvm.Cond.code ({ cls := "MachineTwins", name := "kinds", desc := "()I" } : Jvm.MethodName) prog_1_method_16_code (4 : Nat) (Option.some Jvm.ClassFile.FieldType.int)) ∈ lw_all := lw_g (lw_at lw_m0 92 rfl) rfl
theorem q107 : (Jvm.Cond.instanceMethod ({ cls := "MachineTwins", name := "reachableKinds", desc := "(I)I" } : Jvm.MethodName)) ∈ lw_all := lw_g (lw_at lw_m0 94 rfl) rfl
theorem q108 : (Jvm.Cond.selects "MachineTwins" ({ cls := "MachineTwins", name := "reachableKinds", desc := "(I)I" } : Jvm.MethodName) ({ cls := "MachineTwins", name := "reachableKinds", desc := "(I)I" } : Jvm.MethodName)) ∈ lw_all := lw_g (lw_at lw_m0 95 rfl) rfl
theorem q109 : (Jvm.Cond.code ({ cls := "MachineTwins", name := "reachableKinds", desc := "(I)I" } : Jvm.MethodName) prog_1_method_18_code (6 : Nat) (Option.some Jvm.ClassFile.FieldType.int)) ∈ lw_all := lw_g (lw_at lw_m0 96 rfl) rfl
theorem q110 : (Jvm.Cond.methodLink "MachineTwins" (62 : Nat) ({ cls := "MachineTwins", name := "reach", desc := "(I)I" } : Jvm.MethodName)) ∈ lw_all := lw_g (lw_at lw_m0 97 rfl) rfl
theorem q111 : (Jvm.Cond.privateMethod ({ cls := "MachineTwins", name := "reach", desc := "(I)I" } : Jvm.MethodName)) ∈ lw_tbl := lw_at lw_m0 98 rfl
theorem q112 : (Jvm.Cond.instanceMethod ({ cls := "MachineTwins", name := "reach", desc := "(I)I" } : Jvm.MethodName)) ∈ lw_all := lw_g (lw_at lw_m0 99 rfl) rfl
theorem q113 : (Jvm.Cond.code ({ cls := "MachineTwins", name := "reach", desc := "(I)I" } : Jvm.MethodName) prog_1_method_17_code (6 : Nat) (Option.some Jvm.ClassFile.FieldType.int)) ∈ lw_all := lw_g (lw_at lw_m0 100 rfl) rfl
theorem q115 : (Jvm.Cond.instanceMethod ({ cls := "MachineTwins", name := "depth", desc := "()I" } : Jvm.MethodName)) ∈ lw_all := lw_g (lw_at lw_m0 102 rfl) rfl
theorem q116 : (Jvm.Cond.selects "MachineTwins" ({ cls := "MachineTwins", name := "depth", desc := "()I" } : Jvm.MethodName) ({ cls := "MachineTwins", name := "depth", desc := "()I" } : Jvm.MethodName)) ∈ lw_all := lw_g (lw_at lw_m0 103 rfl) rfl
theorem q117 : (Jvm.Cond.code ({ cls := "MachineTwins", name := "depth", desc := "()I" } : Jvm.MethodName) prog_1_method_19_code (1 : Nat) (Option.some Jvm.ClassFile.FieldType.int)) ∈ lw_all := lw_g (lw_at lw_m0 104 rfl) rfl
theorem q119 : (Jvm.Cond.instanceMethod ({ cls := "MachineTwins", name := "run", desc := "(III)I" } : Jvm.MethodName)) ∈ lw_all := lw_g (lw_at lw_m0 106 rfl) rfl
theorem q120 : (Jvm.Cond.selects "MachineTwins" ({ cls := "MachineTwins", name := "run", desc := "(III)I" } : Jvm.MethodName) ({ cls := "MachineTwins", name := "run", desc := "(III)I" } : Jvm.MethodName)) ∈ lw_all := lw_g (lw_at lw_m0 107 rfl) rfl
theorem q121 : (Jvm.Cond.code ({ cls := "MachineTwins", name := "run", desc := "(III)I" } : Jvm.MethodName) prog_1_method_20_code (7 : Nat) (Option.some Jvm.ClassFile.FieldType.int)) ∈ lw_all := lw_g (lw_at lw_m0 108 rfl) rfl
theorem in_X0 : ∀ w ∈ wsX00, w ∈ lw_all := lw_in wsX00 [31, 33, 35, 37, 39, 41, 43] (by decide +kernel) (by decide +kernel)
/-! MachineTwinsModel -/
def RX1 : String := "MachineTwinsModel"
def TX1 : u_T := fun k => match k with
  | 0 => ("MachineTwinsModel", "nexts", "[I", true)
  | 1 => ("MachineTwinsModel", "outputs", "[I", true)
  | 2 => ("MachineTwinsModel", "pairs", "[I", true)
  | 3 => ("MachineTwinsModel", "from", "[I", true)
  | 4 => ("MachineTwinsModel", "by", "[I", true)
  | 5 => ("MachineTwinsModel", "known", "[Z", true)
  | 6 => ("MachineTwinsModel", "pairCount", "I", false)
  | _ => ("MachineTwinsModel", "word", "[I", true)
def tyX1 : Nat → FieldType := fun k => match k with
  | 0 => .array .int
  | 1 => .array .int
  | 2 => .array .int
  | 3 => .array .int
  | 4 => .array .int
  | 5 => .array .boolean
  | 6 => .int
  | _ => .array .int
abbrev wsX10 : List Cond := u_ws RX1 TX1 8
theorem nmX1 : ∀ a, a < 8 → ∀ b, b < 8 → a ≠ b → (TX1 a).2.1 ≠ (TX1 b).2.1 := by decide +kernel
theorem tyX1_ok : ∀ k, k < 8 → parseFieldDescriptor (TX1 k).2.2.1 = some (tyX1 k) := by decide +kernel
abbrev cX1_init : ByteArray := prog_3_method_1_code
def yX1_init : MethodName := ⟨RX1, "<init>", "()V"⟩
abbrev cX1_transition : ByteArray := prog_3_method_4_code
def yX1_transition : MethodName := ⟨RX1, "transition", "(III)I"⟩
abbrev cX1_isState : ByteArray := prog_3_method_2_code
def yX1_isState : MethodName := ⟨RX1, "isState", "(I)Z"⟩
abbrev cX1_isInput : ByteArray := prog_3_method_3_code
def yX1_isInput : MethodName := ⟨RX1, "isInput", "(I)Z"⟩
abbrev cX1_exchange : ByteArray := prog_3_method_5_code
def yX1_exchange : MethodName := ⟨RX1, "exchange", "(III)I"⟩
abbrev cX1_alike : ByteArray := prog_3_method_9_code
def yX1_alike : MethodName := ⟨RX1, "alike", "(II)Z"⟩
abbrev cX1_search : ByteArray := prog_3_method_7_code
def yX1_search : MethodName := ⟨RX1, "search", "(II)I"⟩
abbrev cX1_come : ByteArray := prog_3_method_6_code
def yX1_come : MethodName := ⟨RX1, "come", "(IIII)V"⟩
abbrev cX1_spell : ByteArray := prog_3_method_8_code
def yX1_spell : MethodName := ⟨RX1, "spell", "(II)I"⟩
abbrev cX1_distance : ByteArray := prog_3_method_10_code
def yX1_distance : MethodName := ⟨RX1, "distance", "(II)I"⟩
abbrev cX1_teller : ByteArray := prog_3_method_11_code
def yX1_teller : MethodName := ⟨RX1, "teller", "(III)I"⟩
abbrev cX1_kind : ByteArray := prog_3_method_12_code
def yX1_kind : MethodName := ⟨RX1, "kind", "(I)I"⟩
abbrev cX1_kinds : ByteArray := prog_3_method_13_code
def yX1_kinds : MethodName := ⟨RX1, "kinds", "()I"⟩
abbrev cX1_reachableKinds : ByteArray := prog_3_method_14_code
def yX1_reachableKinds : MethodName := ⟨RX1, "reachableKinds", "(I)I"⟩
abbrev cX1_depth : ByteArray := prog_3_method_15_code
def yX1_depth : MethodName := ⟨RX1, "depth", "()I"⟩
abbrev cX1_run : ByteArray := prog_3_method_16_code
def yX1_run : MethodName := ⟨RX1, "run", "(III)I"⟩
theorem q15 : (Jvm.Cond.initialized "MachineTwinsModel") ∈ lw_all := lw_g (lw_at lw_m0 2 rfl) rfl
theorem q123 : (Jvm.Cond.instantiable "MachineTwinsModel" (8 : Nat)) ∈ lw_all := lw_g (lw_at lw_m0 110 rfl) rfl
theorem q125 : (Jvm.Cond.instanceMethod ({ cls := "MachineTwinsModel", name := "<init>", desc := "()V" } : Jvm.MethodName)) ∈ lw_all := lw_g (lw_at lw_m0 112 rfl) rfl
theorem q126 : (Jvm.Cond.code ({ cls := "MachineTwinsModel", name := "<init>", desc := "()V" } : Jvm.MethodName) prog_3_method_1_code (2 : Nat) (Option.none : Option Jvm.ClassFile.FieldType)) ∈ lw_all := lw_g (lw_at lw_m0 113 rfl) rfl
theorem q127 : (Jvm.Cond.methodLink "MachineTwinsModel" (1 : Nat) ({ cls := "java/lang/Object", name := "<init>", desc := "()V" } : Jvm.MethodName)) ∈ lw_all := lw_g (lw_at lw_m0 114 rfl) rfl
theorem q128 : (Jvm.Cond.fieldLink "MachineTwinsModel" (7 : Nat) "MachineTwinsModel" "nexts" "[I") ∈ lw_all := lw_g (lw_at lw_m0 115 rfl) rfl
theorem q129 : (Jvm.Cond.fieldLink "MachineTwinsModel" (13 : Nat) "MachineTwinsModel" "outputs" "[I") ∈ lw_all := lw_g (lw_at lw_m0 116 rfl) rfl
theorem q130 : (Jvm.Cond.fieldLink "MachineTwinsModel" (16 : Nat) "MachineTwinsModel" "pairs" "[I") ∈ lw_all := lw_g (lw_at lw_m0 117 rfl) rfl
theorem q131 : (Jvm.Cond.fieldLink "MachineTwinsModel" (19 : Nat) "MachineTwinsModel" "from" "[I") ∈ lw_all := lw_g (lw_at lw_m0 118 rfl) rfl
theorem q132 : (Jvm.Cond.fieldLink "MachineTwinsModel" (22 : Nat) "MachineTwinsModel" "by" "[I") ∈ lw_all := lw_g (lw_at lw_m0 119 rfl) rfl
theorem q133 : (Jvm.Cond.fieldLink "MachineTwinsModel" (25 : Nat) "MachineTwinsModel" "known" "[Z") ∈ lw_all := lw_g (lw_at lw_m0 120 rfl) rfl
theorem q134 : (Jvm.Cond.fieldLink "MachineTwinsModel" (39 : Nat) "MachineTwinsModel" "pairCount" "I") ∈ lw_all := lw_g (lw_at lw_m0 121 rfl) rfl
theorem q135 : (Jvm.Cond.fieldLink "MachineTwinsModel" (29 : Nat) "MachineTwinsModel" "word" "[I") ∈ lw_all := lw_g (lw_at lw_m0 122 rfl) rfl
theorem q136 : (Jvm.Cond.laysFinal "MachineTwinsModel" "MachineTwinsModel" "nexts" "[I") ∈ lw_all := lw_g (lw_at lw_m0 123 rfl) rfl
theorem q137 : (Jvm.Cond.soleField "MachineTwinsModel" "nexts") ∈ lw_all := lw_g (lw_at lw_m0 124 rfl) rfl
theorem q138 : (Jvm.Cond.laysFinal "MachineTwinsModel" "MachineTwinsModel" "outputs" "[I") ∈ lw_all := lw_g (lw_at lw_m0 125 rfl) rfl
theorem q139 : (Jvm.Cond.soleField "MachineTwinsModel" "outputs") ∈ lw_all := lw_g (lw_at lw_m0 126 rfl) rfl
theorem q140 : (Jvm.Cond.laysFinal "MachineTwinsModel" "MachineTwinsModel" "pairs" "[I") ∈ lw_all := lw_g (lw_at lw_m0 127 rfl) rfl
theorem q141 : (Jvm.Cond.soleField "MachineTwinsModel" "pairs") ∈ lw_all := lw_g (lw_at lw_m0 128 rfl) rfl
theorem q142 : (Jvm.Cond.laysFinal "MachineTwinsModel" "MachineTwinsModel" "from" "[I") ∈ lw_all := lw_g (lw_at lw_m0 129 rfl) rfl
theorem q143 : (Jvm.Cond.soleField "MachineTwinsModel" "from") ∈ lw_all := lw_g (lw_at lw_m0 130 rfl) rfl
theorem q144 : (Jvm.Cond.laysFinal "MachineTwinsModel" "MachineTwinsModel" "by" "[I") ∈ lw_all := lw_g (lw_at lw_m0 131 rfl) rfl
theorem q145 : (Jvm.Cond.soleField "MachineTwinsModel" "by") ∈ lw_all := lw_g (lw_at lw_m0 132 rfl) rfl
theorem q146 : (Jvm.Cond.laysFinal "MachineTwinsModel" "MachineTwinsModel" "known" "[Z") ∈ lw_all := lw_g (lw_at lw_m0 133 rfl) rfl
theorem q147 : (Jvm.Cond.soleField "MachineTwinsModel" "known") ∈ lw_all := lw_g (lw_at lw_m0 134 rfl) rfl
theorem q148 : (Jvm.Cond.lays "MachineTwinsModel" "MachineTwinsModel" "pairCount" "I") ∈ lw_all := lw_g (lw_at lw_m0 135 rfl) rfl
theorem q149 : (Jvm.Cond.soleField "MachineTwinsModel" "pairCount") ∈ lw_all := lw_g (lw_at lw_m0 136 rfl) rfl
theorem q150 : (Jvm.Cond.laysFinal "MachineTwinsModel" "MachineTwinsModel" "word" "[I") ∈ lw_all := lw_g (lw_at lw_m0 137 rfl) rfl
theorem q151 : (Jvm.Cond.soleField "MachineTwinsModel" "word") ∈ lw_all := lw_g (lw_at lw_m0 138 rfl) rfl
theorem q152 : (Jvm.Cond.superclass "MachineTwinsModel" "java/lang/Object") ∈ lw_all := lw_g (lw_at lw_m0 139 rfl) rfl
theorem q155 : (Jvm.Cond.instanceMethod ({ cls := "MachineTwinsModel", name := "transition", desc := "(III)I" } : Jvm.MethodName)) ∈ lw_all := lw_g (lw_at lw_m0 142 rfl) rfl
theorem q156 : (Jvm.Cond.selects "MachineTwinsModel" ({ cls := "MachineTwinsModel", name := "transition", desc := "(III)I" } : Jvm.MethodName) ({ cls := "MachineTwinsModel", name := "transition", desc := "(III)I" } : Jvm.MethodName)) ∈ lw_all := lw_g (lw_at lw_m0 143 rfl) rfl
theorem q157 : (Jvm.Cond.code ({ cls := "MachineTwinsModel", name := "transition", desc := "(III)I" } : Jvm.MethodName) prog_3_method_4_code (6 : Nat) (Option.some Jvm.ClassFile.FieldType.int)) ∈ lw_all := lw_g (lw_at lw_m0 144 rfl) rfl
theorem q158 : (Jvm.Cond.methodLink "MachineTwinsModel" (32 : Nat) ({ cls := "MachineTwinsModel", name := "isState", desc := "(I)Z" } : Jvm.MethodName)) ∈ lw_all := lw_g (lw_at lw_m0 145 rfl) rfl
theorem q159 : (Jvm.Cond.privateMethod ({ cls := "MachineTwinsModel", name := "isState", desc := "(I)Z" } : Jvm.MethodName)) ∈ lw_tbl := lw_at lw_m0 146 rfl
theorem q160 : (Jvm.Cond.instanceMethod ({ cls := "MachineTwinsModel", name := "isState", desc := "(I)Z" } : Jvm.MethodName)) ∈ lw_all := lw_g (lw_at lw_m0 147 rfl) rfl
theorem q161 : (Jvm.Cond.code ({ cls := "MachineTwinsModel", name := "isState", desc := "(I)Z" } : Jvm.MethodName) prog_3_method_2_code (2 : Nat) (Option.some Jvm.ClassFile.FieldType.boolean)) ∈ lw_all := lw_g (lw_at lw_m0 148 rfl) rfl
theorem q162 : (Jvm.Cond.methodLink "MachineTwinsModel" (36 : Nat) ({ cls := "MachineTwinsModel", name := "isInput", desc := "(I)Z" } : Jvm.MethodName)) ∈ lw_all := lw_g (lw_at lw_m0 149 rfl) rfl
theorem q163 : (Jvm.Cond.privateMethod ({ cls := "MachineTwinsModel", name := "isInput", desc := "(I)Z" } : Jvm.MethodName)) ∈ lw_tbl := lw_at lw_m0 150 rfl
theorem q164 : (Jvm.Cond.instanceMethod ({ cls := "MachineTwinsModel", name := "isInput", desc := "(I)Z" } : Jvm.MethodName)) ∈ lw_all := lw_g (lw_at lw_m0 151 rfl) rfl
theorem q165 : (Jvm.Cond.code ({ cls := "MachineTwinsModel", name := "isInput", desc := "(I)Z" } : Jvm.MethodName) prog_3_method_3_code (2 : Nat) (Option.some Jvm.ClassFile.FieldType.boolean)) ∈ lw_all := lw_g (lw_at lw_m0 152 rfl) rfl
theorem q167 : (Jvm.Cond.instanceMethod ({ cls := "MachineTwinsModel", name := "exchange", desc := "(III)I" } : Jvm.MethodName)) ∈ lw_all := lw_g (lw_at lw_m0 154 rfl) rfl
theorem q168 : (Jvm.Cond.selects "MachineTwinsModel" ({ cls := "MachineTwinsModel", name := "exchange", desc := "(III)I" } : Jvm.MethodName) ({ cls := "MachineTwinsModel", name := "exchange", desc := "(III)I" } : Jvm.MethodName)) ∈ lw_all := lw_g (lw_at lw_m0 155 rfl) rfl
theorem q169 : (Jvm.Cond.code ({ cls := "MachineTwinsModel", name := "exchange", desc := "(III)I" } : Jvm.MethodName) prog_3_method_5_code (5 : Nat) (Option.some Jvm.ClassFile.FieldType.int)) ∈ lw_all := lw_g (lw_at lw_m0 156 rfl) rfl
theorem q171 : (Jvm.Cond.instanceMethod ({ cls := "MachineTwinsModel", name := "alike", desc := "(II)Z" } : Jvm.MethodName)) ∈ lw_all := lw_g (lw_at lw_m0 158 rfl) rfl
theorem q172 : (Jvm.Cond.selects "MachineTwinsModel" ({ cls := "MachineTwinsModel", name := "alike", desc := "(II)Z" } : Jvm.MethodName) ({ cls := "MachineTwinsModel", name := "alike", desc := "(II)Z" } : Jvm.MethodName)) ∈ lw_all := lw_g (lw_at lw_m0 159 rfl) rfl
theorem q173 : (Jvm.Cond.code ({ cls := "MachineTwinsModel", name := "alike", desc := "(II)Z" } : Jvm.MethodName) prog_3_method_9_code (3 : Nat) (Option.some Jvm.ClassFile.FieldType.boolean)) ∈ lw_all := lw_g (lw_at lw_m0 160 rfl) rfl
theorem q174 : (Jvm.Cond.methodLink "MachineTwinsModel" (51 : Nat) ({ cls := "MachineTwinsModel", name := "search", desc := "(II)I" } : Jvm.MethodName)) ∈ lw_all := lw_g (lw_at lw_m0 161 rfl) rfl
theorem q175 : (Jvm.Cond.privateMethod ({ cls := "MachineTwinsModel", name := "search", desc := "(II)I" } : Jvm.MethodName)) ∈ lw_tbl := lw_at lw_m0 162 rfl
theorem q176 : (Jvm.Cond.instanceMethod ({ cls := "MachineTwinsModel", name := "search", desc := "(II)I" } : Jvm.MethodName)) ∈ lw_all := lw_g (lw_at lw_m0 163 rfl) rfl
theorem q177 : (Jvm.Cond.code ({ cls := "MachineTwinsModel", name := "search", desc := "(II)I" } : Jvm.MethodName) prog_3_method_7_code (7 : Nat) (Option.some Jvm.ClassFile.FieldType.int)) ∈ lw_all := lw_g (lw_at lw_m0 164 rfl) rfl
theorem q178 : (Jvm.Cond.methodLink "MachineTwinsModel" (43 : Nat) ({ cls := "MachineTwinsModel", name := "come", desc := "(IIII)V" } : Jvm.MethodName)) ∈ lw_all := lw_g (lw_at lw_m0 165 rfl) rfl
theorem q179 : (Jvm.Cond.privateMethod ({ cls := "MachineTwinsModel", name := "come", desc := "(IIII)V" } : Jvm.MethodName)) ∈ lw_tbl := lw_at lw_m0 166 rfl
theorem q180 : (Jvm.Cond.instanceMethod ({ cls := "MachineTwinsModel", name := "come", desc := "(IIII)V" } : Jvm.MethodName)) ∈ lw_all := lw_g (lw_at lw_m0 167 rfl) rfl
theorem q181 : (Jvm.Cond.code ({ cls := "MachineTwinsModel", name := "come", desc := "(IIII)V" } : Jvm.MethodName) prog_3_method_6_code (5 : Nat) (Option.none : Option Jvm.ClassFile.FieldType)) ∈ lw_all := lw_g (lw_at lw_m0 168 rfl) rfl
theorem q182 : (Jvm.Cond.methodLink "MachineTwinsModel" (47 : Nat) ({ cls := "MachineTwinsModel", name := "spell", desc := "(II)I" } : Jvm.MethodName)) ∈ lw_all := lw_g (lw_at lw_m0 169 rfl) rfl
theorem q183 : (Jvm.Cond.privateMethod ({ cls := "MachineTwinsModel", name := "spell", desc := "(II)I" } : Jvm.MethodName)) ∈ lw_tbl := lw_at lw_m0 170 rfl
theorem q184 : (Jvm.Cond.instanceMethod ({ cls := "MachineTwinsModel", name := "spell", desc := "(II)I" } : Jvm.MethodName)) ∈ lw_all := lw_g (lw_at lw_m0 171 rfl) rfl
theorem q185 : (Jvm.Cond.code ({ cls := "MachineTwinsModel", name := "spell", desc := "(II)I" } : Jvm.MethodName) prog_3_method_8_code (5 : Nat) (Option.some Jvm.ClassFile.FieldType.int)) ∈ lw_all := lw_g (lw_at lw_m0 172 rfl) rfl
theorem q187 : (Jvm.Cond.instanceMethod ({ cls := "MachineTwinsModel", name := "distance", desc := "(II)I" } : Jvm.MethodName)) ∈ lw_all := lw_g (lw_at lw_m0 174 rfl) rfl
theorem q188 : (Jvm.Cond.selects "MachineTwinsModel" ({ cls := "MachineTwinsModel", name := "distance", desc := "(II)I" } : Jvm.MethodName) ({ cls := "MachineTwinsModel", name := "distance", desc := "(II)I" } : Jvm.MethodName)) ∈ lw_all := lw_g (lw_at lw_m0 175 rfl) rfl
theorem q189 : (Jvm.Cond.code ({ cls := "MachineTwinsModel", name := "distance", desc := "(II)I" } : Jvm.MethodName) prog_3_method_10_code (4 : Nat) (Option.some Jvm.ClassFile.FieldType.int)) ∈ lw_all := lw_g (lw_at lw_m0 176 rfl) rfl
theorem q191 : (Jvm.Cond.instanceMethod ({ cls := "MachineTwinsModel", name := "teller", desc := "(III)I" } : Jvm.MethodName)) ∈ lw_all := lw_g (lw_at lw_m0 178 rfl) rfl
theorem q192 : (Jvm.Cond.selects "MachineTwinsModel" ({ cls := "MachineTwinsModel", name := "teller", desc := "(III)I" } : Jvm.MethodName) ({ cls := "MachineTwinsModel", name := "teller", desc := "(III)I" } : Jvm.MethodName)) ∈ lw_all := lw_g (lw_at lw_m0 179 rfl) rfl
theorem q193 : (Jvm.Cond.code ({ cls := "MachineTwinsModel", name := "teller", desc := "(III)I" } : Jvm.MethodName) prog_3_method_11_code (5 : Nat) (Option.some Jvm.ClassFile.FieldType.int)) ∈ lw_all := lw_g (lw_at lw_m0 180 rfl) rfl
theorem q195 : (Jvm.Cond.instanceMethod ({ cls := "MachineTwinsModel", name := "kind", desc := "(I)I" } : Jvm.MethodName)) ∈ lw_all := lw_g (lw_at lw_m0 182 rfl) rfl
theorem q196 : (Jvm.Cond.selects "MachineTwinsModel" ({ cls := "MachineTwinsModel", name := "kind", desc := "(I)I" } : Jvm.MethodName) ({ cls := "MachineTwinsModel", name := "kind", desc := "(I)I" } : Jvm.MethodName)) ∈ lw_all := lw_g (lw_at lw_m0 183 rfl) rfl
theorem q197 : (Jvm.Cond.code ({ cls := "MachineTwinsModel", name := "kind", desc := "(I)I" } : Jvm.MethodName) prog_3_method_12_code (3 : Nat) (Option.some Jvm.ClassFile.FieldType.int)) ∈ lw_all := lw_g (lw_at lw_m0 184 rfl) rfl
theorem q198 : (Jvm.Cond.methodLink "MachineTwinsModel" (54 : Nat) ({ cls := "MachineTwinsModel", name := "alike", desc := "(II)Z" } : Jvm.MethodName)) ∈ lw_all := lw_g (lw_at lw_m0 185 rfl) rfl
theorem q200 : (Jvm.Cond.instanceMethod ({ cls := "MachineTwinsModel", name := "kinds", desc := "()I" } : Jvm.MethodName)) ∈ lw_all := lw_g (lw_at lw_m0 187 rfl) rfl
theorem q201 : (Jvm.Cond.selects "MachineTwinsModel" ({ cls := "MachineTwinsModel", name := "kinds", desc := "()I" } : Jvm.MethodName) ({ cls := "MachineTwinsModel", name := "kinds", desc := "()I" } : Jvm.MethodName)) ∈ lw_all := lw_g (lw_at lw_m0 188 rfl) rfl
theorem q202 : (Jvm.Cond.code ({ cls := "MachineTwinsModel", name := "kinds", desc := "()I" } : Jvm.MethodName) prog_3_method_13_code (3 : Nat) (Option.some Jvm.ClassFile.FieldType.int)) ∈ lw_all := lw_g (lw_at lw_m0 189 rfl) rfl
theorem q203 : (Jvm.Cond.methodLink "MachineTwinsModel" (58 : Nat) ({ cls := "MachineTwinsModel", name := "kind", desc := "(I)I" } : Jvm.MethodName)) ∈ lw_all := lw_g (lw_at lw_m0 190 rfl) rfl
theorem q205 : (Jvm.Cond.instanceMethod ({ cls := "MachineTwinsModel", name := "reachableKinds", desc := "(I)I" } : Jvm.MethodName)) ∈ lw_all := lw_g (lw_at lw_m0 192 rfl) rfl
theorem q206 : (Jvm.Cond.selects "MachineTwinsModel" ({ cls := "MachineTwinsModel", name := "reachableKinds", desc := "(I)I" } : Jvm.MethodName) ({ cls := "MachineTwinsModel", name := "reachableKinds", desc := "(I)I" } : Jvm.MethodName)) ∈ lw_all := lw_g (lw_at lw_m0 193 rfl) rfl
theorem q207 : (Jvm.Cond.code ({ cls := "MachineTwinsModel", name := "reachableKinds", desc := "(I)I" } : Jvm.MethodName) prog_3_method_14_code (6 : Nat) (Option.some Jvm.ClassFile.FieldType.int)) ∈ lw_all := lw_g (lw_at lw_m0 194 rfl) rfl
theorem q209 : (Jvm.Cond.instanceMethod ({ cls := "MachineTwinsModel", name := "depth", desc := "()I" } : Jvm.MethodName)) ∈ lw_all := lw_g (lw_at lw_m0 196 rfl) rfl
theorem q210 : (Jvm.Cond.selects "MachineTwinsModel" ({ cls := "MachineTwinsModel", name := "depth", desc := "()I" } : Jvm.MethodName) ({ cls := "MachineTwinsModel", name := "depth", desc := "()I" } : Jvm.MethodName)) ∈ lw_all := lw_g (lw_at lw_m0 197 rfl) rfl
theorem q211 : (Jvm.Cond.code ({ cls := "MachineTwinsModel", name := "depth", desc := "()I" } : Jvm.MethodName) prog_3_method_15_code (4 : Nat) (Option.some Jvm.ClassFile.FieldType.int)) ∈ lw_all := lw_g (lw_at lw_m0 198 rfl) rfl
theorem q213 : (Jvm.Cond.instanceMethod ({ cls := "MachineTwinsModel", name := "run", desc := "(III)I" } : Jvm.MethodName)) ∈ lw_all := lw_g (lw_at lw_m0 200 rfl) rfl
theorem q214 : (Jvm.Cond.selects "MachineTwinsModel" ({ cls := "MachineTwinsModel", name := "run", desc := "(III)I" } : Jvm.MethodName) ({ cls := "MachineTwinsModel", name := "run", desc := "(III)I" } : Jvm.MethodName)) ∈ lw_all := lw_g (lw_at lw_m0 201 rfl) rfl
theorem q215 : (Jvm.Cond.code ({ cls := "MachineTwinsModel", name := "run", desc := "(III)I" } : Jvm.MethodName) prog_3_method_16_code (7 : Nat) (Option.some Jvm.ClassFile.FieldType.int)) ∈ lw_all := lw_g (lw_at lw_m0 202 rfl) rfl
theorem in_X1 : ∀ w ∈ wsX10, w ∈ lw_all := lw_in wsX10 [136, 138, 140, 142, 144, 146, 148, 150] (by decide +kernel) (by decide +kernel)
/-! the law's own entry -/
abbrev cL_law : ByteArray := code
end
section
set_option maxRecDepth 100000
theorem dX0_init_0 : decode cX0_init 0 = .ok (.aload_n 0, 1) := by decide +kernel
theorem dX0_init_1 : decode cX0_init 1 = .ok (.invokespecial 1, 3) := by decide +kernel
theorem dX0_init_4 : decode cX0_init 4 = .ok (.aload_n 0, 1) := by decide +kernel
theorem dX0_init_5 : decode cX0_init 5 = .ok (.bipush 48, 2) := by decide +kernel
theorem dX0_init_7 : decode cX0_init 7 = .ok (.newarray .int, 2) := by decide +kernel
theorem dX0_init_9 : decode cX0_init 9 = .ok (.putfield 7, 3) := by decide +kernel
theorem dX0_init_12 : decode cX0_init 12 = .ok (.aload_n 0, 1) := by decide +kernel
theorem dX0_init_13 : decode cX0_init 13 = .ok (.bipush 48, 2) := by decide +kernel
theorem dX0_init_15 : decode cX0_init 15 = .ok (.newarray .int, 2) := by decide +kernel
theorem dX0_init_17 : decode cX0_init 17 = .ok (.putfield 13, 3) := by decide +kernel
theorem dX0_init_20 : decode cX0_init 20 = .ok (.aload_n 0, 1) := by decide +kernel
theorem dX0_init_21 : decode cX0_init 21 = .ok (.sipush 288, 3) := by decide +kernel
theorem dX0_init_24 : decode cX0_init 24 = .ok (.newarray .int, 2) := by decide +kernel
theorem dX0_init_26 : decode cX0_init 26 = .ok (.putfield 16, 3) := by decide +kernel
theorem dX0_init_29 : decode cX0_init 29 = .ok (.aload_n 0, 1) := by decide +kernel
theorem dX0_init_30 : decode cX0_init 30 = .ok (.bipush 16, 2) := by decide +kernel
theorem dX0_init_32 : decode cX0_init 32 = .ok (.newarray .int, 2) := by decide +kernel
theorem dX0_init_34 : decode cX0_init 34 = .ok (.putfield 19, 3) := by decide +kernel
theorem dX0_init_37 : decode cX0_init 37 = .ok (.iconst 0, 1) := by decide +kernel
theorem dX0_init_38 : decode cX0_init 38 = .ok (.istore_n 1, 1) := by decide +kernel
theorem dX0_init_39 : decode cX0_init 39 = .ok (.iload_n 1, 1) := by decide +kernel
theorem dX0_init_40 : decode cX0_init 40 = .ok (.bipush 48, 2) := by decide +kernel
theorem dX0_init_42 : decode cX0_init 42 = .ok (.if_icmp .ge 18, 3) := by decide +kernel
theorem dX0_init_45 : decode cX0_init 45 = .ok (.aload_n 0, 1) := by decide +kernel
theorem dX0_init_46 : decode cX0_init 46 = .ok (.getfield 7, 3) := by decide +kernel
theorem dX0_init_49 : decode cX0_init 49 = .ok (.iload_n 1, 1) := by decide +kernel
theorem dX0_init_50 : decode cX0_init 50 = .ok (.iload_n 1, 1) := by decide +kernel
theorem dX0_init_51 : decode cX0_init 51 = .ok (.iconst 3, 1) := by decide +kernel
theorem dX0_init_52 : decode cX0_init 52 = .ok (.idiv, 1) := by decide +kernel
theorem dX0_init_53 : decode cX0_init 53 = .ok (.iastore, 1) := by decide +kernel
theorem dX0_init_54 : decode cX0_init 54 = .ok (.iinc 1 1, 3) := by decide +kernel
theorem dX0_init_57 : decode cX0_init 57 = .ok (.goto (-18), 3) := by decide +kernel
theorem dX0_init_60 : decode cX0_init 60 = .ok (.return_, 1) := by decide +kernel
theorem dX0_transition_0 : decode cX0_transition 0 = .ok (.iload_n 1, 1) := by decide +kernel
theorem dX0_transition_1 : decode cX0_transition 1 = .ok (.invokestatic 22, 3) := by decide +kernel
theorem dX0_transition_4 : decode cX0_transition 4 = .ok (.ifCond .eq 5, 3) := by decide +kernel
theorem dX0_transition_7 : decode cX0_transition 7 = .ok (.iconst (-1), 1) := by decide +kernel
theorem dX0_transition_8 : decode cX0_transition 8 = .ok (.ireturn, 1) := by decide +kernel
theorem dX0_transition_9 : decode cX0_transition 9 = .ok (.iload_n 2, 1) := by decide +kernel
theorem dX0_transition_10 : decode cX0_transition 10 = .ok (.ifCond .lt 8, 3) := by decide +kernel
theorem dX0_transition_13 : decode cX0_transition 13 = .ok (.iload_n 2, 1) := by decide +kernel
theorem dX0_transition_14 : decode cX0_transition 14 = .ok (.iconst 3, 1) := by decide +kernel
theorem dX0_transition_15 : decode cX0_transition 15 = .ok (.if_icmp .lt 6, 3) := by decide +kernel
theorem dX0_transition_18 : decode cX0_transition 18 = .ok (.bipush (-2), 2) := by decide +kernel
theorem dX0_transition_20 : decode cX0_transition 20 = .ok (.ireturn, 1) := by decide +kernel
theorem dX0_transition_21 : decode cX0_transition 21 = .ok (.iload_n 1, 1) := by decide +kernel
theorem dX0_transition_22 : decode cX0_transition 22 = .ok (.iconst 3, 1) := by decide +kernel
theorem dX0_transition_23 : decode cX0_transition 23 = .ok (.imul, 1) := by decide +kernel
theorem dX0_transition_24 : decode cX0_transition 24 = .ok (.iload_n 2, 1) := by decide +kernel
theorem dX0_transition_25 : decode cX0_transition 25 = .ok (.iadd, 1) := by decide +kernel
theorem dX0_transition_26 : decode cX0_transition 26 = .ok (.istore 4, 2) := by decide +kernel
theorem dX0_transition_28 : decode cX0_transition 28 = .ok (.aload_n 0, 1) := by decide +kernel
theorem dX0_transition_29 : decode cX0_transition 29 = .ok (.getfield 7, 3) := by decide +kernel
theorem dX0_transition_32 : decode cX0_transition 32 = .ok (.iload 4, 2) := by decide +kernel
theorem dX0_transition_34 : decode cX0_transition 34 = .ok (.iaload, 1) := by decide +kernel
theorem dX0_transition_35 : decode cX0_transition 35 = .ok (.bipush 16, 2) := by decide +kernel
theorem dX0_transition_37 : decode cX0_transition 37 = .ok (.aload_n 0, 1) := by decide +kernel
theorem dX0_transition_38 : decode cX0_transition 38 = .ok (.getfield 13, 3) := by decide +kernel
theorem dX0_transition_41 : decode cX0_transition 41 = .ok (.iload 4, 2) := by decide +kernel
theorem dX0_transition_43 : decode cX0_transition 43 = .ok (.iaload, 1) := by decide +kernel
theorem dX0_transition_44 : decode cX0_transition 44 = .ok (.imul, 1) := by decide +kernel
theorem dX0_transition_45 : decode cX0_transition 45 = .ok (.iadd, 1) := by decide +kernel
theorem dX0_transition_46 : decode cX0_transition 46 = .ok (.istore 5, 2) := by decide +kernel
theorem dX0_transition_48 : decode cX0_transition 48 = .ok (.aload_n 0, 1) := by decide +kernel
theorem dX0_transition_49 : decode cX0_transition 49 = .ok (.getfield 7, 3) := by decide +kernel
theorem dX0_transition_52 : decode cX0_transition 52 = .ok (.iload 4, 2) := by decide +kernel
theorem dX0_transition_54 : decode cX0_transition 54 = .ok (.iload_n 3, 1) := by decide +kernel
theorem dX0_transition_55 : decode cX0_transition 55 = .ok (.bipush 15, 2) := by decide +kernel
theorem dX0_transition_57 : decode cX0_transition 57 = .ok (.iand, 1) := by decide +kernel
theorem dX0_transition_58 : decode cX0_transition 58 = .ok (.iastore, 1) := by decide +kernel
theorem dX0_transition_59 : decode cX0_transition 59 = .ok (.aload_n 0, 1) := by decide +kernel
theorem dX0_transition_60 : decode cX0_transition 60 = .ok (.getfield 13, 3) := by decide +kernel
theorem dX0_transition_63 : decode cX0_transition 63 = .ok (.iload 4, 2) := by decide +kernel
theorem dX0_transition_65 : decode cX0_transition 65 = .ok (.iload_n 3, 1) := by decide +kernel
theorem dX0_transition_66 : decode cX0_transition 66 = .ok (.iconst 4, 1) := by decide +kernel
theorem dX0_transition_67 : decode cX0_transition 67 = .ok (.ishr, 1) := by decide +kernel
theorem dX0_transition_68 : decode cX0_transition 68 = .ok (.bipush 7, 2) := by decide +kernel
theorem dX0_transition_70 : decode cX0_transition 70 = .ok (.iand, 1) := by decide +kernel
theorem dX0_transition_71 : decode cX0_transition 71 = .ok (.iastore, 1) := by decide +kernel
theorem dX0_transition_72 : decode cX0_transition 72 = .ok (.aload_n 0, 1) := by decide +kernel
theorem dX0_transition_73 : decode cX0_transition 73 = .ok (.iconst 0, 1) := by decide +kernel
theorem dX0_transition_74 : decode cX0_transition 74 = .ok (.putfield 26, 3) := by decide +kernel
theorem dX0_transition_77 : decode cX0_transition 77 = .ok (.iload 5, 2) := by decide +kernel
theorem dX0_transition_79 : decode cX0_transition 79 = .ok (.ireturn, 1) := by decide +kernel
theorem dX0_bad_0 : decode cX0_bad 0 = .ok (.iload_n 0, 1) := by decide +kernel
theorem dX0_bad_1 : decode cX0_bad 1 = .ok (.ifCond .lt 9, 3) := by decide +kernel
theorem dX0_bad_4 : decode cX0_bad 4 = .ok (.iload_n 0, 1) := by decide +kernel
theorem dX0_bad_5 : decode cX0_bad 5 = .ok (.bipush 16, 2) := by decide +kernel
theorem dX0_bad_7 : decode cX0_bad 7 = .ok (.if_icmp .lt 7, 3) := by decide +kernel
theorem dX0_bad_10 : decode cX0_bad 10 = .ok (.iconst 1, 1) := by decide +kernel
theorem dX0_bad_11 : decode cX0_bad 11 = .ok (.goto 4, 3) := by decide +kernel
theorem dX0_bad_14 : decode cX0_bad 14 = .ok (.iconst 0, 1) := by decide +kernel
theorem dX0_bad_15 : decode cX0_bad 15 = .ok (.ireturn, 1) := by decide +kernel
theorem dX0_exchange_0 : decode cX0_exchange 0 = .ok (.iload_n 1, 1) := by decide +kernel
theorem dX0_exchange_1 : decode cX0_exchange 1 = .ok (.invokestatic 22, 3) := by decide +kernel
theorem dX0_exchange_4 : decode cX0_exchange 4 = .ok (.ifCond .ne 10, 3) := by decide +kernel
theorem dX0_exchange_7 : decode cX0_exchange 7 = .ok (.iload_n 2, 1) := by decide +kernel
theorem dX0_exchange_8 : decode cX0_exchange 8 = .ok (.invokestatic 22, 3) := by decide +kernel
theorem dX0_exchange_11 : decode cX0_exchange 11 = .ok (.ifCond .eq 5, 3) := by decide +kernel
theorem dX0_exchange_14 : decode cX0_exchange 14 = .ok (.iconst (-1), 1) := by decide +kernel
theorem dX0_exchange_15 : decode cX0_exchange 15 = .ok (.ireturn, 1) := by decide +kernel
theorem dX0_exchange_16 : decode cX0_exchange 16 = .ok (.iload_n 3, 1) := by decide +kernel
theorem dX0_exchange_17 : decode cX0_exchange 17 = .ok (.ifCond .lt 8, 3) := by decide +kernel
theorem dX0_exchange_20 : decode cX0_exchange 20 = .ok (.iload_n 3, 1) := by decide +kernel
theorem dX0_exchange_21 : decode cX0_exchange 21 = .ok (.iconst 3, 1) := by decide +kernel
theorem dX0_exchange_22 : decode cX0_exchange 22 = .ok (.if_icmp .lt 6, 3) := by decide +kernel
theorem dX0_exchange_25 : decode cX0_exchange 25 = .ok (.bipush (-2), 2) := by decide +kernel
theorem dX0_exchange_27 : decode cX0_exchange 27 = .ok (.ireturn, 1) := by decide +kernel
theorem dX0_exchange_28 : decode cX0_exchange 28 = .ok (.aload_n 0, 1) := by decide +kernel
theorem dX0_exchange_29 : decode cX0_exchange 29 = .ok (.getfield 13, 3) := by decide +kernel
theorem dX0_exchange_32 : decode cX0_exchange 32 = .ok (.iload_n 1, 1) := by decide +kernel
theorem dX0_exchange_33 : decode cX0_exchange 33 = .ok (.iconst 3, 1) := by decide +kernel
theorem dX0_exchange_34 : decode cX0_exchange 34 = .ok (.imul, 1) := by decide +kernel
theorem dX0_exchange_35 : decode cX0_exchange 35 = .ok (.iload_n 3, 1) := by decide +kernel
theorem dX0_exchange_36 : decode cX0_exchange 36 = .ok (.iadd, 1) := by decide +kernel
theorem dX0_exchange_37 : decode cX0_exchange 37 = .ok (.iaload, 1) := by decide +kernel
theorem dX0_exchange_38 : decode cX0_exchange 38 = .ok (.istore 4, 2) := by decide +kernel
theorem dX0_exchange_40 : decode cX0_exchange 40 = .ok (.aload_n 0, 1) := by decide +kernel
theorem dX0_exchange_41 : decode cX0_exchange 41 = .ok (.getfield 13, 3) := by decide +kernel
theorem dX0_exchange_44 : decode cX0_exchange 44 = .ok (.iload_n 1, 1) := by decide +kernel
theorem dX0_exchange_45 : decode cX0_exchange 45 = .ok (.iconst 3, 1) := by decide +kernel
theorem dX0_exchange_46 : decode cX0_exchange 46 = .ok (.imul, 1) := by decide +kernel
theorem dX0_exchange_47 : decode cX0_exchange 47 = .ok (.iload_n 3, 1) := by decide +kernel
theorem dX0_exchange_48 : decode cX0_exchange 48 = .ok (.iadd, 1) := by decide +kernel
theorem dX0_exchange_49 : decode cX0_exchange 49 = .ok (.aload_n 0, 1) := by decide +kernel
theorem dX0_exchange_50 : decode cX0_exchange 50 = .ok (.getfield 13, 3) := by decide +kernel
theorem dX0_exchange_53 : decode cX0_exchange 53 = .ok (.iload_n 2, 1) := by decide +kernel
theorem dX0_exchange_54 : decode cX0_exchange 54 = .ok (.iconst 3, 1) := by decide +kernel
theorem dX0_exchange_55 : decode cX0_exchange 55 = .ok (.imul, 1) := by decide +kernel
theorem dX0_exchange_56 : decode cX0_exchange 56 = .ok (.iload_n 3, 1) := by decide +kernel
theorem dX0_exchange_57 : decode cX0_exchange 57 = .ok (.iadd, 1) := by decide +kernel
theorem dX0_exchange_58 : decode cX0_exchange 58 = .ok (.iaload, 1) := by decide +kernel
theorem dX0_exchange_59 : decode cX0_exchange 59 = .ok (.iastore, 1) := by decide +kernel
theorem dX0_exchange_60 : decode cX0_exchange 60 = .ok (.aload_n 0, 1) := by decide +kernel
theorem dX0_exchange_61 : decode cX0_exchange 61 = .ok (.getfield 13, 3) := by decide +kernel
theorem dX0_exchange_64 : decode cX0_exchange 64 = .ok (.iload_n 2, 1) := by decide +kernel
theorem dX0_exchange_65 : decode cX0_exchange 65 = .ok (.iconst 3, 1) := by decide +kernel
theorem dX0_exchange_66 : decode cX0_exchange 66 = .ok (.imul, 1) := by decide +kernel
theorem dX0_exchange_67 : decode cX0_exchange 67 = .ok (.iload_n 3, 1) := by decide +kernel
theorem dX0_exchange_68 : decode cX0_exchange 68 = .ok (.iadd, 1) := by decide +kernel
theorem dX0_exchange_69 : decode cX0_exchange 69 = .ok (.iload 4, 2) := by decide +kernel
theorem dX0_exchange_71 : decode cX0_exchange 71 = .ok (.iastore, 1) := by decide +kernel
theorem dX0_exchange_72 : decode cX0_exchange 72 = .ok (.aload_n 0, 1) := by decide +kernel
theorem dX0_exchange_73 : decode cX0_exchange 73 = .ok (.iconst 0, 1) := by decide +kernel
theorem dX0_exchange_74 : decode cX0_exchange 74 = .ok (.putfield 26, 3) := by decide +kernel
theorem dX0_exchange_77 : decode cX0_exchange 77 = .ok (.iconst 0, 1) := by decide +kernel
theorem dX0_exchange_78 : decode cX0_exchange 78 = .ok (.ireturn, 1) := by decide +kernel
theorem dX0_alike_0 : decode cX0_alike 0 = .ok (.iload_n 1, 1) := by decide +kernel
theorem dX0_alike_1 : decode cX0_alike 1 = .ok (.invokestatic 22, 3) := by decide +kernel
theorem dX0_alike_4 : decode cX0_alike 4 = .ok (.ifCond .ne 10, 3) := by decide +kernel
theorem dX0_alike_7 : decode cX0_alike 7 = .ok (.iload_n 2, 1) := by decide +kernel
theorem dX0_alike_8 : decode cX0_alike 8 = .ok (.invokestatic 22, 3) := by decide +kernel
theorem dX0_alike_11 : decode cX0_alike 11 = .ok (.ifCond .eq 5, 3) := by decide +kernel
theorem dX0_alike_14 : decode cX0_alike 14 = .ok (.iconst 0, 1) := by decide +kernel
theorem dX0_alike_15 : decode cX0_alike 15 = .ok (.ireturn, 1) := by decide +kernel
theorem dX0_alike_16 : decode cX0_alike 16 = .ok (.aload_n 0, 1) := by decide +kernel
theorem dX0_alike_17 : decode cX0_alike 17 = .ok (.invokevirtual 55, 3) := by decide +kernel
theorem dX0_alike_20 : decode cX0_alike 20 = .ok (.aload_n 0, 1) := by decide +kernel
theorem dX0_alike_21 : decode cX0_alike 21 = .ok (.iload_n 1, 1) := by decide +kernel
theorem dX0_alike_22 : decode cX0_alike 22 = .ok (.iload_n 2, 1) := by decide +kernel
theorem dX0_alike_23 : decode cX0_alike 23 = .ok (.invokevirtual 45, 3) := by decide +kernel
theorem dX0_alike_26 : decode cX0_alike 26 = .ok (.istore_n 3, 1) := by decide +kernel
theorem dX0_alike_27 : decode cX0_alike 27 = .ok (.iload_n 3, 1) := by decide +kernel
theorem dX0_alike_28 : decode cX0_alike 28 = .ok (.ifCond .ne 7, 3) := by decide +kernel
theorem dX0_alike_31 : decode cX0_alike 31 = .ok (.iconst 1, 1) := by decide +kernel
theorem dX0_alike_32 : decode cX0_alike 32 = .ok (.goto 4, 3) := by decide +kernel
theorem dX0_alike_35 : decode cX0_alike 35 = .ok (.iconst 0, 1) := by decide +kernel
theorem dX0_alike_36 : decode cX0_alike 36 = .ok (.ireturn, 1) := by decide +kernel
theorem dX0_prepare_0 : decode cX0_prepare 0 = .ok (.aload_n 0, 1) := by decide +kernel
theorem dX0_prepare_1 : decode cX0_prepare 1 = .ok (.getfield 26, 3) := by decide +kernel
theorem dX0_prepare_4 : decode cX0_prepare 4 = .ok (.ifCond .eq 4, 3) := by decide +kernel
theorem dX0_prepare_7 : decode cX0_prepare 7 = .ok (.return_, 1) := by decide +kernel
theorem dX0_prepare_8 : decode cX0_prepare 8 = .ok (.aload_n 0, 1) := by decide +kernel
theorem dX0_prepare_9 : decode cX0_prepare 9 = .ok (.iconst 1, 1) := by decide +kernel
theorem dX0_prepare_10 : decode cX0_prepare 10 = .ok (.putfield 26, 3) := by decide +kernel
theorem dX0_prepare_13 : decode cX0_prepare 13 = .ok (.aload_n 0, 1) := by decide +kernel
theorem dX0_prepare_14 : decode cX0_prepare 14 = .ok (.iconst 0, 1) := by decide +kernel
theorem dX0_prepare_15 : decode cX0_prepare 15 = .ok (.putfield 34, 3) := by decide +kernel
theorem dX0_prepare_18 : decode cX0_prepare 18 = .ok (.iconst 0, 1) := by decide +kernel
theorem dX0_prepare_19 : decode cX0_prepare 19 = .ok (.istore_n 1, 1) := by decide +kernel
theorem dX0_prepare_20 : decode cX0_prepare 20 = .ok (.iload_n 1, 1) := by decide +kernel
theorem dX0_prepare_21 : decode cX0_prepare 21 = .ok (.bipush 16, 2) := by decide +kernel
theorem dX0_prepare_23 : decode cX0_prepare 23 = .ok (.if_icmp .ge 16, 3) := by decide +kernel
theorem dX0_prepare_26 : decode cX0_prepare 26 = .ok (.aload_n 0, 1) := by decide +kernel
theorem dX0_prepare_27 : decode cX0_prepare 27 = .ok (.getfield 16, 3) := by decide +kernel
theorem dX0_prepare_30 : decode cX0_prepare 30 = .ok (.iload_n 1, 1) := by decide +kernel
theorem dX0_prepare_31 : decode cX0_prepare 31 = .ok (.iconst 0, 1) := by decide +kernel
theorem dX0_prepare_32 : decode cX0_prepare 32 = .ok (.iastore, 1) := by decide +kernel
theorem dX0_prepare_33 : decode cX0_prepare 33 = .ok (.iinc 1 1, 3) := by decide +kernel
theorem dX0_prepare_36 : decode cX0_prepare 36 = .ok (.goto (-16), 3) := by decide +kernel
theorem dX0_prepare_39 : decode cX0_prepare 39 = .ok (.aload_n 0, 1) := by decide +kernel
theorem dX0_prepare_40 : decode cX0_prepare 40 = .ok (.iconst 0, 1) := by decide +kernel
theorem dX0_prepare_41 : decode cX0_prepare 41 = .ok (.invokevirtual 38, 3) := by decide +kernel
theorem dX0_prepare_44 : decode cX0_prepare 44 = .ok (.istore_n 1, 1) := by decide +kernel
theorem dX0_prepare_45 : decode cX0_prepare 45 = .ok (.iload_n 1, 1) := by decide +kernel
theorem dX0_prepare_46 : decode cX0_prepare 46 = .ok (.ifCond .eq 34, 3) := by decide +kernel
theorem dX0_prepare_49 : decode cX0_prepare 49 = .ok (.aload_n 0, 1) := by decide +kernel
theorem dX0_prepare_50 : decode cX0_prepare 50 = .ok (.getfield 34, 3) := by decide +kernel
theorem dX0_prepare_53 : decode cX0_prepare 53 = .ok (.bipush 16, 2) := by decide +kernel
theorem dX0_prepare_55 : decode cX0_prepare 55 = .ok (.if_icmp .ge 25, 3) := by decide +kernel
theorem dX0_prepare_58 : decode cX0_prepare 58 = .ok (.aload_n 0, 1) := by decide +kernel
theorem dX0_prepare_59 : decode cX0_prepare 59 = .ok (.dup, 1) := by decide +kernel
theorem dX0_prepare_60 : decode cX0_prepare 60 = .ok (.getfield 34, 3) := by decide +kernel
theorem dX0_prepare_63 : decode cX0_prepare 63 = .ok (.iconst 1, 1) := by decide +kernel
theorem dX0_prepare_64 : decode cX0_prepare 64 = .ok (.iadd, 1) := by decide +kernel
theorem dX0_prepare_65 : decode cX0_prepare 65 = .ok (.putfield 34, 3) := by decide +kernel
theorem dX0_prepare_68 : decode cX0_prepare 68 = .ok (.aload_n 0, 1) := by decide +kernel
theorem dX0_prepare_69 : decode cX0_prepare 69 = .ok (.aload_n 0, 1) := by decide +kernel
theorem dX0_prepare_70 : decode cX0_prepare 70 = .ok (.getfield 34, 3) := by decide +kernel
theorem dX0_prepare_73 : decode cX0_prepare 73 = .ok (.invokevirtual 38, 3) := by decide +kernel
theorem dX0_prepare_76 : decode cX0_prepare 76 = .ok (.istore_n 1, 1) := by decide +kernel
theorem dX0_prepare_77 : decode cX0_prepare 77 = .ok (.goto (-32), 3) := by decide +kernel
theorem dX0_prepare_80 : decode cX0_prepare 80 = .ok (.return_, 1) := by decide +kernel
theorem dX0_split_0 : decode cX0_split 0 = .ok (.iconst 0, 1) := by decide +kernel
theorem dX0_split_1 : decode cX0_split 1 = .ok (.istore_n 2, 1) := by decide +kernel
theorem dX0_split_2 : decode cX0_split 2 = .ok (.iconst 0, 1) := by decide +kernel
theorem dX0_split_3 : decode cX0_split 3 = .ok (.istore_n 3, 1) := by decide +kernel
theorem dX0_split_4 : decode cX0_split 4 = .ok (.iload_n 3, 1) := by decide +kernel
theorem dX0_split_5 : decode cX0_split 5 = .ok (.bipush 16, 2) := by decide +kernel
theorem dX0_split_7 : decode cX0_split 7 = .ok (.if_icmp .ge 68, 3) := by decide +kernel
theorem dX0_split_10 : decode cX0_split 10 = .ok (.iconst 0, 1) := by decide +kernel
theorem dX0_split_11 : decode cX0_split 11 = .ok (.istore 4, 2) := by decide +kernel
theorem dX0_split_13 : decode cX0_split 13 = .ok (.iload 4, 2) := by decide +kernel
theorem dX0_split_15 : decode cX0_split 15 = .ok (.iload_n 3, 1) := by decide +kernel
theorem dX0_split_16 : decode cX0_split 16 = .ok (.if_icmp .ge 20, 3) := by decide +kernel
theorem dX0_split_19 : decode cX0_split 19 = .ok (.aload_n 0, 1) := by decide +kernel
theorem dX0_split_20 : decode cX0_split 20 = .ok (.iload_n 1, 1) := by decide +kernel
theorem dX0_split_21 : decode cX0_split 21 = .ok (.iload 4, 2) := by decide +kernel
theorem dX0_split_23 : decode cX0_split 23 = .ok (.iload_n 3, 1) := by decide +kernel
theorem dX0_split_24 : decode cX0_split 24 = .ok (.invokevirtual 30, 3) := by decide +kernel
theorem dX0_split_27 : decode cX0_split 27 = .ok (.ifCond .ne 9, 3) := by decide +kernel
theorem dX0_split_30 : decode cX0_split 30 = .ok (.iinc 4 1, 3) := by decide +kernel
theorem dX0_split_33 : decode cX0_split 33 = .ok (.goto (-20), 3) := by decide +kernel
theorem dX0_split_36 : decode cX0_split 36 = .ok (.aload_n 0, 1) := by decide +kernel
theorem dX0_split_37 : decode cX0_split 37 = .ok (.getfield 16, 3) := by decide +kernel
theorem dX0_split_40 : decode cX0_split 40 = .ok (.iload_n 1, 1) := by decide +kernel
theorem dX0_split_41 : decode cX0_split 41 = .ok (.iconst 1, 1) := by decide +kernel
theorem dX0_split_42 : decode cX0_split 42 = .ok (.iadd, 1) := by decide +kernel
theorem dX0_split_43 : decode cX0_split 43 = .ok (.bipush 16, 2) := by decide +kernel
theorem dX0_split_45 : decode cX0_split 45 = .ok (.imul, 1) := by decide +kernel
theorem dX0_split_46 : decode cX0_split 46 = .ok (.iload_n 3, 1) := by decide +kernel
theorem dX0_split_47 : decode cX0_split 47 = .ok (.iadd, 1) := by decide +kernel
theorem dX0_split_48 : decode cX0_split 48 = .ok (.iload 4, 2) := by decide +kernel
theorem dX0_split_50 : decode cX0_split 50 = .ok (.iastore, 1) := by decide +kernel
theorem dX0_split_51 : decode cX0_split 51 = .ok (.iload 4, 2) := by decide +kernel
theorem dX0_split_53 : decode cX0_split 53 = .ok (.aload_n 0, 1) := by decide +kernel
theorem dX0_split_54 : decode cX0_split 54 = .ok (.getfield 16, 3) := by decide +kernel
theorem dX0_split_57 : decode cX0_split 57 = .ok (.iload_n 1, 1) := by decide +kernel
theorem dX0_split_58 : decode cX0_split 58 = .ok (.bipush 16, 2) := by decide +kernel
theorem dX0_split_60 : decode cX0_split 60 = .ok (.imul, 1) := by decide +kernel
theorem dX0_split_61 : decode cX0_split 61 = .ok (.iload_n 3, 1) := by decide +kernel
theorem dX0_split_62 : decode cX0_split 62 = .ok (.iadd, 1) := by decide +kernel
theorem dX0_split_63 : decode cX0_split 63 = .ok (.iaload, 1) := by decide +kernel
theorem dX0_split_64 : decode cX0_split 64 = .ok (.if_icmp .eq 5, 3) := by decide +kernel
theorem dX0_split_67 : decode cX0_split 67 = .ok (.iconst 1, 1) := by decide +kernel
theorem dX0_split_68 : decode cX0_split 68 = .ok (.istore_n 2, 1) := by decide +kernel
theorem dX0_split_69 : decode cX0_split 69 = .ok (.iinc 3 1, 3) := by decide +kernel
theorem dX0_split_72 : decode cX0_split 72 = .ok (.goto (-68), 3) := by decide +kernel
theorem dX0_split_75 : decode cX0_split 75 = .ok (.iload_n 2, 1) := by decide +kernel
theorem dX0_split_76 : decode cX0_split 76 = .ok (.ireturn, 1) := by decide +kernel
theorem dX0_together_0 : decode cX0_together 0 = .ok (.aload_n 0, 1) := by decide +kernel
theorem dX0_together_1 : decode cX0_together 1 = .ok (.getfield 16, 3) := by decide +kernel
theorem dX0_together_4 : decode cX0_together 4 = .ok (.iload_n 1, 1) := by decide +kernel
theorem dX0_together_5 : decode cX0_together 5 = .ok (.bipush 16, 2) := by decide +kernel
theorem dX0_together_7 : decode cX0_together 7 = .ok (.imul, 1) := by decide +kernel
theorem dX0_together_8 : decode cX0_together 8 = .ok (.iload_n 2, 1) := by decide +kernel
theorem dX0_together_9 : decode cX0_together 9 = .ok (.iadd, 1) := by decide +kernel
theorem dX0_together_10 : decode cX0_together 10 = .ok (.iaload, 1) := by decide +kernel
theorem dX0_together_11 : decode cX0_together 11 = .ok (.aload_n 0, 1) := by decide +kernel
theorem dX0_together_12 : decode cX0_together 12 = .ok (.getfield 16, 3) := by decide +kernel
theorem dX0_together_15 : decode cX0_together 15 = .ok (.iload_n 1, 1) := by decide +kernel
theorem dX0_together_16 : decode cX0_together 16 = .ok (.bipush 16, 2) := by decide +kernel
theorem dX0_together_18 : decode cX0_together 18 = .ok (.imul, 1) := by decide +kernel
theorem dX0_together_19 : decode cX0_together 19 = .ok (.iload_n 3, 1) := by decide +kernel
theorem dX0_together_20 : decode cX0_together 20 = .ok (.iadd, 1) := by decide +kernel
theorem dX0_together_21 : decode cX0_together 21 = .ok (.iaload, 1) := by decide +kernel
theorem dX0_together_22 : decode cX0_together 22 = .ok (.if_icmp .eq 5, 3) := by decide +kernel
theorem dX0_together_25 : decode cX0_together 25 = .ok (.iconst 0, 1) := by decide +kernel
theorem dX0_together_26 : decode cX0_together 26 = .ok (.ireturn, 1) := by decide +kernel
theorem dX0_together_27 : decode cX0_together 27 = .ok (.iconst 0, 1) := by decide +kernel
theorem dX0_together_28 : decode cX0_together 28 = .ok (.istore 4, 2) := by decide +kernel
theorem dX0_together_30 : decode cX0_together 30 = .ok (.iload 4, 2) := by decide +kernel
theorem dX0_together_32 : decode cX0_together 32 = .ok (.iconst 3, 1) := by decide +kernel
theorem dX0_together_33 : decode cX0_together 33 = .ok (.if_icmp .ge 83, 3) := by decide +kernel
theorem dX0_together_36 : decode cX0_together 36 = .ok (.iload_n 2, 1) := by decide +kernel
theorem dX0_together_37 : decode cX0_together 37 = .ok (.iconst 3, 1) := by decide +kernel
theorem dX0_together_38 : decode cX0_together 38 = .ok (.imul, 1) := by decide +kernel
theorem dX0_together_39 : decode cX0_together 39 = .ok (.iload 4, 2) := by decide +kernel
theorem dX0_together_41 : decode cX0_together 41 = .ok (.iadd, 1) := by decide +kernel
theorem dX0_together_42 : decode cX0_together 42 = .ok (.istore 5, 2) := by decide +kernel
theorem dX0_together_44 : decode cX0_together 44 = .ok (.iload_n 3, 1) := by decide +kernel
theorem dX0_together_45 : decode cX0_together 45 = .ok (.iconst 3, 1) := by decide +kernel
theorem dX0_together_46 : decode cX0_together 46 = .ok (.imul, 1) := by decide +kernel
theorem dX0_together_47 : decode cX0_together 47 = .ok (.iload 4, 2) := by decide +kernel
theorem dX0_together_49 : decode cX0_together 49 = .ok (.iadd, 1) := by decide +kernel
theorem dX0_together_50 : decode cX0_together 50 = .ok (.istore 6, 2) := by decide +kernel
theorem dX0_together_52 : decode cX0_together 52 = .ok (.aload_n 0, 1) := by decide +kernel
theorem dX0_together_53 : decode cX0_together 53 = .ok (.getfield 13, 3) := by decide +kernel
theorem dX0_together_56 : decode cX0_together 56 = .ok (.iload 5, 2) := by decide +kernel
theorem dX0_together_58 : decode cX0_together 58 = .ok (.iaload, 1) := by decide +kernel
theorem dX0_together_59 : decode cX0_together 59 = .ok (.aload_n 0, 1) := by decide +kernel
theorem dX0_together_60 : decode cX0_together 60 = .ok (.getfield 13, 3) := by decide +kernel
theorem dX0_together_63 : decode cX0_together 63 = .ok (.iload 6, 2) := by decide +kernel
theorem dX0_together_65 : decode cX0_together 65 = .ok (.iaload, 1) := by decide +kernel
theorem dX0_together_66 : decode cX0_together 66 = .ok (.if_icmp .eq 5, 3) := by decide +kernel
theorem dX0_together_69 : decode cX0_together 69 = .ok (.iconst 0, 1) := by decide +kernel
theorem dX0_together_70 : decode cX0_together 70 = .ok (.ireturn, 1) := by decide +kernel
theorem dX0_together_71 : decode cX0_together 71 = .ok (.aload_n 0, 1) := by decide +kernel
theorem dX0_together_72 : decode cX0_together 72 = .ok (.getfield 16, 3) := by decide +kernel
theorem dX0_together_75 : decode cX0_together 75 = .ok (.iload_n 1, 1) := by decide +kernel
theorem dX0_together_76 : decode cX0_together 76 = .ok (.bipush 16, 2) := by decide +kernel
theorem dX0_together_78 : decode cX0_together 78 = .ok (.imul, 1) := by decide +kernel
theorem dX0_together_79 : decode cX0_together 79 = .ok (.aload_n 0, 1) := by decide +kernel
theorem dX0_together_80 : decode cX0_together 80 = .ok (.getfield 7, 3) := by decide +kernel
theorem dX0_together_83 : decode cX0_together 83 = .ok (.iload 5, 2) := by decide +kernel
theorem dX0_together_85 : decode cX0_together 85 = .ok (.iaload, 1) := by decide +kernel
theorem dX0_together_86 : decode cX0_together 86 = .ok (.iadd, 1) := by decide +kernel
theorem dX0_together_87 : decode cX0_together 87 = .ok (.iaload, 1) := by decide +kernel
theorem dX0_together_88 : decode cX0_together 88 = .ok (.aload_n 0, 1) := by decide +kernel
theorem dX0_together_89 : decode cX0_together 89 = .ok (.getfield 16, 3) := by decide +kernel
theorem dX0_together_92 : decode cX0_together 92 = .ok (.iload_n 1, 1) := by decide +kernel
theorem dX0_together_93 : decode cX0_together 93 = .ok (.bipush 16, 2) := by decide +kernel
theorem dX0_together_95 : decode cX0_together 95 = .ok (.imul, 1) := by decide +kernel
theorem dX0_together_96 : decode cX0_together 96 = .ok (.aload_n 0, 1) := by decide +kernel
theorem dX0_together_97 : decode cX0_together 97 = .ok (.getfield 7, 3) := by decide +kernel
theorem dX0_together_100 : decode cX0_together 100 = .ok (.iload 6, 2) := by decide +kernel
theorem dX0_together_102 : decode cX0_together 102 = .ok (.iaload, 1) := by decide +kernel
theorem dX0_together_103 : decode cX0_together 103 = .ok (.iadd, 1) := by decide +kernel
theorem dX0_together_104 : decode cX0_together 104 = .ok (.iaload, 1) := by decide +kernel
theorem dX0_together_105 : decode cX0_together 105 = .ok (.if_icmp .eq 5, 3) := by decide +kernel
theorem dX0_together_108 : decode cX0_together 108 = .ok (.iconst 0, 1) := by decide +kernel
theorem dX0_together_109 : decode cX0_together 109 = .ok (.ireturn, 1) := by decide +kernel
theorem dX0_together_110 : decode cX0_together 110 = .ok (.iinc 4 1, 3) := by decide +kernel
theorem dX0_together_113 : decode cX0_together 113 = .ok (.goto (-83), 3) := by decide +kernel
theorem dX0_together_116 : decode cX0_together 116 = .ok (.iconst 1, 1) := by decide +kernel
theorem dX0_together_117 : decode cX0_together 117 = .ok (.ireturn, 1) := by decide +kernel
theorem dX0_parting_0 : decode cX0_parting 0 = .ok (.iconst 1, 1) := by decide +kernel
theorem dX0_parting_1 : decode cX0_parting 1 = .ok (.istore_n 3, 1) := by decide +kernel
theorem dX0_parting_2 : decode cX0_parting 2 = .ok (.iload_n 3, 1) := by decide +kernel
theorem dX0_parting_3 : decode cX0_parting 3 = .ok (.aload_n 0, 1) := by decide +kernel
theorem dX0_parting_4 : decode cX0_parting 4 = .ok (.getfield 34, 3) := by decide +kernel
theorem dX0_parting_7 : decode cX0_parting 7 = .ok (.if_icmp .gt 34, 3) := by decide +kernel
theorem dX0_parting_10 : decode cX0_parting 10 = .ok (.aload_n 0, 1) := by decide +kernel
theorem dX0_parting_11 : decode cX0_parting 11 = .ok (.iload_n 3, 1) := by decide +kernel
theorem dX0_parting_12 : decode cX0_parting 12 = .ok (.iload_n 1, 1) := by decide +kernel
theorem dX0_parting_13 : decode cX0_parting 13 = .ok (.invokevirtual 41, 3) := by decide +kernel
theorem dX0_parting_16 : decode cX0_parting 16 = .ok (.istore 4, 2) := by decide +kernel
theorem dX0_parting_18 : decode cX0_parting 18 = .ok (.aload_n 0, 1) := by decide +kernel
theorem dX0_parting_19 : decode cX0_parting 19 = .ok (.iload_n 3, 1) := by decide +kernel
theorem dX0_parting_20 : decode cX0_parting 20 = .ok (.iload_n 2, 1) := by decide +kernel
theorem dX0_parting_21 : decode cX0_parting 21 = .ok (.invokevirtual 41, 3) := by decide +kernel
theorem dX0_parting_24 : decode cX0_parting 24 = .ok (.istore 5, 2) := by decide +kernel
theorem dX0_parting_26 : decode cX0_parting 26 = .ok (.iload 4, 2) := by decide +kernel
theorem dX0_parting_28 : decode cX0_parting 28 = .ok (.iload 5, 2) := by decide +kernel
theorem dX0_parting_30 : decode cX0_parting 30 = .ok (.if_icmp .eq 5, 3) := by decide +kernel
theorem dX0_parting_33 : decode cX0_parting 33 = .ok (.iload_n 3, 1) := by decide +kernel
end
section
set_option maxRecDepth 100000
theorem dX0_parting_34 : decode cX0_parting 34 = .ok (.ireturn, 1) := by decide +kernel
theorem dX0_parting_35 : decode cX0_parting 35 = .ok (.iinc 3 1, 3) := by decide +kernel
theorem dX0_parting_38 : decode cX0_parting 38 = .ok (.goto (-36), 3) := by decide +kernel
theorem dX0_parting_41 : decode cX0_parting 41 = .ok (.iconst 0, 1) := by decide +kernel
theorem dX0_parting_42 : decode cX0_parting 42 = .ok (.ireturn, 1) := by decide +kernel
theorem dX0_groupOf_0 : decode cX0_groupOf 0 = .ok (.aload_n 0, 1) := by decide +kernel
theorem dX0_groupOf_1 : decode cX0_groupOf 1 = .ok (.getfield 16, 3) := by decide +kernel
theorem dX0_groupOf_4 : decode cX0_groupOf 4 = .ok (.iload_n 1, 1) := by decide +kernel
theorem dX0_groupOf_5 : decode cX0_groupOf 5 = .ok (.bipush 16, 2) := by decide +kernel
theorem dX0_groupOf_7 : decode cX0_groupOf 7 = .ok (.imul, 1) := by decide +kernel
theorem dX0_groupOf_8 : decode cX0_groupOf 8 = .ok (.iload_n 2, 1) := by decide +kernel
theorem dX0_groupOf_9 : decode cX0_groupOf 9 = .ok (.iadd, 1) := by decide +kernel
theorem dX0_groupOf_10 : decode cX0_groupOf 10 = .ok (.iaload, 1) := by decide +kernel
theorem dX0_groupOf_11 : decode cX0_groupOf 11 = .ok (.ireturn, 1) := by decide +kernel
theorem dX0_distance_0 : decode cX0_distance 0 = .ok (.iload_n 1, 1) := by decide +kernel
theorem dX0_distance_1 : decode cX0_distance 1 = .ok (.invokestatic 22, 3) := by decide +kernel
theorem dX0_distance_4 : decode cX0_distance 4 = .ok (.ifCond .ne 10, 3) := by decide +kernel
theorem dX0_distance_7 : decode cX0_distance 7 = .ok (.iload_n 2, 1) := by decide +kernel
theorem dX0_distance_8 : decode cX0_distance 8 = .ok (.invokestatic 22, 3) := by decide +kernel
theorem dX0_distance_11 : decode cX0_distance 11 = .ok (.ifCond .eq 5, 3) := by decide +kernel
theorem dX0_distance_14 : decode cX0_distance 14 = .ok (.iconst (-1), 1) := by decide +kernel
theorem dX0_distance_15 : decode cX0_distance 15 = .ok (.ireturn, 1) := by decide +kernel
theorem dX0_distance_16 : decode cX0_distance 16 = .ok (.aload_n 0, 1) := by decide +kernel
theorem dX0_distance_17 : decode cX0_distance 17 = .ok (.invokevirtual 55, 3) := by decide +kernel
theorem dX0_distance_20 : decode cX0_distance 20 = .ok (.aload_n 0, 1) := by decide +kernel
theorem dX0_distance_21 : decode cX0_distance 21 = .ok (.iload_n 1, 1) := by decide +kernel
theorem dX0_distance_22 : decode cX0_distance 22 = .ok (.iload_n 2, 1) := by decide +kernel
theorem dX0_distance_23 : decode cX0_distance 23 = .ok (.invokevirtual 45, 3) := by decide +kernel
theorem dX0_distance_26 : decode cX0_distance 26 = .ok (.istore_n 3, 1) := by decide +kernel
theorem dX0_distance_27 : decode cX0_distance 27 = .ok (.iload_n 3, 1) := by decide +kernel
theorem dX0_distance_28 : decode cX0_distance 28 = .ok (.ifCond .ne 8, 3) := by decide +kernel
theorem dX0_distance_31 : decode cX0_distance 31 = .ok (.bipush (-4), 2) := by decide +kernel
theorem dX0_distance_33 : decode cX0_distance 33 = .ok (.goto 4, 3) := by decide +kernel
theorem dX0_distance_36 : decode cX0_distance 36 = .ok (.iload_n 3, 1) := by decide +kernel
theorem dX0_distance_37 : decode cX0_distance 37 = .ok (.ireturn, 1) := by decide +kernel
theorem dX0_teller_0 : decode cX0_teller 0 = .ok (.iload_n 1, 1) := by decide +kernel
theorem dX0_teller_1 : decode cX0_teller 1 = .ok (.invokestatic 22, 3) := by decide +kernel
theorem dX0_teller_4 : decode cX0_teller 4 = .ok (.ifCond .ne 10, 3) := by decide +kernel
theorem dX0_teller_7 : decode cX0_teller 7 = .ok (.iload_n 2, 1) := by decide +kernel
theorem dX0_teller_8 : decode cX0_teller 8 = .ok (.invokestatic 22, 3) := by decide +kernel
theorem dX0_teller_11 : decode cX0_teller 11 = .ok (.ifCond .eq 5, 3) := by decide +kernel
theorem dX0_teller_14 : decode cX0_teller 14 = .ok (.iconst (-1), 1) := by decide +kernel
theorem dX0_teller_15 : decode cX0_teller 15 = .ok (.ireturn, 1) := by decide +kernel
theorem dX0_teller_16 : decode cX0_teller 16 = .ok (.aload_n 0, 1) := by decide +kernel
theorem dX0_teller_17 : decode cX0_teller 17 = .ok (.invokevirtual 55, 3) := by decide +kernel
theorem dX0_teller_20 : decode cX0_teller 20 = .ok (.aload_n 0, 1) := by decide +kernel
theorem dX0_teller_21 : decode cX0_teller 21 = .ok (.iload_n 1, 1) := by decide +kernel
theorem dX0_teller_22 : decode cX0_teller 22 = .ok (.iload_n 2, 1) := by decide +kernel
theorem dX0_teller_23 : decode cX0_teller 23 = .ok (.invokevirtual 58, 3) := by decide +kernel
theorem dX0_teller_26 : decode cX0_teller 26 = .ok (.iload_n 3, 1) := by decide +kernel
theorem dX0_teller_27 : decode cX0_teller 27 = .ok (.ifCond .lt 11, 3) := by decide +kernel
theorem dX0_teller_30 : decode cX0_teller 30 = .ok (.iload_n 3, 1) := by decide +kernel
theorem dX0_teller_31 : decode cX0_teller 31 = .ok (.aload_n 0, 1) := by decide +kernel
theorem dX0_teller_32 : decode cX0_teller 32 = .ok (.getfield 48, 3) := by decide +kernel
theorem dX0_teller_35 : decode cX0_teller 35 = .ok (.if_icmp .lt 8, 3) := by decide +kernel
theorem dX0_teller_38 : decode cX0_teller 38 = .ok (.bipush (-4), 2) := by decide +kernel
theorem dX0_teller_40 : decode cX0_teller 40 = .ok (.goto 9, 3) := by decide +kernel
theorem dX0_teller_43 : decode cX0_teller 43 = .ok (.aload_n 0, 1) := by decide +kernel
theorem dX0_teller_44 : decode cX0_teller 44 = .ok (.getfield 19, 3) := by decide +kernel
theorem dX0_teller_47 : decode cX0_teller 47 = .ok (.iload_n 3, 1) := by decide +kernel
theorem dX0_teller_48 : decode cX0_teller 48 = .ok (.iaload, 1) := by decide +kernel
theorem dX0_teller_49 : decode cX0_teller 49 = .ok (.ireturn, 1) := by decide +kernel
theorem dX0_findWord_0 : decode cX0_findWord 0 = .ok (.iload_n 1, 1) := by decide +kernel
theorem dX0_findWord_1 : decode cX0_findWord 1 = .ok (.istore_n 3, 1) := by decide +kernel
theorem dX0_findWord_2 : decode cX0_findWord 2 = .ok (.iload_n 2, 1) := by decide +kernel
theorem dX0_findWord_3 : decode cX0_findWord 3 = .ok (.istore 4, 2) := by decide +kernel
theorem dX0_findWord_5 : decode cX0_findWord 5 = .ok (.aload_n 0, 1) := by decide +kernel
theorem dX0_findWord_6 : decode cX0_findWord 6 = .ok (.aload_n 0, 1) := by decide +kernel
theorem dX0_findWord_7 : decode cX0_findWord 7 = .ok (.iload_n 1, 1) := by decide +kernel
theorem dX0_findWord_8 : decode cX0_findWord 8 = .ok (.iload_n 2, 1) := by decide +kernel
theorem dX0_findWord_9 : decode cX0_findWord 9 = .ok (.invokevirtual 45, 3) := by decide +kernel
theorem dX0_findWord_12 : decode cX0_findWord 12 = .ok (.putfield 48, 3) := by decide +kernel
theorem dX0_findWord_15 : decode cX0_findWord 15 = .ok (.iconst 0, 1) := by decide +kernel
theorem dX0_findWord_16 : decode cX0_findWord 16 = .ok (.istore 5, 2) := by decide +kernel
theorem dX0_findWord_18 : decode cX0_findWord 18 = .ok (.iload 5, 2) := by decide +kernel
theorem dX0_findWord_20 : decode cX0_findWord 20 = .ok (.aload_n 0, 1) := by decide +kernel
theorem dX0_findWord_21 : decode cX0_findWord 21 = .ok (.getfield 48, 3) := by decide +kernel
theorem dX0_findWord_24 : decode cX0_findWord 24 = .ok (.if_icmp .ge 60, 3) := by decide +kernel
theorem dX0_findWord_27 : decode cX0_findWord 27 = .ok (.aload_n 0, 1) := by decide +kernel
theorem dX0_findWord_28 : decode cX0_findWord 28 = .ok (.iload_n 3, 1) := by decide +kernel
theorem dX0_findWord_29 : decode cX0_findWord 29 = .ok (.iload 4, 2) := by decide +kernel
theorem dX0_findWord_31 : decode cX0_findWord 31 = .ok (.aload_n 0, 1) := by decide +kernel
theorem dX0_findWord_32 : decode cX0_findWord 32 = .ok (.getfield 48, 3) := by decide +kernel
theorem dX0_findWord_35 : decode cX0_findWord 35 = .ok (.iload 5, 2) := by decide +kernel
theorem dX0_findWord_37 : decode cX0_findWord 37 = .ok (.isub, 1) := by decide +kernel
theorem dX0_findWord_38 : decode cX0_findWord 38 = .ok (.invokevirtual 51, 3) := by decide +kernel
theorem dX0_findWord_41 : decode cX0_findWord 41 = .ok (.istore 6, 2) := by decide +kernel
theorem dX0_findWord_43 : decode cX0_findWord 43 = .ok (.aload_n 0, 1) := by decide +kernel
theorem dX0_findWord_44 : decode cX0_findWord 44 = .ok (.getfield 19, 3) := by decide +kernel
theorem dX0_findWord_47 : decode cX0_findWord 47 = .ok (.iload 5, 2) := by decide +kernel
theorem dX0_findWord_49 : decode cX0_findWord 49 = .ok (.iload 6, 2) := by decide +kernel
theorem dX0_findWord_51 : decode cX0_findWord 51 = .ok (.iastore, 1) := by decide +kernel
theorem dX0_findWord_52 : decode cX0_findWord 52 = .ok (.aload_n 0, 1) := by decide +kernel
theorem dX0_findWord_53 : decode cX0_findWord 53 = .ok (.getfield 7, 3) := by decide +kernel
theorem dX0_findWord_56 : decode cX0_findWord 56 = .ok (.iload_n 3, 1) := by decide +kernel
theorem dX0_findWord_57 : decode cX0_findWord 57 = .ok (.iconst 3, 1) := by decide +kernel
theorem dX0_findWord_58 : decode cX0_findWord 58 = .ok (.imul, 1) := by decide +kernel
theorem dX0_findWord_59 : decode cX0_findWord 59 = .ok (.iload 6, 2) := by decide +kernel
theorem dX0_findWord_61 : decode cX0_findWord 61 = .ok (.iadd, 1) := by decide +kernel
theorem dX0_findWord_62 : decode cX0_findWord 62 = .ok (.iaload, 1) := by decide +kernel
theorem dX0_findWord_63 : decode cX0_findWord 63 = .ok (.istore_n 3, 1) := by decide +kernel
theorem dX0_findWord_64 : decode cX0_findWord 64 = .ok (.aload_n 0, 1) := by decide +kernel
theorem dX0_findWord_65 : decode cX0_findWord 65 = .ok (.getfield 7, 3) := by decide +kernel
theorem dX0_findWord_68 : decode cX0_findWord 68 = .ok (.iload 4, 2) := by decide +kernel
theorem dX0_findWord_70 : decode cX0_findWord 70 = .ok (.iconst 3, 1) := by decide +kernel
theorem dX0_findWord_71 : decode cX0_findWord 71 = .ok (.imul, 1) := by decide +kernel
theorem dX0_findWord_72 : decode cX0_findWord 72 = .ok (.iload 6, 2) := by decide +kernel
theorem dX0_findWord_74 : decode cX0_findWord 74 = .ok (.iadd, 1) := by decide +kernel
theorem dX0_findWord_75 : decode cX0_findWord 75 = .ok (.iaload, 1) := by decide +kernel
theorem dX0_findWord_76 : decode cX0_findWord 76 = .ok (.istore 4, 2) := by decide +kernel
theorem dX0_findWord_78 : decode cX0_findWord 78 = .ok (.iinc 5 1, 3) := by decide +kernel
theorem dX0_findWord_81 : decode cX0_findWord 81 = .ok (.goto (-63), 3) := by decide +kernel
theorem dX0_findWord_84 : decode cX0_findWord 84 = .ok (.return_, 1) := by decide +kernel
theorem dX0_firstInput_0 : decode cX0_firstInput 0 = .ok (.iconst 0, 1) := by decide +kernel
theorem dX0_firstInput_1 : decode cX0_firstInput 1 = .ok (.istore 4, 2) := by decide +kernel
theorem dX0_firstInput_3 : decode cX0_firstInput 3 = .ok (.iload 4, 2) := by decide +kernel
theorem dX0_firstInput_5 : decode cX0_firstInput 5 = .ok (.iconst 3, 1) := by decide +kernel
theorem dX0_firstInput_6 : decode cX0_firstInput 6 = .ok (.if_icmp .ge 86, 3) := by decide +kernel
theorem dX0_firstInput_9 : decode cX0_firstInput 9 = .ok (.iload_n 1, 1) := by decide +kernel
theorem dX0_firstInput_10 : decode cX0_firstInput 10 = .ok (.iconst 3, 1) := by decide +kernel
theorem dX0_firstInput_11 : decode cX0_firstInput 11 = .ok (.imul, 1) := by decide +kernel
theorem dX0_firstInput_12 : decode cX0_firstInput 12 = .ok (.iload 4, 2) := by decide +kernel
theorem dX0_firstInput_14 : decode cX0_firstInput 14 = .ok (.iadd, 1) := by decide +kernel
theorem dX0_firstInput_15 : decode cX0_firstInput 15 = .ok (.istore 5, 2) := by decide +kernel
theorem dX0_firstInput_17 : decode cX0_firstInput 17 = .ok (.iload_n 2, 1) := by decide +kernel
theorem dX0_firstInput_18 : decode cX0_firstInput 18 = .ok (.iconst 3, 1) := by decide +kernel
theorem dX0_firstInput_19 : decode cX0_firstInput 19 = .ok (.imul, 1) := by decide +kernel
theorem dX0_firstInput_20 : decode cX0_firstInput 20 = .ok (.iload 4, 2) := by decide +kernel
theorem dX0_firstInput_22 : decode cX0_firstInput 22 = .ok (.iadd, 1) := by decide +kernel
theorem dX0_firstInput_23 : decode cX0_firstInput 23 = .ok (.istore 6, 2) := by decide +kernel
theorem dX0_firstInput_25 : decode cX0_firstInput 25 = .ok (.iload_n 3, 1) := by decide +kernel
theorem dX0_firstInput_26 : decode cX0_firstInput 26 = .ok (.iconst 1, 1) := by decide +kernel
theorem dX0_firstInput_27 : decode cX0_firstInput 27 = .ok (.if_icmp .ne 23, 3) := by decide +kernel
theorem dX0_firstInput_30 : decode cX0_firstInput 30 = .ok (.aload_n 0, 1) := by decide +kernel
theorem dX0_firstInput_31 : decode cX0_firstInput 31 = .ok (.getfield 13, 3) := by decide +kernel
theorem dX0_firstInput_34 : decode cX0_firstInput 34 = .ok (.iload 5, 2) := by decide +kernel
theorem dX0_firstInput_36 : decode cX0_firstInput 36 = .ok (.iaload, 1) := by decide +kernel
theorem dX0_firstInput_37 : decode cX0_firstInput 37 = .ok (.aload_n 0, 1) := by decide +kernel
theorem dX0_firstInput_38 : decode cX0_firstInput 38 = .ok (.getfield 13, 3) := by decide +kernel
theorem dX0_firstInput_41 : decode cX0_firstInput 41 = .ok (.iload 6, 2) := by decide +kernel
theorem dX0_firstInput_43 : decode cX0_firstInput 43 = .ok (.iaload, 1) := by decide +kernel
theorem dX0_firstInput_44 : decode cX0_firstInput 44 = .ok (.if_icmp .eq 6, 3) := by decide +kernel
theorem dX0_firstInput_47 : decode cX0_firstInput 47 = .ok (.iload 4, 2) := by decide +kernel
theorem dX0_firstInput_49 : decode cX0_firstInput 49 = .ok (.ireturn, 1) := by decide +kernel
theorem dX0_firstInput_50 : decode cX0_firstInput 50 = .ok (.iload_n 3, 1) := by decide +kernel
theorem dX0_firstInput_51 : decode cX0_firstInput 51 = .ok (.iconst 1, 1) := by decide +kernel
theorem dX0_firstInput_52 : decode cX0_firstInput 52 = .ok (.if_icmp .le 34, 3) := by decide +kernel
theorem dX0_firstInput_55 : decode cX0_firstInput 55 = .ok (.aload_n 0, 1) := by decide +kernel
theorem dX0_firstInput_56 : decode cX0_firstInput 56 = .ok (.aload_n 0, 1) := by decide +kernel
theorem dX0_firstInput_57 : decode cX0_firstInput 57 = .ok (.getfield 7, 3) := by decide +kernel
theorem dX0_firstInput_60 : decode cX0_firstInput 60 = .ok (.iload 5, 2) := by decide +kernel
theorem dX0_firstInput_62 : decode cX0_firstInput 62 = .ok (.iaload, 1) := by decide +kernel
theorem dX0_firstInput_63 : decode cX0_firstInput 63 = .ok (.aload_n 0, 1) := by decide +kernel
theorem dX0_firstInput_64 : decode cX0_firstInput 64 = .ok (.getfield 7, 3) := by decide +kernel
theorem dX0_firstInput_67 : decode cX0_firstInput 67 = .ok (.iload 6, 2) := by decide +kernel
theorem dX0_firstInput_69 : decode cX0_firstInput 69 = .ok (.iaload, 1) := by decide +kernel
theorem dX0_firstInput_70 : decode cX0_firstInput 70 = .ok (.invokevirtual 45, 3) := by decide +kernel
theorem dX0_firstInput_73 : decode cX0_firstInput 73 = .ok (.istore 7, 2) := by decide +kernel
theorem dX0_firstInput_75 : decode cX0_firstInput 75 = .ok (.iload 7, 2) := by decide +kernel
theorem dX0_firstInput_77 : decode cX0_firstInput 77 = .ok (.iload_n 3, 1) := by decide +kernel
theorem dX0_firstInput_78 : decode cX0_firstInput 78 = .ok (.iconst 1, 1) := by decide +kernel
theorem dX0_firstInput_79 : decode cX0_firstInput 79 = .ok (.isub, 1) := by decide +kernel
theorem dX0_firstInput_80 : decode cX0_firstInput 80 = .ok (.if_icmp .ne 6, 3) := by decide +kernel
theorem dX0_firstInput_83 : decode cX0_firstInput 83 = .ok (.iload 4, 2) := by decide +kernel
theorem dX0_firstInput_85 : decode cX0_firstInput 85 = .ok (.ireturn, 1) := by decide +kernel
theorem dX0_firstInput_86 : decode cX0_firstInput 86 = .ok (.iinc 4 1, 3) := by decide +kernel
theorem dX0_firstInput_89 : decode cX0_firstInput 89 = .ok (.goto (-86), 3) := by decide +kernel
theorem dX0_firstInput_92 : decode cX0_firstInput 92 = .ok (.iconst 0, 1) := by decide +kernel
theorem dX0_firstInput_93 : decode cX0_firstInput 93 = .ok (.ireturn, 1) := by decide +kernel
theorem dX0_kind_0 : decode cX0_kind 0 = .ok (.iload_n 1, 1) := by decide +kernel
theorem dX0_kind_1 : decode cX0_kind 1 = .ok (.invokestatic 22, 3) := by decide +kernel
theorem dX0_kind_4 : decode cX0_kind 4 = .ok (.ifCond .eq 5, 3) := by decide +kernel
theorem dX0_kind_7 : decode cX0_kind 7 = .ok (.iconst (-1), 1) := by decide +kernel
theorem dX0_kind_8 : decode cX0_kind 8 = .ok (.ireturn, 1) := by decide +kernel
theorem dX0_kind_9 : decode cX0_kind 9 = .ok (.aload_n 0, 1) := by decide +kernel
theorem dX0_kind_10 : decode cX0_kind 10 = .ok (.invokevirtual 55, 3) := by decide +kernel
theorem dX0_kind_13 : decode cX0_kind 13 = .ok (.aload_n 0, 1) := by decide +kernel
theorem dX0_kind_14 : decode cX0_kind 14 = .ok (.aload_n 0, 1) := by decide +kernel
theorem dX0_kind_15 : decode cX0_kind 15 = .ok (.getfield 34, 3) := by decide +kernel
theorem dX0_kind_18 : decode cX0_kind 18 = .ok (.iload_n 1, 1) := by decide +kernel
theorem dX0_kind_19 : decode cX0_kind 19 = .ok (.invokevirtual 41, 3) := by decide +kernel
theorem dX0_kind_22 : decode cX0_kind 22 = .ok (.ireturn, 1) := by decide +kernel
theorem dX0_kinds_0 : decode cX0_kinds 0 = .ok (.aload_n 0, 1) := by decide +kernel
theorem dX0_kinds_1 : decode cX0_kinds 1 = .ok (.invokevirtual 55, 3) := by decide +kernel
theorem dX0_kinds_4 : decode cX0_kinds 4 = .ok (.iconst 0, 1) := by decide +kernel
theorem dX0_kinds_5 : decode cX0_kinds 5 = .ok (.istore_n 1, 1) := by decide +kernel
theorem dX0_kinds_6 : decode cX0_kinds 6 = .ok (.iconst 0, 1) := by decide +kernel
theorem dX0_kinds_7 : decode cX0_kinds 7 = .ok (.istore_n 2, 1) := by decide +kernel
theorem dX0_kinds_8 : decode cX0_kinds 8 = .ok (.iload_n 2, 1) := by decide +kernel
theorem dX0_kinds_9 : decode cX0_kinds 9 = .ok (.bipush 16, 2) := by decide +kernel
theorem dX0_kinds_11 : decode cX0_kinds 11 = .ok (.if_icmp .ge 27, 3) := by decide +kernel
theorem dX0_kinds_14 : decode cX0_kinds 14 = .ok (.aload_n 0, 1) := by decide +kernel
theorem dX0_kinds_15 : decode cX0_kinds 15 = .ok (.aload_n 0, 1) := by decide +kernel
theorem dX0_kinds_16 : decode cX0_kinds 16 = .ok (.getfield 34, 3) := by decide +kernel
theorem dX0_kinds_19 : decode cX0_kinds 19 = .ok (.iload_n 2, 1) := by decide +kernel
theorem dX0_kinds_20 : decode cX0_kinds 20 = .ok (.invokevirtual 41, 3) := by decide +kernel
theorem dX0_kinds_23 : decode cX0_kinds 23 = .ok (.istore_n 3, 1) := by decide +kernel
theorem dX0_kinds_24 : decode cX0_kinds 24 = .ok (.iload_n 3, 1) := by decide +kernel
theorem dX0_kinds_25 : decode cX0_kinds 25 = .ok (.iload_n 2, 1) := by decide +kernel
theorem dX0_kinds_26 : decode cX0_kinds 26 = .ok (.if_icmp .ne 6, 3) := by decide +kernel
theorem dX0_kinds_29 : decode cX0_kinds 29 = .ok (.iinc 1 1, 3) := by decide +kernel
theorem dX0_kinds_32 : decode cX0_kinds 32 = .ok (.iinc 2 1, 3) := by decide +kernel
theorem dX0_kinds_35 : decode cX0_kinds 35 = .ok (.goto (-27), 3) := by decide +kernel
theorem dX0_kinds_38 : decode cX0_kinds 38 = .ok (.iload_n 1, 1) := by decide +kernel
theorem dX0_kinds_39 : decode cX0_kinds 39 = .ok (.ireturn, 1) := by decide +kernel
theorem dX0_reachableKinds_0 : decode cX0_reachableKinds 0 = .ok (.iload_n 1, 1) := by decide +kernel
theorem dX0_reachableKinds_1 : decode cX0_reachableKinds 1 = .ok (.invokestatic 22, 3) := by decide +kernel
theorem dX0_reachableKinds_4 : decode cX0_reachableKinds 4 = .ok (.ifCond .eq 5, 3) := by decide +kernel
theorem dX0_reachableKinds_7 : decode cX0_reachableKinds 7 = .ok (.iconst (-1), 1) := by decide +kernel
theorem dX0_reachableKinds_8 : decode cX0_reachableKinds 8 = .ok (.ireturn, 1) := by decide +kernel
theorem dX0_reachableKinds_9 : decode cX0_reachableKinds 9 = .ok (.aload_n 0, 1) := by decide +kernel
theorem dX0_reachableKinds_10 : decode cX0_reachableKinds 10 = .ok (.invokevirtual 55, 3) := by decide +kernel
theorem dX0_reachableKinds_13 : decode cX0_reachableKinds 13 = .ok (.aload_n 0, 1) := by decide +kernel
theorem dX0_reachableKinds_14 : decode cX0_reachableKinds 14 = .ok (.iload_n 1, 1) := by decide +kernel
theorem dX0_reachableKinds_15 : decode cX0_reachableKinds 15 = .ok (.invokevirtual 62, 3) := by decide +kernel
theorem dX0_reachableKinds_18 : decode cX0_reachableKinds 18 = .ok (.istore_n 2, 1) := by decide +kernel
theorem dX0_reachableKinds_19 : decode cX0_reachableKinds 19 = .ok (.iconst 0, 1) := by decide +kernel
theorem dX0_reachableKinds_20 : decode cX0_reachableKinds 20 = .ok (.istore_n 3, 1) := by decide +kernel
theorem dX0_reachableKinds_21 : decode cX0_reachableKinds 21 = .ok (.iconst 0, 1) := by decide +kernel
theorem dX0_reachableKinds_22 : decode cX0_reachableKinds 22 = .ok (.istore 4, 2) := by decide +kernel
theorem dX0_reachableKinds_24 : decode cX0_reachableKinds 24 = .ok (.iload 4, 2) := by decide +kernel
theorem dX0_reachableKinds_26 : decode cX0_reachableKinds 26 = .ok (.bipush 16, 2) := by decide +kernel
theorem dX0_reachableKinds_28 : decode cX0_reachableKinds 28 = .ok (.if_icmp .ge 34, 3) := by decide +kernel
theorem dX0_reachableKinds_31 : decode cX0_reachableKinds 31 = .ok (.iload_n 2, 1) := by decide +kernel
theorem dX0_reachableKinds_32 : decode cX0_reachableKinds 32 = .ok (.iload 4, 2) := by decide +kernel
theorem dX0_reachableKinds_34 : decode cX0_reachableKinds 34 = .ok (.ishr, 1) := by decide +kernel
theorem dX0_reachableKinds_35 : decode cX0_reachableKinds 35 = .ok (.iconst 1, 1) := by decide +kernel
theorem dX0_reachableKinds_36 : decode cX0_reachableKinds 36 = .ok (.iand, 1) := by decide +kernel
theorem dX0_reachableKinds_37 : decode cX0_reachableKinds 37 = .ok (.iconst 1, 1) := by decide +kernel
theorem dX0_reachableKinds_38 : decode cX0_reachableKinds 38 = .ok (.if_icmp .ne 18, 3) := by decide +kernel
theorem dX0_reachableKinds_41 : decode cX0_reachableKinds 41 = .ok (.iload_n 3, 1) := by decide +kernel
theorem dX0_reachableKinds_42 : decode cX0_reachableKinds 42 = .ok (.iconst 1, 1) := by decide +kernel
theorem dX0_reachableKinds_43 : decode cX0_reachableKinds 43 = .ok (.aload_n 0, 1) := by decide +kernel
theorem dX0_reachableKinds_44 : decode cX0_reachableKinds 44 = .ok (.aload_n 0, 1) := by decide +kernel
theorem dX0_reachableKinds_45 : decode cX0_reachableKinds 45 = .ok (.getfield 34, 3) := by decide +kernel
theorem dX0_reachableKinds_48 : decode cX0_reachableKinds 48 = .ok (.iload 4, 2) := by decide +kernel
theorem dX0_reachableKinds_50 : decode cX0_reachableKinds 50 = .ok (.invokevirtual 41, 3) := by decide +kernel
theorem dX0_reachableKinds_53 : decode cX0_reachableKinds 53 = .ok (.ishl, 1) := by decide +kernel
theorem dX0_reachableKinds_54 : decode cX0_reachableKinds 54 = .ok (.ior, 1) := by decide +kernel
theorem dX0_reachableKinds_55 : decode cX0_reachableKinds 55 = .ok (.istore_n 3, 1) := by decide +kernel
theorem dX0_reachableKinds_56 : decode cX0_reachableKinds 56 = .ok (.iinc 4 1, 3) := by decide +kernel
theorem dX0_reachableKinds_59 : decode cX0_reachableKinds 59 = .ok (.goto (-35), 3) := by decide +kernel
theorem dX0_reachableKinds_62 : decode cX0_reachableKinds 62 = .ok (.iconst 0, 1) := by decide +kernel
theorem dX0_reachableKinds_63 : decode cX0_reachableKinds 63 = .ok (.istore 4, 2) := by decide +kernel
theorem dX0_reachableKinds_65 : decode cX0_reachableKinds 65 = .ok (.iconst 0, 1) := by decide +kernel
theorem dX0_reachableKinds_66 : decode cX0_reachableKinds 66 = .ok (.istore 5, 2) := by decide +kernel
theorem dX0_reachableKinds_68 : decode cX0_reachableKinds 68 = .ok (.iload 5, 2) := by decide +kernel
theorem dX0_reachableKinds_70 : decode cX0_reachableKinds 70 = .ok (.bipush 16, 2) := by decide +kernel
theorem dX0_reachableKinds_72 : decode cX0_reachableKinds 72 = .ok (.if_icmp .ge 20, 3) := by decide +kernel
theorem dX0_reachableKinds_75 : decode cX0_reachableKinds 75 = .ok (.iload 4, 2) := by decide +kernel
theorem dX0_reachableKinds_77 : decode cX0_reachableKinds 77 = .ok (.iload_n 3, 1) := by decide +kernel
theorem dX0_reachableKinds_78 : decode cX0_reachableKinds 78 = .ok (.iload 5, 2) := by decide +kernel
theorem dX0_reachableKinds_80 : decode cX0_reachableKinds 80 = .ok (.ishr, 1) := by decide +kernel
theorem dX0_reachableKinds_81 : decode cX0_reachableKinds 81 = .ok (.iconst 1, 1) := by decide +kernel
theorem dX0_reachableKinds_82 : decode cX0_reachableKinds 82 = .ok (.iand, 1) := by decide +kernel
theorem dX0_reachableKinds_83 : decode cX0_reachableKinds 83 = .ok (.iadd, 1) := by decide +kernel
theorem dX0_reachableKinds_84 : decode cX0_reachableKinds 84 = .ok (.istore 4, 2) := by decide +kernel
theorem dX0_reachableKinds_86 : decode cX0_reachableKinds 86 = .ok (.iinc 5 1, 3) := by decide +kernel
theorem dX0_reachableKinds_89 : decode cX0_reachableKinds 89 = .ok (.goto (-21), 3) := by decide +kernel
theorem dX0_reachableKinds_92 : decode cX0_reachableKinds 92 = .ok (.iload 4, 2) := by decide +kernel
theorem dX0_reachableKinds_94 : decode cX0_reachableKinds 94 = .ok (.ireturn, 1) := by decide +kernel
theorem dX0_reach_0 : decode cX0_reach 0 = .ok (.iconst 1, 1) := by decide +kernel
theorem dX0_reach_1 : decode cX0_reach 1 = .ok (.iload_n 1, 1) := by decide +kernel
theorem dX0_reach_2 : decode cX0_reach 2 = .ok (.ishl, 1) := by decide +kernel
theorem dX0_reach_3 : decode cX0_reach 3 = .ok (.istore_n 2, 1) := by decide +kernel
theorem dX0_reach_4 : decode cX0_reach 4 = .ok (.iconst 0, 1) := by decide +kernel
theorem dX0_reach_5 : decode cX0_reach 5 = .ok (.istore_n 3, 1) := by decide +kernel
theorem dX0_reach_6 : decode cX0_reach 6 = .ok (.iconst 0, 1) := by decide +kernel
theorem dX0_reach_7 : decode cX0_reach 7 = .ok (.istore 4, 2) := by decide +kernel
theorem dX0_reach_9 : decode cX0_reach 9 = .ok (.iload 4, 2) := by decide +kernel
theorem dX0_reach_11 : decode cX0_reach 11 = .ok (.bipush 16, 2) := by decide +kernel
theorem dX0_reach_13 : decode cX0_reach 13 = .ok (.if_icmp .ge 56, 3) := by decide +kernel
theorem dX0_reach_16 : decode cX0_reach 16 = .ok (.iload_n 2, 1) := by decide +kernel
theorem dX0_reach_17 : decode cX0_reach 17 = .ok (.iload_n 3, 1) := by decide +kernel
theorem dX0_reach_18 : decode cX0_reach 18 = .ok (.if_icmp .eq 51, 3) := by decide +kernel
theorem dX0_reach_21 : decode cX0_reach 21 = .ok (.iload_n 2, 1) := by decide +kernel
theorem dX0_reach_22 : decode cX0_reach 22 = .ok (.istore_n 3, 1) := by decide +kernel
theorem dX0_reach_23 : decode cX0_reach 23 = .ok (.iconst 0, 1) := by decide +kernel
theorem dX0_reach_24 : decode cX0_reach 24 = .ok (.istore 5, 2) := by decide +kernel
theorem dX0_reach_26 : decode cX0_reach 26 = .ok (.iload 5, 2) := by decide +kernel
theorem dX0_reach_28 : decode cX0_reach 28 = .ok (.bipush 48, 2) := by decide +kernel
theorem dX0_reach_30 : decode cX0_reach 30 = .ok (.if_icmp .ge 33, 3) := by decide +kernel
theorem dX0_reach_33 : decode cX0_reach 33 = .ok (.iload_n 3, 1) := by decide +kernel
theorem dX0_reach_34 : decode cX0_reach 34 = .ok (.iload 5, 2) := by decide +kernel
theorem dX0_reach_36 : decode cX0_reach 36 = .ok (.iconst 3, 1) := by decide +kernel
theorem dX0_reach_37 : decode cX0_reach 37 = .ok (.idiv, 1) := by decide +kernel
theorem dX0_reach_38 : decode cX0_reach 38 = .ok (.ishr, 1) := by decide +kernel
theorem dX0_reach_39 : decode cX0_reach 39 = .ok (.iconst 1, 1) := by decide +kernel
theorem dX0_reach_40 : decode cX0_reach 40 = .ok (.iand, 1) := by decide +kernel
theorem dX0_reach_41 : decode cX0_reach 41 = .ok (.iconst 1, 1) := by decide +kernel
theorem dX0_reach_42 : decode cX0_reach 42 = .ok (.if_icmp .ne 15, 3) := by decide +kernel
theorem dX0_reach_45 : decode cX0_reach 45 = .ok (.iload_n 2, 1) := by decide +kernel
theorem dX0_reach_46 : decode cX0_reach 46 = .ok (.iconst 1, 1) := by decide +kernel
theorem dX0_reach_47 : decode cX0_reach 47 = .ok (.aload_n 0, 1) := by decide +kernel
theorem dX0_reach_48 : decode cX0_reach 48 = .ok (.getfield 7, 3) := by decide +kernel
theorem dX0_reach_51 : decode cX0_reach 51 = .ok (.iload 5, 2) := by decide +kernel
theorem dX0_reach_53 : decode cX0_reach 53 = .ok (.iaload, 1) := by decide +kernel
theorem dX0_reach_54 : decode cX0_reach 54 = .ok (.ishl, 1) := by decide +kernel
theorem dX0_reach_55 : decode cX0_reach 55 = .ok (.ior, 1) := by decide +kernel
theorem dX0_reach_56 : decode cX0_reach 56 = .ok (.istore_n 2, 1) := by decide +kernel
theorem dX0_reach_57 : decode cX0_reach 57 = .ok (.iinc 5 1, 3) := by decide +kernel
theorem dX0_reach_60 : decode cX0_reach 60 = .ok (.goto (-34), 3) := by decide +kernel
theorem dX0_reach_63 : decode cX0_reach 63 = .ok (.iinc 4 1, 3) := by decide +kernel
theorem dX0_reach_66 : decode cX0_reach 66 = .ok (.goto (-57), 3) := by decide +kernel
theorem dX0_reach_69 : decode cX0_reach 69 = .ok (.iload_n 2, 1) := by decide +kernel
theorem dX0_reach_70 : decode cX0_reach 70 = .ok (.ireturn, 1) := by decide +kernel
theorem dX0_depth_0 : decode cX0_depth 0 = .ok (.aload_n 0, 1) := by decide +kernel
theorem dX0_depth_1 : decode cX0_depth 1 = .ok (.invokevirtual 55, 3) := by decide +kernel
theorem dX0_depth_4 : decode cX0_depth 4 = .ok (.aload_n 0, 1) := by decide +kernel
theorem dX0_depth_5 : decode cX0_depth 5 = .ok (.getfield 34, 3) := by decide +kernel
theorem dX0_depth_8 : decode cX0_depth 8 = .ok (.ireturn, 1) := by decide +kernel
theorem dX0_run_0 : decode cX0_run 0 = .ok (.iload_n 1, 1) := by decide +kernel
theorem dX0_run_1 : decode cX0_run 1 = .ok (.invokestatic 22, 3) := by decide +kernel
theorem dX0_run_4 : decode cX0_run 4 = .ok (.ifCond .eq 5, 3) := by decide +kernel
theorem dX0_run_7 : decode cX0_run 7 = .ok (.iconst (-1), 1) := by decide +kernel
theorem dX0_run_8 : decode cX0_run 8 = .ok (.ireturn, 1) := by decide +kernel
theorem dX0_run_9 : decode cX0_run 9 = .ok (.iload_n 3, 1) := by decide +kernel
theorem dX0_run_10 : decode cX0_run 10 = .ok (.ifCond .lt 9, 3) := by decide +kernel
theorem dX0_run_13 : decode cX0_run 13 = .ok (.iload_n 3, 1) := by decide +kernel
theorem dX0_run_14 : decode cX0_run 14 = .ok (.bipush 10, 2) := by decide +kernel
theorem dX0_run_16 : decode cX0_run 16 = .ok (.if_icmp .le 6, 3) := by decide +kernel
theorem dX0_run_19 : decode cX0_run 19 = .ok (.bipush (-2), 2) := by decide +kernel
theorem dX0_run_21 : decode cX0_run 21 = .ok (.ireturn, 1) := by decide +kernel
theorem dX0_run_22 : decode cX0_run 22 = .ok (.iload_n 1, 1) := by decide +kernel
theorem dX0_run_23 : decode cX0_run 23 = .ok (.istore 4, 2) := by decide +kernel
theorem dX0_run_25 : decode cX0_run 25 = .ok (.iconst 0, 1) := by decide +kernel
theorem dX0_run_26 : decode cX0_run 26 = .ok (.istore 5, 2) := by decide +kernel
theorem dX0_run_28 : decode cX0_run 28 = .ok (.iload 5, 2) := by decide +kernel
theorem dX0_run_30 : decode cX0_run 30 = .ok (.iload_n 3, 1) := by decide +kernel
theorem dX0_run_31 : decode cX0_run 31 = .ok (.if_icmp .ge 42, 3) := by decide +kernel
theorem dX0_run_34 : decode cX0_run 34 = .ok (.iload_n 2, 1) := by decide +kernel
theorem dX0_run_35 : decode cX0_run 35 = .ok (.iconst 2, 1) := by decide +kernel
theorem dX0_run_36 : decode cX0_run 36 = .ok (.iload 5, 2) := by decide +kernel
theorem dX0_run_38 : decode cX0_run 38 = .ok (.imul, 1) := by decide +kernel
theorem dX0_run_39 : decode cX0_run 39 = .ok (.ishr, 1) := by decide +kernel
theorem dX0_run_40 : decode cX0_run 40 = .ok (.iconst 3, 1) := by decide +kernel
theorem dX0_run_41 : decode cX0_run 41 = .ok (.iand, 1) := by decide +kernel
theorem dX0_run_42 : decode cX0_run 42 = .ok (.istore 6, 2) := by decide +kernel
theorem dX0_run_44 : decode cX0_run 44 = .ok (.iload 6, 2) := by decide +kernel
theorem dX0_run_46 : decode cX0_run 46 = .ok (.iconst 3, 1) := by decide +kernel
theorem dX0_run_47 : decode cX0_run 47 = .ok (.if_icmp .ne 6, 3) := by decide +kernel
theorem dX0_run_50 : decode cX0_run 50 = .ok (.iconst 0, 1) := by decide +kernel
theorem dX0_run_51 : decode cX0_run 51 = .ok (.istore 6, 2) := by decide +kernel
theorem dX0_run_53 : decode cX0_run 53 = .ok (.aload_n 0, 1) := by decide +kernel
theorem dX0_run_54 : decode cX0_run 54 = .ok (.getfield 7, 3) := by decide +kernel
theorem dX0_run_57 : decode cX0_run 57 = .ok (.iload 4, 2) := by decide +kernel
theorem dX0_run_59 : decode cX0_run 59 = .ok (.iconst 3, 1) := by decide +kernel
theorem dX0_run_60 : decode cX0_run 60 = .ok (.imul, 1) := by decide +kernel
theorem dX0_run_61 : decode cX0_run 61 = .ok (.iload 6, 2) := by decide +kernel
theorem dX0_run_63 : decode cX0_run 63 = .ok (.iadd, 1) := by decide +kernel
theorem dX0_run_64 : decode cX0_run 64 = .ok (.iaload, 1) := by decide +kernel
theorem dX0_run_65 : decode cX0_run 65 = .ok (.istore 4, 2) := by decide +kernel
theorem dX0_run_67 : decode cX0_run 67 = .ok (.iinc 5 1, 3) := by decide +kernel
theorem dX0_run_70 : decode cX0_run 70 = .ok (.goto (-42), 3) := by decide +kernel
theorem dX0_run_73 : decode cX0_run 73 = .ok (.iload 4, 2) := by decide +kernel
theorem dX0_run_75 : decode cX0_run 75 = .ok (.ireturn, 1) := by decide +kernel
end
section
set_option maxRecDepth 100000
theorem dX1_init_0 : decode cX1_init 0 = .ok (.aload_n 0, 1) := by decide +kernel
theorem dX1_init_1 : decode cX1_init 1 = .ok (.invokespecial 1, 3) := by decide +kernel
theorem dX1_init_4 : decode cX1_init 4 = .ok (.aload_n 0, 1) := by decide +kernel
theorem dX1_init_5 : decode cX1_init 5 = .ok (.bipush 48, 2) := by decide +kernel
theorem dX1_init_7 : decode cX1_init 7 = .ok (.newarray .int, 2) := by decide +kernel
theorem dX1_init_9 : decode cX1_init 9 = .ok (.putfield 7, 3) := by decide +kernel
theorem dX1_init_12 : decode cX1_init 12 = .ok (.aload_n 0, 1) := by decide +kernel
theorem dX1_init_13 : decode cX1_init 13 = .ok (.bipush 48, 2) := by decide +kernel
theorem dX1_init_15 : decode cX1_init 15 = .ok (.newarray .int, 2) := by decide +kernel
theorem dX1_init_17 : decode cX1_init 17 = .ok (.putfield 13, 3) := by decide +kernel
theorem dX1_init_20 : decode cX1_init 20 = .ok (.aload_n 0, 1) := by decide +kernel
theorem dX1_init_21 : decode cX1_init 21 = .ok (.sipush 256, 3) := by decide +kernel
theorem dX1_init_24 : decode cX1_init 24 = .ok (.newarray .int, 2) := by decide +kernel
theorem dX1_init_26 : decode cX1_init 26 = .ok (.putfield 16, 3) := by decide +kernel
theorem dX1_init_29 : decode cX1_init 29 = .ok (.aload_n 0, 1) := by decide +kernel
theorem dX1_init_30 : decode cX1_init 30 = .ok (.sipush 256, 3) := by decide +kernel
theorem dX1_init_33 : decode cX1_init 33 = .ok (.newarray .int, 2) := by decide +kernel
theorem dX1_init_35 : decode cX1_init 35 = .ok (.putfield 19, 3) := by decide +kernel
theorem dX1_init_38 : decode cX1_init 38 = .ok (.aload_n 0, 1) := by decide +kernel
theorem dX1_init_39 : decode cX1_init 39 = .ok (.sipush 256, 3) := by decide +kernel
theorem dX1_init_42 : decode cX1_init 42 = .ok (.newarray .int, 2) := by decide +kernel
theorem dX1_init_44 : decode cX1_init 44 = .ok (.putfield 22, 3) := by decide +kernel
theorem dX1_init_47 : decode cX1_init 47 = .ok (.aload_n 0, 1) := by decide +kernel
theorem dX1_init_48 : decode cX1_init 48 = .ok (.sipush 256, 3) := by decide +kernel
theorem dX1_init_51 : decode cX1_init 51 = .ok (.newarray .boolean, 2) := by decide +kernel
theorem dX1_init_53 : decode cX1_init 53 = .ok (.putfield 25, 3) := by decide +kernel
theorem dX1_init_56 : decode cX1_init 56 = .ok (.aload_n 0, 1) := by decide +kernel
theorem dX1_init_57 : decode cX1_init 57 = .ok (.sipush 256, 3) := by decide +kernel
theorem dX1_init_60 : decode cX1_init 60 = .ok (.newarray .int, 2) := by decide +kernel
theorem dX1_init_62 : decode cX1_init 62 = .ok (.putfield 29, 3) := by decide +kernel
theorem dX1_init_65 : decode cX1_init 65 = .ok (.iconst 0, 1) := by decide +kernel
theorem dX1_init_66 : decode cX1_init 66 = .ok (.istore_n 1, 1) := by decide +kernel
theorem dX1_init_67 : decode cX1_init 67 = .ok (.iload_n 1, 1) := by decide +kernel
theorem dX1_init_68 : decode cX1_init 68 = .ok (.bipush 48, 2) := by decide +kernel
theorem dX1_init_70 : decode cX1_init 70 = .ok (.if_icmp .ge 18, 3) := by decide +kernel
theorem dX1_init_73 : decode cX1_init 73 = .ok (.aload_n 0, 1) := by decide +kernel
theorem dX1_init_74 : decode cX1_init 74 = .ok (.getfield 7, 3) := by decide +kernel
theorem dX1_init_77 : decode cX1_init 77 = .ok (.iload_n 1, 1) := by decide +kernel
theorem dX1_init_78 : decode cX1_init 78 = .ok (.iload_n 1, 1) := by decide +kernel
theorem dX1_init_79 : decode cX1_init 79 = .ok (.iconst 3, 1) := by decide +kernel
theorem dX1_init_80 : decode cX1_init 80 = .ok (.idiv, 1) := by decide +kernel
theorem dX1_init_81 : decode cX1_init 81 = .ok (.iastore, 1) := by decide +kernel
theorem dX1_init_82 : decode cX1_init 82 = .ok (.iinc 1 1, 3) := by decide +kernel
theorem dX1_init_85 : decode cX1_init 85 = .ok (.goto (-18), 3) := by decide +kernel
theorem dX1_init_88 : decode cX1_init 88 = .ok (.return_, 1) := by decide +kernel
theorem dX1_transition_0 : decode cX1_transition 0 = .ok (.aload_n 0, 1) := by decide +kernel
theorem dX1_transition_1 : decode cX1_transition 1 = .ok (.iload_n 1, 1) := by decide +kernel
theorem dX1_transition_2 : decode cX1_transition 2 = .ok (.invokevirtual 32, 3) := by decide +kernel
theorem dX1_transition_5 : decode cX1_transition 5 = .ok (.ifCond .ne 5, 3) := by decide +kernel
theorem dX1_transition_8 : decode cX1_transition 8 = .ok (.iconst (-1), 1) := by decide +kernel
theorem dX1_transition_9 : decode cX1_transition 9 = .ok (.ireturn, 1) := by decide +kernel
theorem dX1_transition_10 : decode cX1_transition 10 = .ok (.aload_n 0, 1) := by decide +kernel
theorem dX1_transition_11 : decode cX1_transition 11 = .ok (.iload_n 2, 1) := by decide +kernel
theorem dX1_transition_12 : decode cX1_transition 12 = .ok (.invokevirtual 36, 3) := by decide +kernel
theorem dX1_transition_15 : decode cX1_transition 15 = .ok (.ifCond .ne 6, 3) := by decide +kernel
theorem dX1_transition_18 : decode cX1_transition 18 = .ok (.bipush (-2), 2) := by decide +kernel
theorem dX1_transition_20 : decode cX1_transition 20 = .ok (.ireturn, 1) := by decide +kernel
theorem dX1_transition_21 : decode cX1_transition 21 = .ok (.iload_n 1, 1) := by decide +kernel
theorem dX1_transition_22 : decode cX1_transition 22 = .ok (.iconst 3, 1) := by decide +kernel
theorem dX1_transition_23 : decode cX1_transition 23 = .ok (.imul, 1) := by decide +kernel
theorem dX1_transition_24 : decode cX1_transition 24 = .ok (.iload_n 2, 1) := by decide +kernel
theorem dX1_transition_25 : decode cX1_transition 25 = .ok (.iadd, 1) := by decide +kernel
theorem dX1_transition_26 : decode cX1_transition 26 = .ok (.istore 4, 2) := by decide +kernel
theorem dX1_transition_28 : decode cX1_transition 28 = .ok (.aload_n 0, 1) := by decide +kernel
theorem dX1_transition_29 : decode cX1_transition 29 = .ok (.getfield 7, 3) := by decide +kernel
theorem dX1_transition_32 : decode cX1_transition 32 = .ok (.iload 4, 2) := by decide +kernel
theorem dX1_transition_34 : decode cX1_transition 34 = .ok (.iaload, 1) := by decide +kernel
theorem dX1_transition_35 : decode cX1_transition 35 = .ok (.bipush 16, 2) := by decide +kernel
theorem dX1_transition_37 : decode cX1_transition 37 = .ok (.aload_n 0, 1) := by decide +kernel
theorem dX1_transition_38 : decode cX1_transition 38 = .ok (.getfield 13, 3) := by decide +kernel
theorem dX1_transition_41 : decode cX1_transition 41 = .ok (.iload 4, 2) := by decide +kernel
theorem dX1_transition_43 : decode cX1_transition 43 = .ok (.iaload, 1) := by decide +kernel
theorem dX1_transition_44 : decode cX1_transition 44 = .ok (.imul, 1) := by decide +kernel
theorem dX1_transition_45 : decode cX1_transition 45 = .ok (.iadd, 1) := by decide +kernel
theorem dX1_transition_46 : decode cX1_transition 46 = .ok (.istore 5, 2) := by decide +kernel
theorem dX1_transition_48 : decode cX1_transition 48 = .ok (.aload_n 0, 1) := by decide +kernel
theorem dX1_transition_49 : decode cX1_transition 49 = .ok (.getfield 7, 3) := by decide +kernel
theorem dX1_transition_52 : decode cX1_transition 52 = .ok (.iload 4, 2) := by decide +kernel
theorem dX1_transition_54 : decode cX1_transition 54 = .ok (.iload_n 3, 1) := by decide +kernel
theorem dX1_transition_55 : decode cX1_transition 55 = .ok (.bipush 15, 2) := by decide +kernel
theorem dX1_transition_57 : decode cX1_transition 57 = .ok (.iand, 1) := by decide +kernel
theorem dX1_transition_58 : decode cX1_transition 58 = .ok (.iastore, 1) := by decide +kernel
theorem dX1_transition_59 : decode cX1_transition 59 = .ok (.aload_n 0, 1) := by decide +kernel
theorem dX1_transition_60 : decode cX1_transition 60 = .ok (.getfield 13, 3) := by decide +kernel
theorem dX1_transition_63 : decode cX1_transition 63 = .ok (.iload 4, 2) := by decide +kernel
theorem dX1_transition_65 : decode cX1_transition 65 = .ok (.iload_n 3, 1) := by decide +kernel
theorem dX1_transition_66 : decode cX1_transition 66 = .ok (.iconst 4, 1) := by decide +kernel
theorem dX1_transition_67 : decode cX1_transition 67 = .ok (.ishr, 1) := by decide +kernel
theorem dX1_transition_68 : decode cX1_transition 68 = .ok (.bipush 7, 2) := by decide +kernel
theorem dX1_transition_70 : decode cX1_transition 70 = .ok (.iand, 1) := by decide +kernel
theorem dX1_transition_71 : decode cX1_transition 71 = .ok (.iastore, 1) := by decide +kernel
theorem dX1_transition_72 : decode cX1_transition 72 = .ok (.iload 5, 2) := by decide +kernel
theorem dX1_transition_74 : decode cX1_transition 74 = .ok (.ireturn, 1) := by decide +kernel
theorem dX1_isState_0 : decode cX1_isState 0 = .ok (.iload_n 1, 1) := by decide +kernel
theorem dX1_isState_1 : decode cX1_isState 1 = .ok (.ifCond .lt 13, 3) := by decide +kernel
theorem dX1_isState_4 : decode cX1_isState 4 = .ok (.iload_n 1, 1) := by decide +kernel
theorem dX1_isState_5 : decode cX1_isState 5 = .ok (.bipush 16, 2) := by decide +kernel
theorem dX1_isState_7 : decode cX1_isState 7 = .ok (.if_icmp .ge 7, 3) := by decide +kernel
theorem dX1_isState_10 : decode cX1_isState 10 = .ok (.iconst 1, 1) := by decide +kernel
theorem dX1_isState_11 : decode cX1_isState 11 = .ok (.goto 4, 3) := by decide +kernel
theorem dX1_isState_14 : decode cX1_isState 14 = .ok (.iconst 0, 1) := by decide +kernel
theorem dX1_isState_15 : decode cX1_isState 15 = .ok (.ireturn, 1) := by decide +kernel
theorem dX1_isInput_0 : decode cX1_isInput 0 = .ok (.iload_n 1, 1) := by decide +kernel
theorem dX1_isInput_1 : decode cX1_isInput 1 = .ok (.ifCond .lt 12, 3) := by decide +kernel
theorem dX1_isInput_4 : decode cX1_isInput 4 = .ok (.iload_n 1, 1) := by decide +kernel
theorem dX1_isInput_5 : decode cX1_isInput 5 = .ok (.iconst 3, 1) := by decide +kernel
theorem dX1_isInput_6 : decode cX1_isInput 6 = .ok (.if_icmp .ge 7, 3) := by decide +kernel
theorem dX1_isInput_9 : decode cX1_isInput 9 = .ok (.iconst 1, 1) := by decide +kernel
theorem dX1_isInput_10 : decode cX1_isInput 10 = .ok (.goto 4, 3) := by decide +kernel
theorem dX1_isInput_13 : decode cX1_isInput 13 = .ok (.iconst 0, 1) := by decide +kernel
theorem dX1_isInput_14 : decode cX1_isInput 14 = .ok (.ireturn, 1) := by decide +kernel
theorem dX1_exchange_0 : decode cX1_exchange 0 = .ok (.aload_n 0, 1) := by decide +kernel
theorem dX1_exchange_1 : decode cX1_exchange 1 = .ok (.iload_n 1, 1) := by decide +kernel
theorem dX1_exchange_2 : decode cX1_exchange 2 = .ok (.invokevirtual 32, 3) := by decide +kernel
theorem dX1_exchange_5 : decode cX1_exchange 5 = .ok (.ifCond .eq 11, 3) := by decide +kernel
theorem dX1_exchange_8 : decode cX1_exchange 8 = .ok (.aload_n 0, 1) := by decide +kernel
theorem dX1_exchange_9 : decode cX1_exchange 9 = .ok (.iload_n 2, 1) := by decide +kernel
theorem dX1_exchange_10 : decode cX1_exchange 10 = .ok (.invokevirtual 32, 3) := by decide +kernel
theorem dX1_exchange_13 : decode cX1_exchange 13 = .ok (.ifCond .ne 5, 3) := by decide +kernel
theorem dX1_exchange_16 : decode cX1_exchange 16 = .ok (.iconst (-1), 1) := by decide +kernel
theorem dX1_exchange_17 : decode cX1_exchange 17 = .ok (.ireturn, 1) := by decide +kernel
theorem dX1_exchange_18 : decode cX1_exchange 18 = .ok (.aload_n 0, 1) := by decide +kernel
theorem dX1_exchange_19 : decode cX1_exchange 19 = .ok (.iload_n 3, 1) := by decide +kernel
theorem dX1_exchange_20 : decode cX1_exchange 20 = .ok (.invokevirtual 36, 3) := by decide +kernel
theorem dX1_exchange_23 : decode cX1_exchange 23 = .ok (.ifCond .ne 6, 3) := by decide +kernel
theorem dX1_exchange_26 : decode cX1_exchange 26 = .ok (.bipush (-2), 2) := by decide +kernel
theorem dX1_exchange_28 : decode cX1_exchange 28 = .ok (.ireturn, 1) := by decide +kernel
theorem dX1_exchange_29 : decode cX1_exchange 29 = .ok (.aload_n 0, 1) := by decide +kernel
theorem dX1_exchange_30 : decode cX1_exchange 30 = .ok (.getfield 13, 3) := by decide +kernel
theorem dX1_exchange_33 : decode cX1_exchange 33 = .ok (.iload_n 1, 1) := by decide +kernel
theorem dX1_exchange_34 : decode cX1_exchange 34 = .ok (.iconst 3, 1) := by decide +kernel
theorem dX1_exchange_35 : decode cX1_exchange 35 = .ok (.imul, 1) := by decide +kernel
theorem dX1_exchange_36 : decode cX1_exchange 36 = .ok (.iload_n 3, 1) := by decide +kernel
theorem dX1_exchange_37 : decode cX1_exchange 37 = .ok (.iadd, 1) := by decide +kernel
theorem dX1_exchange_38 : decode cX1_exchange 38 = .ok (.iaload, 1) := by decide +kernel
theorem dX1_exchange_39 : decode cX1_exchange 39 = .ok (.istore 4, 2) := by decide +kernel
theorem dX1_exchange_41 : decode cX1_exchange 41 = .ok (.aload_n 0, 1) := by decide +kernel
theorem dX1_exchange_42 : decode cX1_exchange 42 = .ok (.getfield 13, 3) := by decide +kernel
theorem dX1_exchange_45 : decode cX1_exchange 45 = .ok (.iload_n 1, 1) := by decide +kernel
theorem dX1_exchange_46 : decode cX1_exchange 46 = .ok (.iconst 3, 1) := by decide +kernel
theorem dX1_exchange_47 : decode cX1_exchange 47 = .ok (.imul, 1) := by decide +kernel
theorem dX1_exchange_48 : decode cX1_exchange 48 = .ok (.iload_n 3, 1) := by decide +kernel
theorem dX1_exchange_49 : decode cX1_exchange 49 = .ok (.iadd, 1) := by decide +kernel
theorem dX1_exchange_50 : decode cX1_exchange 50 = .ok (.aload_n 0, 1) := by decide +kernel
theorem dX1_exchange_51 : decode cX1_exchange 51 = .ok (.getfield 13, 3) := by decide +kernel
theorem dX1_exchange_54 : decode cX1_exchange 54 = .ok (.iload_n 2, 1) := by decide +kernel
theorem dX1_exchange_55 : decode cX1_exchange 55 = .ok (.iconst 3, 1) := by decide +kernel
theorem dX1_exchange_56 : decode cX1_exchange 56 = .ok (.imul, 1) := by decide +kernel
theorem dX1_exchange_57 : decode cX1_exchange 57 = .ok (.iload_n 3, 1) := by decide +kernel
theorem dX1_exchange_58 : decode cX1_exchange 58 = .ok (.iadd, 1) := by decide +kernel
theorem dX1_exchange_59 : decode cX1_exchange 59 = .ok (.iaload, 1) := by decide +kernel
theorem dX1_exchange_60 : decode cX1_exchange 60 = .ok (.iastore, 1) := by decide +kernel
theorem dX1_exchange_61 : decode cX1_exchange 61 = .ok (.aload_n 0, 1) := by decide +kernel
theorem dX1_exchange_62 : decode cX1_exchange 62 = .ok (.getfield 13, 3) := by decide +kernel
theorem dX1_exchange_65 : decode cX1_exchange 65 = .ok (.iload_n 2, 1) := by decide +kernel
theorem dX1_exchange_66 : decode cX1_exchange 66 = .ok (.iconst 3, 1) := by decide +kernel
theorem dX1_exchange_67 : decode cX1_exchange 67 = .ok (.imul, 1) := by decide +kernel
theorem dX1_exchange_68 : decode cX1_exchange 68 = .ok (.iload_n 3, 1) := by decide +kernel
theorem dX1_exchange_69 : decode cX1_exchange 69 = .ok (.iadd, 1) := by decide +kernel
theorem dX1_exchange_70 : decode cX1_exchange 70 = .ok (.iload 4, 2) := by decide +kernel
theorem dX1_exchange_72 : decode cX1_exchange 72 = .ok (.iastore, 1) := by decide +kernel
theorem dX1_exchange_73 : decode cX1_exchange 73 = .ok (.iconst 0, 1) := by decide +kernel
theorem dX1_exchange_74 : decode cX1_exchange 74 = .ok (.ireturn, 1) := by decide +kernel
theorem dX1_alike_0 : decode cX1_alike 0 = .ok (.aload_n 0, 1) := by decide +kernel
theorem dX1_alike_1 : decode cX1_alike 1 = .ok (.iload_n 1, 1) := by decide +kernel
theorem dX1_alike_2 : decode cX1_alike 2 = .ok (.invokevirtual 32, 3) := by decide +kernel
theorem dX1_alike_5 : decode cX1_alike 5 = .ok (.ifCond .eq 24, 3) := by decide +kernel
theorem dX1_alike_8 : decode cX1_alike 8 = .ok (.aload_n 0, 1) := by decide +kernel
theorem dX1_alike_9 : decode cX1_alike 9 = .ok (.iload_n 2, 1) := by decide +kernel
theorem dX1_alike_10 : decode cX1_alike 10 = .ok (.invokevirtual 32, 3) := by decide +kernel
theorem dX1_alike_13 : decode cX1_alike 13 = .ok (.ifCond .eq 16, 3) := by decide +kernel
theorem dX1_alike_16 : decode cX1_alike 16 = .ok (.aload_n 0, 1) := by decide +kernel
theorem dX1_alike_17 : decode cX1_alike 17 = .ok (.iload_n 1, 1) := by decide +kernel
theorem dX1_alike_18 : decode cX1_alike 18 = .ok (.iload_n 2, 1) := by decide +kernel
theorem dX1_alike_19 : decode cX1_alike 19 = .ok (.invokevirtual 51, 3) := by decide +kernel
theorem dX1_alike_22 : decode cX1_alike 22 = .ok (.ifCond .ne 7, 3) := by decide +kernel
theorem dX1_alike_25 : decode cX1_alike 25 = .ok (.iconst 1, 1) := by decide +kernel
theorem dX1_alike_26 : decode cX1_alike 26 = .ok (.goto 4, 3) := by decide +kernel
theorem dX1_alike_29 : decode cX1_alike 29 = .ok (.iconst 0, 1) := by decide +kernel
theorem dX1_alike_30 : decode cX1_alike 30 = .ok (.ireturn, 1) := by decide +kernel
theorem dX1_search_0 : decode cX1_search 0 = .ok (.iconst 0, 1) := by decide +kernel
theorem dX1_search_1 : decode cX1_search 1 = .ok (.istore_n 3, 1) := by decide +kernel
theorem dX1_search_2 : decode cX1_search 2 = .ok (.iload_n 3, 1) := by decide +kernel
theorem dX1_search_3 : decode cX1_search 3 = .ok (.sipush 256, 3) := by decide +kernel
theorem dX1_search_6 : decode cX1_search 6 = .ok (.if_icmp .ge 16, 3) := by decide +kernel
theorem dX1_search_9 : decode cX1_search 9 = .ok (.aload_n 0, 1) := by decide +kernel
theorem dX1_search_10 : decode cX1_search 10 = .ok (.getfield 25, 3) := by decide +kernel
theorem dX1_search_13 : decode cX1_search 13 = .ok (.iload_n 3, 1) := by decide +kernel
theorem dX1_search_14 : decode cX1_search 14 = .ok (.iconst 0, 1) := by decide +kernel
theorem dX1_search_15 : decode cX1_search 15 = .ok (.bastore, 1) := by decide +kernel
theorem dX1_search_16 : decode cX1_search 16 = .ok (.iinc 3 1, 3) := by decide +kernel
theorem dX1_search_19 : decode cX1_search 19 = .ok (.goto (-17), 3) := by decide +kernel
theorem dX1_search_22 : decode cX1_search 22 = .ok (.aload_n 0, 1) := by decide +kernel
theorem dX1_search_23 : decode cX1_search 23 = .ok (.iconst 0, 1) := by decide +kernel
theorem dX1_search_24 : decode cX1_search 24 = .ok (.putfield 39, 3) := by decide +kernel
theorem dX1_search_27 : decode cX1_search 27 = .ok (.aload_n 0, 1) := by decide +kernel
theorem dX1_search_28 : decode cX1_search 28 = .ok (.iload_n 1, 1) := by decide +kernel
theorem dX1_search_29 : decode cX1_search 29 = .ok (.iload_n 2, 1) := by decide +kernel
theorem dX1_search_30 : decode cX1_search 30 = .ok (.iconst (-1), 1) := by decide +kernel
theorem dX1_search_31 : decode cX1_search 31 = .ok (.iconst 0, 1) := by decide +kernel
theorem dX1_search_32 : decode cX1_search 32 = .ok (.invokevirtual 43, 3) := by decide +kernel
theorem dX1_search_35 : decode cX1_search 35 = .ok (.iconst 0, 1) := by decide +kernel
theorem dX1_search_36 : decode cX1_search 36 = .ok (.istore_n 3, 1) := by decide +kernel
theorem dX1_search_37 : decode cX1_search 37 = .ok (.iload_n 3, 1) := by decide +kernel
theorem dX1_search_38 : decode cX1_search 38 = .ok (.aload_n 0, 1) := by decide +kernel
theorem dX1_search_39 : decode cX1_search 39 = .ok (.getfield 39, 3) := by decide +kernel
theorem dX1_search_42 : decode cX1_search 42 = .ok (.if_icmp .ge 108, 3) := by decide +kernel
theorem dX1_search_45 : decode cX1_search 45 = .ok (.aload_n 0, 1) := by decide +kernel
theorem dX1_search_46 : decode cX1_search 46 = .ok (.getfield 16, 3) := by decide +kernel
theorem dX1_search_49 : decode cX1_search 49 = .ok (.iload_n 3, 1) := by decide +kernel
theorem dX1_search_50 : decode cX1_search 50 = .ok (.iaload, 1) := by decide +kernel
theorem dX1_search_51 : decode cX1_search 51 = .ok (.bipush 16, 2) := by decide +kernel
theorem dX1_search_53 : decode cX1_search 53 = .ok (.idiv, 1) := by decide +kernel
theorem dX1_search_54 : decode cX1_search 54 = .ok (.iconst 3, 1) := by decide +kernel
theorem dX1_search_55 : decode cX1_search 55 = .ok (.imul, 1) := by decide +kernel
theorem dX1_search_56 : decode cX1_search 56 = .ok (.istore 4, 2) := by decide +kernel
theorem dX1_search_58 : decode cX1_search 58 = .ok (.aload_n 0, 1) := by decide +kernel
theorem dX1_search_59 : decode cX1_search 59 = .ok (.getfield 16, 3) := by decide +kernel
theorem dX1_search_62 : decode cX1_search 62 = .ok (.iload_n 3, 1) := by decide +kernel
theorem dX1_search_63 : decode cX1_search 63 = .ok (.iaload, 1) := by decide +kernel
theorem dX1_search_64 : decode cX1_search 64 = .ok (.bipush 16, 2) := by decide +kernel
theorem dX1_search_66 : decode cX1_search 66 = .ok (.irem, 1) := by decide +kernel
theorem dX1_search_67 : decode cX1_search 67 = .ok (.iconst 3, 1) := by decide +kernel
theorem dX1_search_68 : decode cX1_search 68 = .ok (.imul, 1) := by decide +kernel
theorem dX1_search_69 : decode cX1_search 69 = .ok (.istore 5, 2) := by decide +kernel
theorem dX1_search_71 : decode cX1_search 71 = .ok (.iconst 0, 1) := by decide +kernel
theorem dX1_search_72 : decode cX1_search 72 = .ok (.istore 6, 2) := by decide +kernel
theorem dX1_search_74 : decode cX1_search 74 = .ok (.iload 6, 2) := by decide +kernel
theorem dX1_search_76 : decode cX1_search 76 = .ok (.iconst 3, 1) := by decide +kernel
theorem dX1_search_77 : decode cX1_search 77 = .ok (.if_icmp .ge 67, 3) := by decide +kernel
theorem dX1_search_80 : decode cX1_search 80 = .ok (.aload_n 0, 1) := by decide +kernel
theorem dX1_search_81 : decode cX1_search 81 = .ok (.getfield 13, 3) := by decide +kernel
theorem dX1_search_84 : decode cX1_search 84 = .ok (.iload 4, 2) := by decide +kernel
theorem dX1_search_86 : decode cX1_search 86 = .ok (.iload 6, 2) := by decide +kernel
theorem dX1_search_88 : decode cX1_search 88 = .ok (.iadd, 1) := by decide +kernel
theorem dX1_search_89 : decode cX1_search 89 = .ok (.iaload, 1) := by decide +kernel
theorem dX1_search_90 : decode cX1_search 90 = .ok (.aload_n 0, 1) := by decide +kernel
theorem dX1_search_91 : decode cX1_search 91 = .ok (.getfield 13, 3) := by decide +kernel
theorem dX1_search_94 : decode cX1_search 94 = .ok (.iload 5, 2) := by decide +kernel
theorem dX1_search_96 : decode cX1_search 96 = .ok (.iload 6, 2) := by decide +kernel
theorem dX1_search_98 : decode cX1_search 98 = .ok (.iadd, 1) := by decide +kernel
theorem dX1_search_99 : decode cX1_search 99 = .ok (.iaload, 1) := by decide +kernel
theorem dX1_search_100 : decode cX1_search 100 = .ok (.if_icmp .eq 11, 3) := by decide +kernel
theorem dX1_search_103 : decode cX1_search 103 = .ok (.aload_n 0, 1) := by decide +kernel
theorem dX1_search_104 : decode cX1_search 104 = .ok (.iload_n 3, 1) := by decide +kernel
theorem dX1_search_105 : decode cX1_search 105 = .ok (.iload 6, 2) := by decide +kernel
theorem dX1_search_107 : decode cX1_search 107 = .ok (.invokevirtual 47, 3) := by decide +kernel
theorem dX1_search_110 : decode cX1_search 110 = .ok (.ireturn, 1) := by decide +kernel
theorem dX1_search_111 : decode cX1_search 111 = .ok (.aload_n 0, 1) := by decide +kernel
theorem dX1_search_112 : decode cX1_search 112 = .ok (.aload_n 0, 1) := by decide +kernel
theorem dX1_search_113 : decode cX1_search 113 = .ok (.getfield 7, 3) := by decide +kernel
theorem dX1_search_116 : decode cX1_search 116 = .ok (.iload 4, 2) := by decide +kernel
theorem dX1_search_118 : decode cX1_search 118 = .ok (.iload 6, 2) := by decide +kernel
theorem dX1_search_120 : decode cX1_search 120 = .ok (.iadd, 1) := by decide +kernel
theorem dX1_search_121 : decode cX1_search 121 = .ok (.iaload, 1) := by decide +kernel
theorem dX1_search_122 : decode cX1_search 122 = .ok (.aload_n 0, 1) := by decide +kernel
theorem dX1_search_123 : decode cX1_search 123 = .ok (.getfield 7, 3) := by decide +kernel
theorem dX1_search_126 : decode cX1_search 126 = .ok (.iload 5, 2) := by decide +kernel
theorem dX1_search_128 : decode cX1_search 128 = .ok (.iload 6, 2) := by decide +kernel
theorem dX1_search_130 : decode cX1_search 130 = .ok (.iadd, 1) := by decide +kernel
theorem dX1_search_131 : decode cX1_search 131 = .ok (.iaload, 1) := by decide +kernel
theorem dX1_search_132 : decode cX1_search 132 = .ok (.iload_n 3, 1) := by decide +kernel
theorem dX1_search_133 : decode cX1_search 133 = .ok (.iload 6, 2) := by decide +kernel
theorem dX1_search_135 : decode cX1_search 135 = .ok (.invokevirtual 43, 3) := by decide +kernel
theorem dX1_search_138 : decode cX1_search 138 = .ok (.iinc 6 1, 3) := by decide +kernel
theorem dX1_search_141 : decode cX1_search 141 = .ok (.goto (-67), 3) := by decide +kernel
theorem dX1_search_144 : decode cX1_search 144 = .ok (.iinc 3 1, 3) := by decide +kernel
theorem dX1_search_147 : decode cX1_search 147 = .ok (.goto (-110), 3) := by decide +kernel
theorem dX1_search_150 : decode cX1_search 150 = .ok (.iconst 0, 1) := by decide +kernel
theorem dX1_search_151 : decode cX1_search 151 = .ok (.ireturn, 1) := by decide +kernel
theorem dX1_come_0 : decode cX1_come 0 = .ok (.aload_n 0, 1) := by decide +kernel
theorem dX1_come_1 : decode cX1_come 1 = .ok (.getfield 25, 3) := by decide +kernel
theorem dX1_come_4 : decode cX1_come 4 = .ok (.iload_n 1, 1) := by decide +kernel
theorem dX1_come_5 : decode cX1_come 5 = .ok (.bipush 16, 2) := by decide +kernel
theorem dX1_come_7 : decode cX1_come 7 = .ok (.imul, 1) := by decide +kernel
theorem dX1_come_8 : decode cX1_come 8 = .ok (.iload_n 2, 1) := by decide +kernel
theorem dX1_come_9 : decode cX1_come 9 = .ok (.iadd, 1) := by decide +kernel
theorem dX1_come_10 : decode cX1_come 10 = .ok (.baload, 1) := by decide +kernel
theorem dX1_come_11 : decode cX1_come 11 = .ok (.ifCond .eq 4, 3) := by decide +kernel
theorem dX1_come_14 : decode cX1_come 14 = .ok (.return_, 1) := by decide +kernel
theorem dX1_come_15 : decode cX1_come 15 = .ok (.aload_n 0, 1) := by decide +kernel
theorem dX1_come_16 : decode cX1_come 16 = .ok (.getfield 25, 3) := by decide +kernel
theorem dX1_come_19 : decode cX1_come 19 = .ok (.iload_n 1, 1) := by decide +kernel
theorem dX1_come_20 : decode cX1_come 20 = .ok (.bipush 16, 2) := by decide +kernel
theorem dX1_come_22 : decode cX1_come 22 = .ok (.imul, 1) := by decide +kernel
theorem dX1_come_23 : decode cX1_come 23 = .ok (.iload_n 2, 1) := by decide +kernel
theorem dX1_come_24 : decode cX1_come 24 = .ok (.iadd, 1) := by decide +kernel
theorem dX1_come_25 : decode cX1_come 25 = .ok (.iconst 1, 1) := by decide +kernel
theorem dX1_come_26 : decode cX1_come 26 = .ok (.bastore, 1) := by decide +kernel
theorem dX1_come_27 : decode cX1_come 27 = .ok (.aload_n 0, 1) := by decide +kernel
theorem dX1_come_28 : decode cX1_come 28 = .ok (.getfield 16, 3) := by decide +kernel
theorem dX1_come_31 : decode cX1_come 31 = .ok (.aload_n 0, 1) := by decide +kernel
theorem dX1_come_32 : decode cX1_come 32 = .ok (.getfield 39, 3) := by decide +kernel
theorem dX1_come_35 : decode cX1_come 35 = .ok (.iload_n 1, 1) := by decide +kernel
theorem dX1_come_36 : decode cX1_come 36 = .ok (.bipush 16, 2) := by decide +kernel
theorem dX1_come_38 : decode cX1_come 38 = .ok (.imul, 1) := by decide +kernel
theorem dX1_come_39 : decode cX1_come 39 = .ok (.iload_n 2, 1) := by decide +kernel
theorem dX1_come_40 : decode cX1_come 40 = .ok (.iadd, 1) := by decide +kernel
theorem dX1_come_41 : decode cX1_come 41 = .ok (.iastore, 1) := by decide +kernel
theorem dX1_come_42 : decode cX1_come 42 = .ok (.aload_n 0, 1) := by decide +kernel
theorem dX1_come_43 : decode cX1_come 43 = .ok (.getfield 19, 3) := by decide +kernel
theorem dX1_come_46 : decode cX1_come 46 = .ok (.aload_n 0, 1) := by decide +kernel
end
section
set_option maxRecDepth 100000
theorem dX1_come_47 : decode cX1_come 47 = .ok (.getfield 39, 3) := by decide +kernel
theorem dX1_come_50 : decode cX1_come 50 = .ok (.iload_n 3, 1) := by decide +kernel
theorem dX1_come_51 : decode cX1_come 51 = .ok (.iastore, 1) := by decide +kernel
theorem dX1_come_52 : decode cX1_come 52 = .ok (.aload_n 0, 1) := by decide +kernel
theorem dX1_come_53 : decode cX1_come 53 = .ok (.getfield 22, 3) := by decide +kernel
theorem dX1_come_56 : decode cX1_come 56 = .ok (.aload_n 0, 1) := by decide +kernel
theorem dX1_come_57 : decode cX1_come 57 = .ok (.getfield 39, 3) := by decide +kernel
theorem dX1_come_60 : decode cX1_come 60 = .ok (.iload 4, 2) := by decide +kernel
theorem dX1_come_62 : decode cX1_come 62 = .ok (.iastore, 1) := by decide +kernel
theorem dX1_come_63 : decode cX1_come 63 = .ok (.aload_n 0, 1) := by decide +kernel
theorem dX1_come_64 : decode cX1_come 64 = .ok (.dup, 1) := by decide +kernel
theorem dX1_come_65 : decode cX1_come 65 = .ok (.getfield 39, 3) := by decide +kernel
theorem dX1_come_68 : decode cX1_come 68 = .ok (.iconst 1, 1) := by decide +kernel
theorem dX1_come_69 : decode cX1_come 69 = .ok (.iadd, 1) := by decide +kernel
theorem dX1_come_70 : decode cX1_come 70 = .ok (.putfield 39, 3) := by decide +kernel
theorem dX1_come_73 : decode cX1_come 73 = .ok (.return_, 1) := by decide +kernel
theorem dX1_spell_0 : decode cX1_spell 0 = .ok (.iconst 1, 1) := by decide +kernel
theorem dX1_spell_1 : decode cX1_spell 1 = .ok (.istore_n 3, 1) := by decide +kernel
theorem dX1_spell_2 : decode cX1_spell 2 = .ok (.aload_n 0, 1) := by decide +kernel
theorem dX1_spell_3 : decode cX1_spell 3 = .ok (.getfield 29, 3) := by decide +kernel
theorem dX1_spell_6 : decode cX1_spell 6 = .ok (.iconst 0, 1) := by decide +kernel
theorem dX1_spell_7 : decode cX1_spell 7 = .ok (.iload_n 2, 1) := by decide +kernel
theorem dX1_spell_8 : decode cX1_spell 8 = .ok (.iastore, 1) := by decide +kernel
theorem dX1_spell_9 : decode cX1_spell 9 = .ok (.iload_n 1, 1) := by decide +kernel
theorem dX1_spell_10 : decode cX1_spell 10 = .ok (.istore 4, 2) := by decide +kernel
theorem dX1_spell_12 : decode cX1_spell 12 = .ok (.aload_n 0, 1) := by decide +kernel
theorem dX1_spell_13 : decode cX1_spell 13 = .ok (.getfield 19, 3) := by decide +kernel
theorem dX1_spell_16 : decode cX1_spell 16 = .ok (.iload 4, 2) := by decide +kernel
theorem dX1_spell_18 : decode cX1_spell 18 = .ok (.iaload, 1) := by decide +kernel
theorem dX1_spell_19 : decode cX1_spell 19 = .ok (.ifCond .lt 38, 3) := by decide +kernel
theorem dX1_spell_22 : decode cX1_spell 22 = .ok (.iload_n 3, 1) := by decide +kernel
theorem dX1_spell_23 : decode cX1_spell 23 = .ok (.sipush 256, 3) := by decide +kernel
theorem dX1_spell_26 : decode cX1_spell 26 = .ok (.if_icmp .ge 31, 3) := by decide +kernel
theorem dX1_spell_29 : decode cX1_spell 29 = .ok (.aload_n 0, 1) := by decide +kernel
theorem dX1_spell_30 : decode cX1_spell 30 = .ok (.getfield 29, 3) := by decide +kernel
theorem dX1_spell_33 : decode cX1_spell 33 = .ok (.iload_n 3, 1) := by decide +kernel
theorem dX1_spell_34 : decode cX1_spell 34 = .ok (.aload_n 0, 1) := by decide +kernel
theorem dX1_spell_35 : decode cX1_spell 35 = .ok (.getfield 22, 3) := by decide +kernel
theorem dX1_spell_38 : decode cX1_spell 38 = .ok (.iload 4, 2) := by decide +kernel
theorem dX1_spell_40 : decode cX1_spell 40 = .ok (.iaload, 1) := by decide +kernel
theorem dX1_spell_41 : decode cX1_spell 41 = .ok (.iastore, 1) := by decide +kernel
theorem dX1_spell_42 : decode cX1_spell 42 = .ok (.iinc 3 1, 3) := by decide +kernel
theorem dX1_spell_45 : decode cX1_spell 45 = .ok (.aload_n 0, 1) := by decide +kernel
theorem dX1_spell_46 : decode cX1_spell 46 = .ok (.getfield 19, 3) := by decide +kernel
theorem dX1_spell_49 : decode cX1_spell 49 = .ok (.iload 4, 2) := by decide +kernel
theorem dX1_spell_51 : decode cX1_spell 51 = .ok (.iaload, 1) := by decide +kernel
theorem dX1_spell_52 : decode cX1_spell 52 = .ok (.istore 4, 2) := by decide +kernel
theorem dX1_spell_54 : decode cX1_spell 54 = .ok (.goto (-42), 3) := by decide +kernel
theorem dX1_spell_57 : decode cX1_spell 57 = .ok (.iload_n 3, 1) := by decide +kernel
theorem dX1_spell_58 : decode cX1_spell 58 = .ok (.ireturn, 1) := by decide +kernel
theorem dX1_distance_0 : decode cX1_distance 0 = .ok (.aload_n 0, 1) := by decide +kernel
theorem dX1_distance_1 : decode cX1_distance 1 = .ok (.iload_n 1, 1) := by decide +kernel
theorem dX1_distance_2 : decode cX1_distance 2 = .ok (.invokevirtual 32, 3) := by decide +kernel
theorem dX1_distance_5 : decode cX1_distance 5 = .ok (.ifCond .eq 11, 3) := by decide +kernel
theorem dX1_distance_8 : decode cX1_distance 8 = .ok (.aload_n 0, 1) := by decide +kernel
theorem dX1_distance_9 : decode cX1_distance 9 = .ok (.iload_n 2, 1) := by decide +kernel
theorem dX1_distance_10 : decode cX1_distance 10 = .ok (.invokevirtual 32, 3) := by decide +kernel
theorem dX1_distance_13 : decode cX1_distance 13 = .ok (.ifCond .ne 5, 3) := by decide +kernel
theorem dX1_distance_16 : decode cX1_distance 16 = .ok (.iconst (-1), 1) := by decide +kernel
theorem dX1_distance_17 : decode cX1_distance 17 = .ok (.ireturn, 1) := by decide +kernel
theorem dX1_distance_18 : decode cX1_distance 18 = .ok (.aload_n 0, 1) := by decide +kernel
theorem dX1_distance_19 : decode cX1_distance 19 = .ok (.iload_n 1, 1) := by decide +kernel
theorem dX1_distance_20 : decode cX1_distance 20 = .ok (.iload_n 2, 1) := by decide +kernel
theorem dX1_distance_21 : decode cX1_distance 21 = .ok (.invokevirtual 51, 3) := by decide +kernel
theorem dX1_distance_24 : decode cX1_distance 24 = .ok (.istore_n 3, 1) := by decide +kernel
theorem dX1_distance_25 : decode cX1_distance 25 = .ok (.iload_n 3, 1) := by decide +kernel
theorem dX1_distance_26 : decode cX1_distance 26 = .ok (.ifCond .ne 8, 3) := by decide +kernel
theorem dX1_distance_29 : decode cX1_distance 29 = .ok (.bipush (-4), 2) := by decide +kernel
theorem dX1_distance_31 : decode cX1_distance 31 = .ok (.goto 4, 3) := by decide +kernel
theorem dX1_distance_34 : decode cX1_distance 34 = .ok (.iload_n 3, 1) := by decide +kernel
theorem dX1_distance_35 : decode cX1_distance 35 = .ok (.ireturn, 1) := by decide +kernel
theorem dX1_teller_0 : decode cX1_teller 0 = .ok (.aload_n 0, 1) := by decide +kernel
theorem dX1_teller_1 : decode cX1_teller 1 = .ok (.iload_n 1, 1) := by decide +kernel
theorem dX1_teller_2 : decode cX1_teller 2 = .ok (.invokevirtual 32, 3) := by decide +kernel
theorem dX1_teller_5 : decode cX1_teller 5 = .ok (.ifCond .eq 11, 3) := by decide +kernel
theorem dX1_teller_8 : decode cX1_teller 8 = .ok (.aload_n 0, 1) := by decide +kernel
theorem dX1_teller_9 : decode cX1_teller 9 = .ok (.iload_n 2, 1) := by decide +kernel
theorem dX1_teller_10 : decode cX1_teller 10 = .ok (.invokevirtual 32, 3) := by decide +kernel
theorem dX1_teller_13 : decode cX1_teller 13 = .ok (.ifCond .ne 5, 3) := by decide +kernel
theorem dX1_teller_16 : decode cX1_teller 16 = .ok (.iconst (-1), 1) := by decide +kernel
theorem dX1_teller_17 : decode cX1_teller 17 = .ok (.ireturn, 1) := by decide +kernel
theorem dX1_teller_18 : decode cX1_teller 18 = .ok (.aload_n 0, 1) := by decide +kernel
theorem dX1_teller_19 : decode cX1_teller 19 = .ok (.iload_n 1, 1) := by decide +kernel
theorem dX1_teller_20 : decode cX1_teller 20 = .ok (.iload_n 2, 1) := by decide +kernel
theorem dX1_teller_21 : decode cX1_teller 21 = .ok (.invokevirtual 51, 3) := by decide +kernel
theorem dX1_teller_24 : decode cX1_teller 24 = .ok (.istore 4, 2) := by decide +kernel
theorem dX1_teller_26 : decode cX1_teller 26 = .ok (.iload_n 3, 1) := by decide +kernel
theorem dX1_teller_27 : decode cX1_teller 27 = .ok (.ifCond .lt 23, 3) := by decide +kernel
theorem dX1_teller_30 : decode cX1_teller 30 = .ok (.iload_n 3, 1) := by decide +kernel
theorem dX1_teller_31 : decode cX1_teller 31 = .ok (.iload 4, 2) := by decide +kernel
theorem dX1_teller_33 : decode cX1_teller 33 = .ok (.if_icmp .ge 17, 3) := by decide +kernel
theorem dX1_teller_36 : decode cX1_teller 36 = .ok (.aload_n 0, 1) := by decide +kernel
theorem dX1_teller_37 : decode cX1_teller 37 = .ok (.getfield 29, 3) := by decide +kernel
theorem dX1_teller_40 : decode cX1_teller 40 = .ok (.iload 4, 2) := by decide +kernel
theorem dX1_teller_42 : decode cX1_teller 42 = .ok (.iconst 1, 1) := by decide +kernel
theorem dX1_teller_43 : decode cX1_teller 43 = .ok (.isub, 1) := by decide +kernel
theorem dX1_teller_44 : decode cX1_teller 44 = .ok (.iload_n 3, 1) := by decide +kernel
theorem dX1_teller_45 : decode cX1_teller 45 = .ok (.isub, 1) := by decide +kernel
theorem dX1_teller_46 : decode cX1_teller 46 = .ok (.iaload, 1) := by decide +kernel
theorem dX1_teller_47 : decode cX1_teller 47 = .ok (.goto 5, 3) := by decide +kernel
theorem dX1_teller_50 : decode cX1_teller 50 = .ok (.bipush (-4), 2) := by decide +kernel
theorem dX1_teller_52 : decode cX1_teller 52 = .ok (.ireturn, 1) := by decide +kernel
theorem dX1_kind_0 : decode cX1_kind 0 = .ok (.aload_n 0, 1) := by decide +kernel
theorem dX1_kind_1 : decode cX1_kind 1 = .ok (.iload_n 1, 1) := by decide +kernel
theorem dX1_kind_2 : decode cX1_kind 2 = .ok (.invokevirtual 32, 3) := by decide +kernel
theorem dX1_kind_5 : decode cX1_kind 5 = .ok (.ifCond .ne 5, 3) := by decide +kernel
theorem dX1_kind_8 : decode cX1_kind 8 = .ok (.iconst (-1), 1) := by decide +kernel
theorem dX1_kind_9 : decode cX1_kind 9 = .ok (.ireturn, 1) := by decide +kernel
theorem dX1_kind_10 : decode cX1_kind 10 = .ok (.iconst 0, 1) := by decide +kernel
theorem dX1_kind_11 : decode cX1_kind 11 = .ok (.istore_n 2, 1) := by decide +kernel
theorem dX1_kind_12 : decode cX1_kind 12 = .ok (.iload_n 2, 1) := by decide +kernel
theorem dX1_kind_13 : decode cX1_kind 13 = .ok (.iload_n 1, 1) := by decide +kernel
theorem dX1_kind_14 : decode cX1_kind 14 = .ok (.if_icmp .ge 18, 3) := by decide +kernel
theorem dX1_kind_17 : decode cX1_kind 17 = .ok (.aload_n 0, 1) := by decide +kernel
theorem dX1_kind_18 : decode cX1_kind 18 = .ok (.iload_n 2, 1) := by decide +kernel
theorem dX1_kind_19 : decode cX1_kind 19 = .ok (.iload_n 1, 1) := by decide +kernel
theorem dX1_kind_20 : decode cX1_kind 20 = .ok (.invokevirtual 54, 3) := by decide +kernel
theorem dX1_kind_23 : decode cX1_kind 23 = .ok (.ifCond .ne 9, 3) := by decide +kernel
theorem dX1_kind_26 : decode cX1_kind 26 = .ok (.iinc 2 1, 3) := by decide +kernel
theorem dX1_kind_29 : decode cX1_kind 29 = .ok (.goto (-17), 3) := by decide +kernel
theorem dX1_kind_32 : decode cX1_kind 32 = .ok (.iload_n 2, 1) := by decide +kernel
theorem dX1_kind_33 : decode cX1_kind 33 = .ok (.ireturn, 1) := by decide +kernel
theorem dX1_kinds_0 : decode cX1_kinds 0 = .ok (.iconst 0, 1) := by decide +kernel
theorem dX1_kinds_1 : decode cX1_kinds 1 = .ok (.istore_n 1, 1) := by decide +kernel
theorem dX1_kinds_2 : decode cX1_kinds 2 = .ok (.iconst 0, 1) := by decide +kernel
theorem dX1_kinds_3 : decode cX1_kinds 3 = .ok (.istore_n 2, 1) := by decide +kernel
theorem dX1_kinds_4 : decode cX1_kinds 4 = .ok (.iload_n 2, 1) := by decide +kernel
theorem dX1_kinds_5 : decode cX1_kinds 5 = .ok (.bipush 16, 2) := by decide +kernel
theorem dX1_kinds_7 : decode cX1_kinds 7 = .ok (.if_icmp .ge 21, 3) := by decide +kernel
theorem dX1_kinds_10 : decode cX1_kinds 10 = .ok (.aload_n 0, 1) := by decide +kernel
theorem dX1_kinds_11 : decode cX1_kinds 11 = .ok (.iload_n 2, 1) := by decide +kernel
theorem dX1_kinds_12 : decode cX1_kinds 12 = .ok (.invokevirtual 58, 3) := by decide +kernel
theorem dX1_kinds_15 : decode cX1_kinds 15 = .ok (.iload_n 2, 1) := by decide +kernel
theorem dX1_kinds_16 : decode cX1_kinds 16 = .ok (.if_icmp .ne 6, 3) := by decide +kernel
theorem dX1_kinds_19 : decode cX1_kinds 19 = .ok (.iinc 1 1, 3) := by decide +kernel
theorem dX1_kinds_22 : decode cX1_kinds 22 = .ok (.iinc 2 1, 3) := by decide +kernel
theorem dX1_kinds_25 : decode cX1_kinds 25 = .ok (.goto (-21), 3) := by decide +kernel
theorem dX1_kinds_28 : decode cX1_kinds 28 = .ok (.iload_n 1, 1) := by decide +kernel
theorem dX1_kinds_29 : decode cX1_kinds 29 = .ok (.ireturn, 1) := by decide +kernel
theorem dX1_reachableKinds_0 : decode cX1_reachableKinds 0 = .ok (.aload_n 0, 1) := by decide +kernel
theorem dX1_reachableKinds_1 : decode cX1_reachableKinds 1 = .ok (.iload_n 1, 1) := by decide +kernel
theorem dX1_reachableKinds_2 : decode cX1_reachableKinds 2 = .ok (.invokevirtual 32, 3) := by decide +kernel
theorem dX1_reachableKinds_5 : decode cX1_reachableKinds 5 = .ok (.ifCond .ne 5, 3) := by decide +kernel
theorem dX1_reachableKinds_8 : decode cX1_reachableKinds 8 = .ok (.iconst (-1), 1) := by decide +kernel
theorem dX1_reachableKinds_9 : decode cX1_reachableKinds 9 = .ok (.ireturn, 1) := by decide +kernel
theorem dX1_reachableKinds_10 : decode cX1_reachableKinds 10 = .ok (.iconst 1, 1) := by decide +kernel
theorem dX1_reachableKinds_11 : decode cX1_reachableKinds 11 = .ok (.iload_n 1, 1) := by decide +kernel
theorem dX1_reachableKinds_12 : decode cX1_reachableKinds 12 = .ok (.ishl, 1) := by decide +kernel
theorem dX1_reachableKinds_13 : decode cX1_reachableKinds 13 = .ok (.istore_n 2, 1) := by decide +kernel
theorem dX1_reachableKinds_14 : decode cX1_reachableKinds 14 = .ok (.iconst 0, 1) := by decide +kernel
theorem dX1_reachableKinds_15 : decode cX1_reachableKinds 15 = .ok (.istore_n 3, 1) := by decide +kernel
theorem dX1_reachableKinds_16 : decode cX1_reachableKinds 16 = .ok (.iload_n 3, 1) := by decide +kernel
theorem dX1_reachableKinds_17 : decode cX1_reachableKinds 17 = .ok (.bipush 16, 2) := by decide +kernel
theorem dX1_reachableKinds_19 : decode cX1_reachableKinds 19 = .ok (.if_icmp .ge 48, 3) := by decide +kernel
theorem dX1_reachableKinds_22 : decode cX1_reachableKinds 22 = .ok (.iconst 0, 1) := by decide +kernel
theorem dX1_reachableKinds_23 : decode cX1_reachableKinds 23 = .ok (.istore 4, 2) := by decide +kernel
theorem dX1_reachableKinds_25 : decode cX1_reachableKinds 25 = .ok (.iload 4, 2) := by decide +kernel
theorem dX1_reachableKinds_27 : decode cX1_reachableKinds 27 = .ok (.bipush 48, 2) := by decide +kernel
theorem dX1_reachableKinds_29 : decode cX1_reachableKinds 29 = .ok (.if_icmp .ge 32, 3) := by decide +kernel
theorem dX1_reachableKinds_32 : decode cX1_reachableKinds 32 = .ok (.iload_n 2, 1) := by decide +kernel
theorem dX1_reachableKinds_33 : decode cX1_reachableKinds 33 = .ok (.iload 4, 2) := by decide +kernel
theorem dX1_reachableKinds_35 : decode cX1_reachableKinds 35 = .ok (.iconst 3, 1) := by decide +kernel
theorem dX1_reachableKinds_36 : decode cX1_reachableKinds 36 = .ok (.idiv, 1) := by decide +kernel
theorem dX1_reachableKinds_37 : decode cX1_reachableKinds 37 = .ok (.ishr, 1) := by decide +kernel
theorem dX1_reachableKinds_38 : decode cX1_reachableKinds 38 = .ok (.iconst 1, 1) := by decide +kernel
theorem dX1_reachableKinds_39 : decode cX1_reachableKinds 39 = .ok (.iand, 1) := by decide +kernel
theorem dX1_reachableKinds_40 : decode cX1_reachableKinds 40 = .ok (.ifCond .eq 15, 3) := by decide +kernel
theorem dX1_reachableKinds_43 : decode cX1_reachableKinds 43 = .ok (.iload_n 2, 1) := by decide +kernel
theorem dX1_reachableKinds_44 : decode cX1_reachableKinds 44 = .ok (.iconst 1, 1) := by decide +kernel
theorem dX1_reachableKinds_45 : decode cX1_reachableKinds 45 = .ok (.aload_n 0, 1) := by decide +kernel
theorem dX1_reachableKinds_46 : decode cX1_reachableKinds 46 = .ok (.getfield 7, 3) := by decide +kernel
theorem dX1_reachableKinds_49 : decode cX1_reachableKinds 49 = .ok (.iload 4, 2) := by decide +kernel
theorem dX1_reachableKinds_51 : decode cX1_reachableKinds 51 = .ok (.iaload, 1) := by decide +kernel
theorem dX1_reachableKinds_52 : decode cX1_reachableKinds 52 = .ok (.ishl, 1) := by decide +kernel
theorem dX1_reachableKinds_53 : decode cX1_reachableKinds 53 = .ok (.ior, 1) := by decide +kernel
theorem dX1_reachableKinds_54 : decode cX1_reachableKinds 54 = .ok (.istore_n 2, 1) := by decide +kernel
theorem dX1_reachableKinds_55 : decode cX1_reachableKinds 55 = .ok (.iinc 4 1, 3) := by decide +kernel
theorem dX1_reachableKinds_58 : decode cX1_reachableKinds 58 = .ok (.goto (-33), 3) := by decide +kernel
theorem dX1_reachableKinds_61 : decode cX1_reachableKinds 61 = .ok (.iinc 3 1, 3) := by decide +kernel
theorem dX1_reachableKinds_64 : decode cX1_reachableKinds 64 = .ok (.goto (-48), 3) := by decide +kernel
theorem dX1_reachableKinds_67 : decode cX1_reachableKinds 67 = .ok (.iconst 0, 1) := by decide +kernel
theorem dX1_reachableKinds_68 : decode cX1_reachableKinds 68 = .ok (.istore_n 3, 1) := by decide +kernel
theorem dX1_reachableKinds_69 : decode cX1_reachableKinds 69 = .ok (.iconst 0, 1) := by decide +kernel
theorem dX1_reachableKinds_70 : decode cX1_reachableKinds 70 = .ok (.istore 4, 2) := by decide +kernel
theorem dX1_reachableKinds_72 : decode cX1_reachableKinds 72 = .ok (.iload 4, 2) := by decide +kernel
theorem dX1_reachableKinds_74 : decode cX1_reachableKinds 74 = .ok (.bipush 16, 2) := by decide +kernel
theorem dX1_reachableKinds_76 : decode cX1_reachableKinds 76 = .ok (.if_icmp .ge 29, 3) := by decide +kernel
theorem dX1_reachableKinds_79 : decode cX1_reachableKinds 79 = .ok (.iload_n 2, 1) := by decide +kernel
theorem dX1_reachableKinds_80 : decode cX1_reachableKinds 80 = .ok (.iload 4, 2) := by decide +kernel
theorem dX1_reachableKinds_82 : decode cX1_reachableKinds 82 = .ok (.ishr, 1) := by decide +kernel
theorem dX1_reachableKinds_83 : decode cX1_reachableKinds 83 = .ok (.iconst 1, 1) := by decide +kernel
theorem dX1_reachableKinds_84 : decode cX1_reachableKinds 84 = .ok (.iand, 1) := by decide +kernel
theorem dX1_reachableKinds_85 : decode cX1_reachableKinds 85 = .ok (.ifCond .eq 14, 3) := by decide +kernel
theorem dX1_reachableKinds_88 : decode cX1_reachableKinds 88 = .ok (.iload_n 3, 1) := by decide +kernel
theorem dX1_reachableKinds_89 : decode cX1_reachableKinds 89 = .ok (.iconst 1, 1) := by decide +kernel
theorem dX1_reachableKinds_90 : decode cX1_reachableKinds 90 = .ok (.aload_n 0, 1) := by decide +kernel
theorem dX1_reachableKinds_91 : decode cX1_reachableKinds 91 = .ok (.iload 4, 2) := by decide +kernel
theorem dX1_reachableKinds_93 : decode cX1_reachableKinds 93 = .ok (.invokevirtual 58, 3) := by decide +kernel
theorem dX1_reachableKinds_96 : decode cX1_reachableKinds 96 = .ok (.ishl, 1) := by decide +kernel
theorem dX1_reachableKinds_97 : decode cX1_reachableKinds 97 = .ok (.ior, 1) := by decide +kernel
theorem dX1_reachableKinds_98 : decode cX1_reachableKinds 98 = .ok (.istore_n 3, 1) := by decide +kernel
theorem dX1_reachableKinds_99 : decode cX1_reachableKinds 99 = .ok (.iinc 4 1, 3) := by decide +kernel
theorem dX1_reachableKinds_102 : decode cX1_reachableKinds 102 = .ok (.goto (-30), 3) := by decide +kernel
theorem dX1_reachableKinds_105 : decode cX1_reachableKinds 105 = .ok (.iconst 0, 1) := by decide +kernel
theorem dX1_reachableKinds_106 : decode cX1_reachableKinds 106 = .ok (.istore 4, 2) := by decide +kernel
theorem dX1_reachableKinds_108 : decode cX1_reachableKinds 108 = .ok (.iconst 0, 1) := by decide +kernel
theorem dX1_reachableKinds_109 : decode cX1_reachableKinds 109 = .ok (.istore 5, 2) := by decide +kernel
theorem dX1_reachableKinds_111 : decode cX1_reachableKinds 111 = .ok (.iload 5, 2) := by decide +kernel
theorem dX1_reachableKinds_113 : decode cX1_reachableKinds 113 = .ok (.bipush 16, 2) := by decide +kernel
theorem dX1_reachableKinds_115 : decode cX1_reachableKinds 115 = .ok (.if_icmp .ge 20, 3) := by decide +kernel
theorem dX1_reachableKinds_118 : decode cX1_reachableKinds 118 = .ok (.iload 4, 2) := by decide +kernel
theorem dX1_reachableKinds_120 : decode cX1_reachableKinds 120 = .ok (.iload_n 3, 1) := by decide +kernel
theorem dX1_reachableKinds_121 : decode cX1_reachableKinds 121 = .ok (.iload 5, 2) := by decide +kernel
theorem dX1_reachableKinds_123 : decode cX1_reachableKinds 123 = .ok (.ishr, 1) := by decide +kernel
theorem dX1_reachableKinds_124 : decode cX1_reachableKinds 124 = .ok (.iconst 1, 1) := by decide +kernel
theorem dX1_reachableKinds_125 : decode cX1_reachableKinds 125 = .ok (.iand, 1) := by decide +kernel
theorem dX1_reachableKinds_126 : decode cX1_reachableKinds 126 = .ok (.iadd, 1) := by decide +kernel
theorem dX1_reachableKinds_127 : decode cX1_reachableKinds 127 = .ok (.istore 4, 2) := by decide +kernel
theorem dX1_reachableKinds_129 : decode cX1_reachableKinds 129 = .ok (.iinc 5 1, 3) := by decide +kernel
theorem dX1_reachableKinds_132 : decode cX1_reachableKinds 132 = .ok (.goto (-21), 3) := by decide +kernel
theorem dX1_reachableKinds_135 : decode cX1_reachableKinds 135 = .ok (.iload 4, 2) := by decide +kernel
theorem dX1_reachableKinds_137 : decode cX1_reachableKinds 137 = .ok (.ireturn, 1) := by decide +kernel
theorem dX1_depth_0 : decode cX1_depth 0 = .ok (.iconst 0, 1) := by decide +kernel
theorem dX1_depth_1 : decode cX1_depth 1 = .ok (.istore_n 1, 1) := by decide +kernel
theorem dX1_depth_2 : decode cX1_depth 2 = .ok (.iconst 0, 1) := by decide +kernel
theorem dX1_depth_3 : decode cX1_depth 3 = .ok (.istore_n 2, 1) := by decide +kernel
theorem dX1_depth_4 : decode cX1_depth 4 = .ok (.iload_n 2, 1) := by decide +kernel
theorem dX1_depth_5 : decode cX1_depth 5 = .ok (.sipush 256, 3) := by decide +kernel
theorem dX1_depth_8 : decode cX1_depth 8 = .ok (.if_icmp .ge 44, 3) := by decide +kernel
theorem dX1_depth_11 : decode cX1_depth 11 = .ok (.iload_n 2, 1) := by decide +kernel
theorem dX1_depth_12 : decode cX1_depth 12 = .ok (.bipush 16, 2) := by decide +kernel
theorem dX1_depth_14 : decode cX1_depth 14 = .ok (.idiv, 1) := by decide +kernel
theorem dX1_depth_15 : decode cX1_depth 15 = .ok (.iload_n 2, 1) := by decide +kernel
theorem dX1_depth_16 : decode cX1_depth 16 = .ok (.bipush 16, 2) := by decide +kernel
theorem dX1_depth_18 : decode cX1_depth 18 = .ok (.irem, 1) := by decide +kernel
theorem dX1_depth_19 : decode cX1_depth 19 = .ok (.if_icmp .ge 18, 3) := by decide +kernel
theorem dX1_depth_22 : decode cX1_depth 22 = .ok (.aload_n 0, 1) := by decide +kernel
theorem dX1_depth_23 : decode cX1_depth 23 = .ok (.iload_n 2, 1) := by decide +kernel
theorem dX1_depth_24 : decode cX1_depth 24 = .ok (.bipush 16, 2) := by decide +kernel
theorem dX1_depth_26 : decode cX1_depth 26 = .ok (.idiv, 1) := by decide +kernel
theorem dX1_depth_27 : decode cX1_depth 27 = .ok (.iload_n 2, 1) := by decide +kernel
theorem dX1_depth_28 : decode cX1_depth 28 = .ok (.bipush 16, 2) := by decide +kernel
theorem dX1_depth_30 : decode cX1_depth 30 = .ok (.irem, 1) := by decide +kernel
theorem dX1_depth_31 : decode cX1_depth 31 = .ok (.invokevirtual 51, 3) := by decide +kernel
theorem dX1_depth_34 : decode cX1_depth 34 = .ok (.goto 4, 3) := by decide +kernel
theorem dX1_depth_37 : decode cX1_depth 37 = .ok (.iconst 0, 1) := by decide +kernel
theorem dX1_depth_38 : decode cX1_depth 38 = .ok (.istore_n 3, 1) := by decide +kernel
theorem dX1_depth_39 : decode cX1_depth 39 = .ok (.iload_n 3, 1) := by decide +kernel
theorem dX1_depth_40 : decode cX1_depth 40 = .ok (.iload_n 1, 1) := by decide +kernel
theorem dX1_depth_41 : decode cX1_depth 41 = .ok (.if_icmp .le 5, 3) := by decide +kernel
theorem dX1_depth_44 : decode cX1_depth 44 = .ok (.iload_n 3, 1) := by decide +kernel
theorem dX1_depth_45 : decode cX1_depth 45 = .ok (.istore_n 1, 1) := by decide +kernel
theorem dX1_depth_46 : decode cX1_depth 46 = .ok (.iinc 2 1, 3) := by decide +kernel
theorem dX1_depth_49 : decode cX1_depth 49 = .ok (.goto (-45), 3) := by decide +kernel
theorem dX1_depth_52 : decode cX1_depth 52 = .ok (.iload_n 1, 1) := by decide +kernel
theorem dX1_depth_53 : decode cX1_depth 53 = .ok (.ireturn, 1) := by decide +kernel
theorem dX1_run_0 : decode cX1_run 0 = .ok (.aload_n 0, 1) := by decide +kernel
theorem dX1_run_1 : decode cX1_run 1 = .ok (.iload_n 1, 1) := by decide +kernel
theorem dX1_run_2 : decode cX1_run 2 = .ok (.invokevirtual 32, 3) := by decide +kernel
theorem dX1_run_5 : decode cX1_run 5 = .ok (.ifCond .ne 5, 3) := by decide +kernel
theorem dX1_run_8 : decode cX1_run 8 = .ok (.iconst (-1), 1) := by decide +kernel
theorem dX1_run_9 : decode cX1_run 9 = .ok (.ireturn, 1) := by decide +kernel
theorem dX1_run_10 : decode cX1_run 10 = .ok (.iload_n 3, 1) := by decide +kernel
theorem dX1_run_11 : decode cX1_run 11 = .ok (.ifCond .lt 9, 3) := by decide +kernel
theorem dX1_run_14 : decode cX1_run 14 = .ok (.iload_n 3, 1) := by decide +kernel
theorem dX1_run_15 : decode cX1_run 15 = .ok (.bipush 10, 2) := by decide +kernel
theorem dX1_run_17 : decode cX1_run 17 = .ok (.if_icmp .le 6, 3) := by decide +kernel
theorem dX1_run_20 : decode cX1_run 20 = .ok (.bipush (-2), 2) := by decide +kernel
theorem dX1_run_22 : decode cX1_run 22 = .ok (.ireturn, 1) := by decide +kernel
theorem dX1_run_23 : decode cX1_run 23 = .ok (.iload_n 1, 1) := by decide +kernel
theorem dX1_run_24 : decode cX1_run 24 = .ok (.istore 4, 2) := by decide +kernel
theorem dX1_run_26 : decode cX1_run 26 = .ok (.iconst 0, 1) := by decide +kernel
theorem dX1_run_27 : decode cX1_run 27 = .ok (.istore 5, 2) := by decide +kernel
theorem dX1_run_29 : decode cX1_run 29 = .ok (.iload 5, 2) := by decide +kernel
theorem dX1_run_31 : decode cX1_run 31 = .ok (.iload_n 3, 1) := by decide +kernel
theorem dX1_run_32 : decode cX1_run 32 = .ok (.if_icmp .ge 43, 3) := by decide +kernel
theorem dX1_run_35 : decode cX1_run 35 = .ok (.iload_n 2, 1) := by decide +kernel
theorem dX1_run_36 : decode cX1_run 36 = .ok (.iconst 2, 1) := by decide +kernel
theorem dX1_run_37 : decode cX1_run 37 = .ok (.iload 5, 2) := by decide +kernel
theorem dX1_run_39 : decode cX1_run 39 = .ok (.imul, 1) := by decide +kernel
theorem dX1_run_40 : decode cX1_run 40 = .ok (.ishr, 1) := by decide +kernel
theorem dX1_run_41 : decode cX1_run 41 = .ok (.iconst 3, 1) := by decide +kernel
theorem dX1_run_42 : decode cX1_run 42 = .ok (.iand, 1) := by decide +kernel
theorem dX1_run_43 : decode cX1_run 43 = .ok (.istore 6, 2) := by decide +kernel
theorem dX1_run_45 : decode cX1_run 45 = .ok (.aload_n 0, 1) := by decide +kernel
theorem dX1_run_46 : decode cX1_run 46 = .ok (.getfield 7, 3) := by decide +kernel
theorem dX1_run_49 : decode cX1_run 49 = .ok (.iload 4, 2) := by decide +kernel
theorem dX1_run_51 : decode cX1_run 51 = .ok (.iconst 3, 1) := by decide +kernel
theorem dX1_run_52 : decode cX1_run 52 = .ok (.imul, 1) := by decide +kernel
theorem dX1_run_53 : decode cX1_run 53 = .ok (.iload 6, 2) := by decide +kernel
theorem dX1_run_55 : decode cX1_run 55 = .ok (.iconst 3, 1) := by decide +kernel
theorem dX1_run_56 : decode cX1_run 56 = .ok (.if_icmp .ne 7, 3) := by decide +kernel
theorem dX1_run_59 : decode cX1_run 59 = .ok (.iconst 0, 1) := by decide +kernel
theorem dX1_run_60 : decode cX1_run 60 = .ok (.goto 5, 3) := by decide +kernel
theorem dX1_run_63 : decode cX1_run 63 = .ok (.iload 6, 2) := by decide +kernel
theorem dX1_run_65 : decode cX1_run 65 = .ok (.iadd, 1) := by decide +kernel
theorem dX1_run_66 : decode cX1_run 66 = .ok (.iaload, 1) := by decide +kernel
theorem dX1_run_67 : decode cX1_run 67 = .ok (.istore 4, 2) := by decide +kernel
theorem dX1_run_69 : decode cX1_run 69 = .ok (.iinc 5 1, 3) := by decide +kernel
theorem dX1_run_72 : decode cX1_run 72 = .ok (.goto (-43), 3) := by decide +kernel
theorem dX1_run_75 : decode cX1_run 75 = .ok (.iload 4, 2) := by decide +kernel
theorem dX1_run_77 : decode cX1_run 77 = .ok (.ireturn, 1) := by decide +kernel
end
section
set_option maxRecDepth 100000
theorem dL_law_0 : decode cL_law 0 = .ok (.new 7, 3) := by decide +kernel
theorem dL_law_3 : decode cL_law 3 = .ok (.dup, 1) := by decide +kernel
theorem dL_law_4 : decode cL_law 4 = .ok (.invokespecial 9, 3) := by decide +kernel
theorem dL_law_7 : decode cL_law 7 = .ok (.astore_n 1, 1) := by decide +kernel
theorem dL_law_8 : decode cL_law 8 = .ok (.new 10, 3) := by decide +kernel
theorem dL_law_11 : decode cL_law 11 = .ok (.dup, 1) := by decide +kernel
theorem dL_law_12 : decode cL_law 12 = .ok (.invokespecial 12, 3) := by decide +kernel
theorem dL_law_15 : decode cL_law 15 = .ok (.astore_n 2, 1) := by decide +kernel
theorem dL_law_16 : decode cL_law 16 = .ok (.iconst 0, 1) := by decide +kernel
theorem dL_law_17 : decode cL_law 17 = .ok (.istore_n 3, 1) := by decide +kernel
theorem dL_law_18 : decode cL_law 18 = .ok (.iload_n 3, 1) := by decide +kernel
theorem dL_law_19 : decode cL_law 19 = .ok (.aload_n 0, 1) := by decide +kernel
theorem dL_law_20 : decode cL_law 20 = .ok (.arraylength, 1) := by decide +kernel
theorem dL_law_21 : decode cL_law 21 = .ok (.iconst 4, 1) := by decide +kernel
theorem dL_law_22 : decode cL_law 22 = .ok (.isub, 1) := by decide +kernel
theorem dL_law_23 : decode cL_law 23 = .ok (.if_icmp .gt 381, 3) := by decide +kernel
theorem dL_law_26 : decode cL_law 26 = .ok (.aload_n 0, 1) := by decide +kernel
theorem dL_law_27 : decode cL_law 27 = .ok (.iload_n 3, 1) := by decide +kernel
theorem dL_law_28 : decode cL_law 28 = .ok (.iaload, 1) := by decide +kernel
theorem dL_law_29 : decode cL_law 29 = .ok (.bipush 15, 2) := by decide +kernel
theorem dL_law_31 : decode cL_law 31 = .ok (.iand, 1) := by decide +kernel
theorem dL_law_32 : decode cL_law 32 = .ok (.tableswitch 366 0 9 #[56, 99, 142, 175, 208, 251, 274, 287, 310, 323], 56) := by decide +kernel
theorem dL_law_88 : decode cL_law 88 = .ok (.aload_n 1, 1) := by decide +kernel
theorem dL_law_89 : decode cL_law 89 = .ok (.aload_n 0, 1) := by decide +kernel
theorem dL_law_90 : decode cL_law 90 = .ok (.iload_n 3, 1) := by decide +kernel
theorem dL_law_91 : decode cL_law 91 = .ok (.iconst 1, 1) := by decide +kernel
theorem dL_law_92 : decode cL_law 92 = .ok (.iadd, 1) := by decide +kernel
theorem dL_law_93 : decode cL_law 93 = .ok (.iaload, 1) := by decide +kernel
theorem dL_law_94 : decode cL_law 94 = .ok (.aload_n 0, 1) := by decide +kernel
theorem dL_law_95 : decode cL_law 95 = .ok (.iload_n 3, 1) := by decide +kernel
theorem dL_law_96 : decode cL_law 96 = .ok (.iconst 2, 1) := by decide +kernel
theorem dL_law_97 : decode cL_law 97 = .ok (.iadd, 1) := by decide +kernel
theorem dL_law_98 : decode cL_law 98 = .ok (.iaload, 1) := by decide +kernel
theorem dL_law_99 : decode cL_law 99 = .ok (.aload_n 0, 1) := by decide +kernel
theorem dL_law_100 : decode cL_law 100 = .ok (.iload_n 3, 1) := by decide +kernel
theorem dL_law_101 : decode cL_law 101 = .ok (.iconst 3, 1) := by decide +kernel
theorem dL_law_102 : decode cL_law 102 = .ok (.iadd, 1) := by decide +kernel
theorem dL_law_103 : decode cL_law 103 = .ok (.iaload, 1) := by decide +kernel
theorem dL_law_104 : decode cL_law 104 = .ok (.invokevirtual 13, 3) := by decide +kernel
theorem dL_law_107 : decode cL_law 107 = .ok (.aload_n 2, 1) := by decide +kernel
theorem dL_law_108 : decode cL_law 108 = .ok (.aload_n 0, 1) := by decide +kernel
theorem dL_law_109 : decode cL_law 109 = .ok (.iload_n 3, 1) := by decide +kernel
theorem dL_law_110 : decode cL_law 110 = .ok (.iconst 1, 1) := by decide +kernel
theorem dL_law_111 : decode cL_law 111 = .ok (.iadd, 1) := by decide +kernel
theorem dL_law_112 : decode cL_law 112 = .ok (.iaload, 1) := by decide +kernel
theorem dL_law_113 : decode cL_law 113 = .ok (.aload_n 0, 1) := by decide +kernel
theorem dL_law_114 : decode cL_law 114 = .ok (.iload_n 3, 1) := by decide +kernel
theorem dL_law_115 : decode cL_law 115 = .ok (.iconst 2, 1) := by decide +kernel
theorem dL_law_116 : decode cL_law 116 = .ok (.iadd, 1) := by decide +kernel
theorem dL_law_117 : decode cL_law 117 = .ok (.iaload, 1) := by decide +kernel
theorem dL_law_118 : decode cL_law 118 = .ok (.aload_n 0, 1) := by decide +kernel
theorem dL_law_119 : decode cL_law 119 = .ok (.iload_n 3, 1) := by decide +kernel
theorem dL_law_120 : decode cL_law 120 = .ok (.iconst 3, 1) := by decide +kernel
theorem dL_law_121 : decode cL_law 121 = .ok (.iadd, 1) := by decide +kernel
theorem dL_law_122 : decode cL_law 122 = .ok (.iaload, 1) := by decide +kernel
theorem dL_law_123 : decode cL_law 123 = .ok (.invokevirtual 17, 3) := by decide +kernel
theorem dL_law_126 : decode cL_law 126 = .ok (.if_icmp .eq 272, 3) := by decide +kernel
theorem dL_law_129 : decode cL_law 129 = .ok (.iconst 0, 1) := by decide +kernel
theorem dL_law_130 : decode cL_law 130 = .ok (.ireturn, 1) := by decide +kernel
theorem dL_law_131 : decode cL_law 131 = .ok (.aload_n 1, 1) := by decide +kernel
theorem dL_law_132 : decode cL_law 132 = .ok (.aload_n 0, 1) := by decide +kernel
theorem dL_law_133 : decode cL_law 133 = .ok (.iload_n 3, 1) := by decide +kernel
theorem dL_law_134 : decode cL_law 134 = .ok (.iconst 1, 1) := by decide +kernel
theorem dL_law_135 : decode cL_law 135 = .ok (.iadd, 1) := by decide +kernel
theorem dL_law_136 : decode cL_law 136 = .ok (.iaload, 1) := by decide +kernel
theorem dL_law_137 : decode cL_law 137 = .ok (.aload_n 0, 1) := by decide +kernel
theorem dL_law_138 : decode cL_law 138 = .ok (.iload_n 3, 1) := by decide +kernel
theorem dL_law_139 : decode cL_law 139 = .ok (.iconst 2, 1) := by decide +kernel
theorem dL_law_140 : decode cL_law 140 = .ok (.iadd, 1) := by decide +kernel
theorem dL_law_141 : decode cL_law 141 = .ok (.iaload, 1) := by decide +kernel
theorem dL_law_142 : decode cL_law 142 = .ok (.aload_n 0, 1) := by decide +kernel
theorem dL_law_143 : decode cL_law 143 = .ok (.iload_n 3, 1) := by decide +kernel
theorem dL_law_144 : decode cL_law 144 = .ok (.iconst 3, 1) := by decide +kernel
theorem dL_law_145 : decode cL_law 145 = .ok (.iadd, 1) := by decide +kernel
theorem dL_law_146 : decode cL_law 146 = .ok (.iaload, 1) := by decide +kernel
theorem dL_law_147 : decode cL_law 147 = .ok (.invokevirtual 18, 3) := by decide +kernel
theorem dL_law_150 : decode cL_law 150 = .ok (.aload_n 2, 1) := by decide +kernel
theorem dL_law_151 : decode cL_law 151 = .ok (.aload_n 0, 1) := by decide +kernel
theorem dL_law_152 : decode cL_law 152 = .ok (.iload_n 3, 1) := by decide +kernel
theorem dL_law_153 : decode cL_law 153 = .ok (.iconst 1, 1) := by decide +kernel
theorem dL_law_154 : decode cL_law 154 = .ok (.iadd, 1) := by decide +kernel
theorem dL_law_155 : decode cL_law 155 = .ok (.iaload, 1) := by decide +kernel
theorem dL_law_156 : decode cL_law 156 = .ok (.aload_n 0, 1) := by decide +kernel
theorem dL_law_157 : decode cL_law 157 = .ok (.iload_n 3, 1) := by decide +kernel
theorem dL_law_158 : decode cL_law 158 = .ok (.iconst 2, 1) := by decide +kernel
theorem dL_law_159 : decode cL_law 159 = .ok (.iadd, 1) := by decide +kernel
theorem dL_law_160 : decode cL_law 160 = .ok (.iaload, 1) := by decide +kernel
theorem dL_law_161 : decode cL_law 161 = .ok (.aload_n 0, 1) := by decide +kernel
theorem dL_law_162 : decode cL_law 162 = .ok (.iload_n 3, 1) := by decide +kernel
theorem dL_law_163 : decode cL_law 163 = .ok (.iconst 3, 1) := by decide +kernel
theorem dL_law_164 : decode cL_law 164 = .ok (.iadd, 1) := by decide +kernel
theorem dL_law_165 : decode cL_law 165 = .ok (.iaload, 1) := by decide +kernel
end
section
set_option maxRecDepth 100000
theorem dL_law_166 : decode cL_law 166 = .ok (.invokevirtual 21, 3) := by decide +kernel
theorem dL_law_169 : decode cL_law 169 = .ok (.if_icmp .eq 229, 3) := by decide +kernel
theorem dL_law_172 : decode cL_law 172 = .ok (.iconst 0, 1) := by decide +kernel
theorem dL_law_173 : decode cL_law 173 = .ok (.ireturn, 1) := by decide +kernel
theorem dL_law_174 : decode cL_law 174 = .ok (.aload_n 1, 1) := by decide +kernel
theorem dL_law_175 : decode cL_law 175 = .ok (.aload_n 0, 1) := by decide +kernel
theorem dL_law_176 : decode cL_law 176 = .ok (.iload_n 3, 1) := by decide +kernel
theorem dL_law_177 : decode cL_law 177 = .ok (.iconst 1, 1) := by decide +kernel
theorem dL_law_178 : decode cL_law 178 = .ok (.iadd, 1) := by decide +kernel
theorem dL_law_179 : decode cL_law 179 = .ok (.iaload, 1) := by decide +kernel
theorem dL_law_180 : decode cL_law 180 = .ok (.aload_n 0, 1) := by decide +kernel
theorem dL_law_181 : decode cL_law 181 = .ok (.iload_n 3, 1) := by decide +kernel
theorem dL_law_182 : decode cL_law 182 = .ok (.iconst 2, 1) := by decide +kernel
theorem dL_law_183 : decode cL_law 183 = .ok (.iadd, 1) := by decide +kernel
theorem dL_law_184 : decode cL_law 184 = .ok (.iaload, 1) := by decide +kernel
theorem dL_law_185 : decode cL_law 185 = .ok (.invokevirtual 22, 3) := by decide +kernel
theorem dL_law_188 : decode cL_law 188 = .ok (.aload_n 2, 1) := by decide +kernel
theorem dL_law_189 : decode cL_law 189 = .ok (.aload_n 0, 1) := by decide +kernel
theorem dL_law_190 : decode cL_law 190 = .ok (.iload_n 3, 1) := by decide +kernel
theorem dL_law_191 : decode cL_law 191 = .ok (.iconst 1, 1) := by decide +kernel
theorem dL_law_192 : decode cL_law 192 = .ok (.iadd, 1) := by decide +kernel
theorem dL_law_193 : decode cL_law 193 = .ok (.iaload, 1) := by decide +kernel
theorem dL_law_194 : decode cL_law 194 = .ok (.aload_n 0, 1) := by decide +kernel
theorem dL_law_195 : decode cL_law 195 = .ok (.iload_n 3, 1) := by decide +kernel
theorem dL_law_196 : decode cL_law 196 = .ok (.iconst 2, 1) := by decide +kernel
theorem dL_law_197 : decode cL_law 197 = .ok (.iadd, 1) := by decide +kernel
theorem dL_law_198 : decode cL_law 198 = .ok (.iaload, 1) := by decide +kernel
theorem dL_law_199 : decode cL_law 199 = .ok (.invokevirtual 26, 3) := by decide +kernel
theorem dL_law_202 : decode cL_law 202 = .ok (.if_icmp .eq 196, 3) := by decide +kernel
theorem dL_law_205 : decode cL_law 205 = .ok (.iconst 0, 1) := by decide +kernel
theorem dL_law_206 : decode cL_law 206 = .ok (.ireturn, 1) := by decide +kernel
theorem dL_law_207 : decode cL_law 207 = .ok (.aload_n 1, 1) := by decide +kernel
theorem dL_law_208 : decode cL_law 208 = .ok (.aload_n 0, 1) := by decide +kernel
theorem dL_law_209 : decode cL_law 209 = .ok (.iload_n 3, 1) := by decide +kernel
theorem dL_law_210 : decode cL_law 210 = .ok (.iconst 1, 1) := by decide +kernel
theorem dL_law_211 : decode cL_law 211 = .ok (.iadd, 1) := by decide +kernel
theorem dL_law_212 : decode cL_law 212 = .ok (.iaload, 1) := by decide +kernel
theorem dL_law_213 : decode cL_law 213 = .ok (.aload_n 0, 1) := by decide +kernel
theorem dL_law_214 : decode cL_law 214 = .ok (.iload_n 3, 1) := by decide +kernel
theorem dL_law_215 : decode cL_law 215 = .ok (.iconst 2, 1) := by decide +kernel
theorem dL_law_216 : decode cL_law 216 = .ok (.iadd, 1) := by decide +kernel
theorem dL_law_217 : decode cL_law 217 = .ok (.iaload, 1) := by decide +kernel
theorem dL_law_218 : decode cL_law 218 = .ok (.invokevirtual 27, 3) := by decide +kernel
theorem dL_law_221 : decode cL_law 221 = .ok (.aload_n 2, 1) := by decide +kernel
theorem dL_law_222 : decode cL_law 222 = .ok (.aload_n 0, 1) := by decide +kernel
theorem dL_law_223 : decode cL_law 223 = .ok (.iload_n 3, 1) := by decide +kernel
theorem dL_law_224 : decode cL_law 224 = .ok (.iconst 1, 1) := by decide +kernel
theorem dL_law_225 : decode cL_law 225 = .ok (.iadd, 1) := by decide +kernel
theorem dL_law_226 : decode cL_law 226 = .ok (.iaload, 1) := by decide +kernel
theorem dL_law_227 : decode cL_law 227 = .ok (.aload_n 0, 1) := by decide +kernel
theorem dL_law_228 : decode cL_law 228 = .ok (.iload_n 3, 1) := by decide +kernel
theorem dL_law_229 : decode cL_law 229 = .ok (.iconst 2, 1) := by decide +kernel
theorem dL_law_230 : decode cL_law 230 = .ok (.iadd, 1) := by decide +kernel
theorem dL_law_231 : decode cL_law 231 = .ok (.iaload, 1) := by decide +kernel
theorem dL_law_232 : decode cL_law 232 = .ok (.invokevirtual 31, 3) := by decide +kernel
theorem dL_law_235 : decode cL_law 235 = .ok (.if_icmp .eq 163, 3) := by decide +kernel
theorem dL_law_238 : decode cL_law 238 = .ok (.iconst 0, 1) := by decide +kernel
theorem dL_law_239 : decode cL_law 239 = .ok (.ireturn, 1) := by decide +kernel
theorem dL_law_240 : decode cL_law 240 = .ok (.aload_n 1, 1) := by decide +kernel
theorem dL_law_241 : decode cL_law 241 = .ok (.aload_n 0, 1) := by decide +kernel
theorem dL_law_242 : decode cL_law 242 = .ok (.iload_n 3, 1) := by decide +kernel
theorem dL_law_243 : decode cL_law 243 = .ok (.iconst 1, 1) := by decide +kernel
theorem dL_law_244 : decode cL_law 244 = .ok (.iadd, 1) := by decide +kernel
theorem dL_law_245 : decode cL_law 245 = .ok (.iaload, 1) := by decide +kernel
theorem dL_law_246 : decode cL_law 246 = .ok (.aload_n 0, 1) := by decide +kernel
theorem dL_law_247 : decode cL_law 247 = .ok (.iload_n 3, 1) := by decide +kernel
theorem dL_law_248 : decode cL_law 248 = .ok (.iconst 2, 1) := by decide +kernel
theorem dL_law_249 : decode cL_law 249 = .ok (.iadd, 1) := by decide +kernel
theorem dL_law_250 : decode cL_law 250 = .ok (.iaload, 1) := by decide +kernel
theorem dL_law_251 : decode cL_law 251 = .ok (.aload_n 0, 1) := by decide +kernel
theorem dL_law_252 : decode cL_law 252 = .ok (.iload_n 3, 1) := by decide +kernel
theorem dL_law_253 : decode cL_law 253 = .ok (.iconst 3, 1) := by decide +kernel
theorem dL_law_254 : decode cL_law 254 = .ok (.iadd, 1) := by decide +kernel
theorem dL_law_255 : decode cL_law 255 = .ok (.iaload, 1) := by decide +kernel
theorem dL_law_256 : decode cL_law 256 = .ok (.invokevirtual 32, 3) := by decide +kernel
theorem dL_law_259 : decode cL_law 259 = .ok (.aload_n 2, 1) := by decide +kernel
theorem dL_law_260 : decode cL_law 260 = .ok (.aload_n 0, 1) := by decide +kernel
theorem dL_law_261 : decode cL_law 261 = .ok (.iload_n 3, 1) := by decide +kernel
theorem dL_law_262 : decode cL_law 262 = .ok (.iconst 1, 1) := by decide +kernel
theorem dL_law_263 : decode cL_law 263 = .ok (.iadd, 1) := by decide +kernel
theorem dL_law_264 : decode cL_law 264 = .ok (.iaload, 1) := by decide +kernel
theorem dL_law_265 : decode cL_law 265 = .ok (.aload_n 0, 1) := by decide +kernel
theorem dL_law_266 : decode cL_law 266 = .ok (.iload_n 3, 1) := by decide +kernel
theorem dL_law_267 : decode cL_law 267 = .ok (.iconst 2, 1) := by decide +kernel
theorem dL_law_268 : decode cL_law 268 = .ok (.iadd, 1) := by decide +kernel
theorem dL_law_269 : decode cL_law 269 = .ok (.iaload, 1) := by decide +kernel
theorem dL_law_270 : decode cL_law 270 = .ok (.aload_n 0, 1) := by decide +kernel
theorem dL_law_271 : decode cL_law 271 = .ok (.iload_n 3, 1) := by decide +kernel
theorem dL_law_272 : decode cL_law 272 = .ok (.iconst 3, 1) := by decide +kernel
theorem dL_law_273 : decode cL_law 273 = .ok (.iadd, 1) := by decide +kernel
theorem dL_law_274 : decode cL_law 274 = .ok (.iaload, 1) := by decide +kernel
theorem dL_law_275 : decode cL_law 275 = .ok (.invokevirtual 35, 3) := by decide +kernel
end
section
set_option maxRecDepth 100000
theorem dL_law_278 : decode cL_law 278 = .ok (.if_icmp .eq 120, 3) := by decide +kernel
theorem dL_law_281 : decode cL_law 281 = .ok (.iconst 0, 1) := by decide +kernel
theorem dL_law_282 : decode cL_law 282 = .ok (.ireturn, 1) := by decide +kernel
theorem dL_law_283 : decode cL_law 283 = .ok (.aload_n 1, 1) := by decide +kernel
theorem dL_law_284 : decode cL_law 284 = .ok (.aload_n 0, 1) := by decide +kernel
theorem dL_law_285 : decode cL_law 285 = .ok (.iload_n 3, 1) := by decide +kernel
theorem dL_law_286 : decode cL_law 286 = .ok (.iconst 1, 1) := by decide +kernel
theorem dL_law_287 : decode cL_law 287 = .ok (.iadd, 1) := by decide +kernel
theorem dL_law_288 : decode cL_law 288 = .ok (.iaload, 1) := by decide +kernel
theorem dL_law_289 : decode cL_law 289 = .ok (.invokevirtual 36, 3) := by decide +kernel
theorem dL_law_292 : decode cL_law 292 = .ok (.aload_n 2, 1) := by decide +kernel
theorem dL_law_293 : decode cL_law 293 = .ok (.aload_n 0, 1) := by decide +kernel
theorem dL_law_294 : decode cL_law 294 = .ok (.iload_n 3, 1) := by decide +kernel
theorem dL_law_295 : decode cL_law 295 = .ok (.iconst 1, 1) := by decide +kernel
theorem dL_law_296 : decode cL_law 296 = .ok (.iadd, 1) := by decide +kernel
theorem dL_law_297 : decode cL_law 297 = .ok (.iaload, 1) := by decide +kernel
theorem dL_law_298 : decode cL_law 298 = .ok (.invokevirtual 40, 3) := by decide +kernel
theorem dL_law_301 : decode cL_law 301 = .ok (.if_icmp .eq 97, 3) := by decide +kernel
theorem dL_law_304 : decode cL_law 304 = .ok (.iconst 0, 1) := by decide +kernel
theorem dL_law_305 : decode cL_law 305 = .ok (.ireturn, 1) := by decide +kernel
theorem dL_law_306 : decode cL_law 306 = .ok (.aload_n 1, 1) := by decide +kernel
theorem dL_law_307 : decode cL_law 307 = .ok (.invokevirtual 41, 3) := by decide +kernel
theorem dL_law_310 : decode cL_law 310 = .ok (.aload_n 2, 1) := by decide +kernel
theorem dL_law_311 : decode cL_law 311 = .ok (.invokevirtual 45, 3) := by decide +kernel
theorem dL_law_314 : decode cL_law 314 = .ok (.if_icmp .eq 84, 3) := by decide +kernel
theorem dL_law_317 : decode cL_law 317 = .ok (.iconst 0, 1) := by decide +kernel
theorem dL_law_318 : decode cL_law 318 = .ok (.ireturn, 1) := by decide +kernel
theorem dL_law_319 : decode cL_law 319 = .ok (.aload_n 1, 1) := by decide +kernel
theorem dL_law_320 : decode cL_law 320 = .ok (.aload_n 0, 1) := by decide +kernel
theorem dL_law_321 : decode cL_law 321 = .ok (.iload_n 3, 1) := by decide +kernel
theorem dL_law_322 : decode cL_law 322 = .ok (.iconst 1, 1) := by decide +kernel
theorem dL_law_323 : decode cL_law 323 = .ok (.iadd, 1) := by decide +kernel
theorem dL_law_324 : decode cL_law 324 = .ok (.iaload, 1) := by decide +kernel
theorem dL_law_325 : decode cL_law 325 = .ok (.invokevirtual 46, 3) := by decide +kernel
theorem dL_law_328 : decode cL_law 328 = .ok (.aload_n 2, 1) := by decide +kernel
theorem dL_law_329 : decode cL_law 329 = .ok (.aload_n 0, 1) := by decide +kernel
theorem dL_law_330 : decode cL_law 330 = .ok (.iload_n 3, 1) := by decide +kernel
theorem dL_law_331 : decode cL_law 331 = .ok (.iconst 1, 1) := by decide +kernel
theorem dL_law_332 : decode cL_law 332 = .ok (.iadd, 1) := by decide +kernel
theorem dL_law_333 : decode cL_law 333 = .ok (.iaload, 1) := by decide +kernel
theorem dL_law_334 : decode cL_law 334 = .ok (.invokevirtual 49, 3) := by decide +kernel
theorem dL_law_337 : decode cL_law 337 = .ok (.if_icmp .eq 61, 3) := by decide +kernel
theorem dL_law_340 : decode cL_law 340 = .ok (.iconst 0, 1) := by decide +kernel
theorem dL_law_341 : decode cL_law 341 = .ok (.ireturn, 1) := by decide +kernel
theorem dL_law_342 : decode cL_law 342 = .ok (.aload_n 1, 1) := by decide +kernel
theorem dL_law_343 : decode cL_law 343 = .ok (.invokevirtual 50, 3) := by decide +kernel
theorem dL_law_346 : decode cL_law 346 = .ok (.aload_n 2, 1) := by decide +kernel
theorem dL_law_347 : decode cL_law 347 = .ok (.invokevirtual 53, 3) := by decide +kernel
theorem dL_law_350 : decode cL_law 350 = .ok (.if_icmp .eq 48, 3) := by decide +kernel
theorem dL_law_353 : decode cL_law 353 = .ok (.iconst 0, 1) := by decide +kernel
theorem dL_law_354 : decode cL_law 354 = .ok (.ireturn, 1) := by decide +kernel
theorem dL_law_355 : decode cL_law 355 = .ok (.aload_n 1, 1) := by decide +kernel
theorem dL_law_356 : decode cL_law 356 = .ok (.aload_n 0, 1) := by decide +kernel
theorem dL_law_357 : decode cL_law 357 = .ok (.iload_n 3, 1) := by decide +kernel
theorem dL_law_358 : decode cL_law 358 = .ok (.iconst 1, 1) := by decide +kernel
theorem dL_law_359 : decode cL_law 359 = .ok (.iadd, 1) := by decide +kernel
theorem dL_law_360 : decode cL_law 360 = .ok (.iaload, 1) := by decide +kernel
theorem dL_law_361 : decode cL_law 361 = .ok (.aload_n 0, 1) := by decide +kernel
theorem dL_law_362 : decode cL_law 362 = .ok (.iload_n 3, 1) := by decide +kernel
theorem dL_law_363 : decode cL_law 363 = .ok (.iconst 2, 1) := by decide +kernel
theorem dL_law_364 : decode cL_law 364 = .ok (.iadd, 1) := by decide +kernel
theorem dL_law_365 : decode cL_law 365 = .ok (.iaload, 1) := by decide +kernel
theorem dL_law_366 : decode cL_law 366 = .ok (.aload_n 0, 1) := by decide +kernel
theorem dL_law_367 : decode cL_law 367 = .ok (.iload_n 3, 1) := by decide +kernel
theorem dL_law_368 : decode cL_law 368 = .ok (.iconst 3, 1) := by decide +kernel
theorem dL_law_369 : decode cL_law 369 = .ok (.iadd, 1) := by decide +kernel
theorem dL_law_370 : decode cL_law 370 = .ok (.iaload, 1) := by decide +kernel
theorem dL_law_371 : decode cL_law 371 = .ok (.invokevirtual 54, 3) := by decide +kernel
theorem dL_law_374 : decode cL_law 374 = .ok (.aload_n 2, 1) := by decide +kernel
theorem dL_law_375 : decode cL_law 375 = .ok (.aload_n 0, 1) := by decide +kernel
theorem dL_law_376 : decode cL_law 376 = .ok (.iload_n 3, 1) := by decide +kernel
theorem dL_law_377 : decode cL_law 377 = .ok (.iconst 1, 1) := by decide +kernel
theorem dL_law_378 : decode cL_law 378 = .ok (.iadd, 1) := by decide +kernel
theorem dL_law_379 : decode cL_law 379 = .ok (.iaload, 1) := by decide +kernel
theorem dL_law_380 : decode cL_law 380 = .ok (.aload_n 0, 1) := by decide +kernel
theorem dL_law_381 : decode cL_law 381 = .ok (.iload_n 3, 1) := by decide +kernel
theorem dL_law_382 : decode cL_law 382 = .ok (.iconst 2, 1) := by decide +kernel
theorem dL_law_383 : decode cL_law 383 = .ok (.iadd, 1) := by decide +kernel
theorem dL_law_384 : decode cL_law 384 = .ok (.iaload, 1) := by decide +kernel
theorem dL_law_385 : decode cL_law 385 = .ok (.aload_n 0, 1) := by decide +kernel
theorem dL_law_386 : decode cL_law 386 = .ok (.iload_n 3, 1) := by decide +kernel
theorem dL_law_387 : decode cL_law 387 = .ok (.iconst 3, 1) := by decide +kernel
theorem dL_law_388 : decode cL_law 388 = .ok (.iadd, 1) := by decide +kernel
theorem dL_law_389 : decode cL_law 389 = .ok (.iaload, 1) := by decide +kernel
theorem dL_law_390 : decode cL_law 390 = .ok (.invokevirtual 57, 3) := by decide +kernel
theorem dL_law_393 : decode cL_law 393 = .ok (.if_icmp .eq 5, 3) := by decide +kernel
theorem dL_law_396 : decode cL_law 396 = .ok (.iconst 0, 1) := by decide +kernel
theorem dL_law_397 : decode cL_law 397 = .ok (.ireturn, 1) := by decide +kernel
theorem dL_law_398 : decode cL_law 398 = .ok (.iinc 3 4, 3) := by decide +kernel
theorem dL_law_401 : decode cL_law 401 = .ok (.goto (-383), 3) := by decide +kernel
theorem dL_law_404 : decode cL_law 404 = .ok (.iconst 1, 1) := by decide +kernel
theorem dL_law_405 : decode cL_law 405 = .ok (.ireturn, 1) := by decide +kernel
end
section
/-! ===== order of ints, in all its forms, and through longs ===== -/
theorem fa_lt (a b : Int32) : a < b ↔ a.toInt < b.toInt := Int32.lt_iff_toInt_lt
theorem fa_le (a b : Int32) : a ≤ b ↔ a.toInt ≤ b.toInt := Int32.le_iff_toInt_le
theorem fa_eq (a b : Int32) : a = b ↔ a.toInt = b.toInt := Int32.toInt_inj.symm
theorem fa_lt64 (a b : Int64) : a < b ↔ a.toInt < b.toInt := Int64.lt_iff_toInt_lt
theorem fa_le64 (a b : Int64) : a ≤ b ↔ a.toInt ≤ b.toInt := Int64.le_iff_toInt_le
theorem fa_eq64 (a b : Int64) : a = b ↔ a.toInt = b.toInt := Int64.toInt_inj.symm
/-- a comparison of two ints taken as longs -/
theorem fa_wide_lt (a b : Int32) : a.toInt64 < b.toInt64 ↔ a < b := by rw [fa_lt64, fa_lt, Int32.toInt_toInt64, Int32.toInt_toInt64]
theorem fa_wide_le (a b : Int32) : a.toInt64 ≤ b.toInt64 ↔ a ≤ b := by rw [fa_le64, fa_le, Int32.toInt_toInt64, Int32.toInt_toInt64]
theorem fa_wide_eq (a b : Int32) : a.toInt64 = b.toInt64 ↔ a = b := by rw [fa_eq64, fa_eq, Int32.toInt_toInt64, Int32.toInt_toInt64]
/-- one strict comparison gives all the others -/
theorem fa_of_lt {a b : Int32} (h : a < b) : a ≤ b ∧ ¬ b ≤ a ∧ ¬ b < a ∧ a ≠ b ∧ b ≠ a := by
  rw [fa_lt] at h
  refine ⟨?_, ?_, ?_, ?_, ?_⟩
  · rw [fa_le]; omega
  · rw [fa_le]; omega
  · rw [fa_lt]; omega
  · intro e; rw [fa_eq] at e; omega
  · intro e; rw [fa_eq] at e; omega
theorem fa_of_nlt {a b : Int32} (h : ¬ a < b) : b ≤ a := by
  rw [fa_lt] at h
  rw [fa_le]
  omega
theorem fa_of_nle {a b : Int32} (h : ¬ a ≤ b) : b < a := by
  rw [fa_le] at h
  rw [fa_lt]
  omega
theorem fa_le_ne {a b : Int32} (h : a ≤ b) (h2 : a ≠ b) : a < b := by
  rw [fa_le] at h
  rw [fa_lt]
  have h3 : a.toInt ≠ b.toInt := fun e => h2 ((fa_eq a b).mpr e)
  omega
theorem fa_three (a b : Int32) : a < b ∨ a = b ∨ b < a := by
  rw [fa_lt, fa_lt, fa_eq]
  omega
theorem fa_trans {a b c : Int32} (h : a < b) (h2 : b ≤ c) : a < c := by
  rw [fa_lt] at *
  rw [fa_le] at h2
  omega
/-! ===== small literals as numbers ===== -/
theorem fa_lit (n : Nat) : (OfNat.ofNat n : Int32) = nI n := rfl
theorem fa_litL (n : Nat) : (OfNat.ofNat n : Int64) = lN n := rfl
/-! ===== bits of a number: 'or', masks, one bit ===== -/
theorem fa_and (a b : Nat) : nI a &&& nI b = nI (a &&& b) := by
  apply Int32.toBitVec_inj.1
  show BitVec.ofNat 32 a &&& BitVec.ofNat 32 b = BitVec.ofNat 32 (a &&& b)
  apply BitVec.eq_of_getLsbD_eq
  intro i hi
  simp [hi]
theorem fa_or (a b : Nat) : nI a ||| nI b = nI (a ||| b) := by
  apply Int32.toBitVec_inj.1
  show BitVec.ofNat 32 a ||| BitVec.ofNat 32 b = BitVec.ofNat 32 (a ||| b)
  apply BitVec.eq_of_getLsbD_eq
  intro i hi
  simp [hi]
/-- a remainder by a power of two, as a mask -/
theorem fa_mask (n k : Nat) : nI n &&& nI (2 ^ k - 1) = nI (n % 2 ^ k) := by rw [fa_and, Nat.and_two_pow_sub_one_eq_mod]
/-- 'or' of a high part and a low one that don't meet is their sum -/
theorem fa_or_sum {a k : Nat} (b : Nat) (h : a < 2 ^ k) : nI (2 ^ k * b) ||| nI a = nI (2 ^ k * b + a) := by rw [fa_or, Nat.two_pow_add_eq_or_of_lt h]
/-! ===== the first index with a property; a count ===== -/
/-- the first k < n with p k, n if there is none -/
def fa_first (p : Nat → Bool) : Nat → Nat
  | 0 => 0
  | n + 1 => if fa_first p n < n then fa_first p n else if p n then n else n + 1
theorem fa_first_le (p : Nat → Bool) : ∀ n, fa_first p n ≤ n
  | 0 => Nat.le_refl 0
  | n + 1 => by
    have ih := fa_first_le p n
    unfold fa_first
    split
    · omega
    · split
      · omega
      · omega
theorem fa_first_no (p : Nat → Bool) : ∀ n k, k < fa_first p n → p k = false
  | 0, k, h => absurd h (Nat.not_lt_zero k)
  | n + 1, k, h => by
    have ih := fa_first_no p n
    have hl := fa_first_le p n
    unfold fa_first at h
    split at h
    · exact ih k h
    · rename_i h1
      split at h
      · exact ih k (by omega)
      · rename_i h2
        by_cases e : k = n
        · subst e
          exact Bool.eq_false_iff.mpr h2
        · exact ih k (by omega)
theorem fa_first_yes (p : Nat → Bool) : ∀ n, fa_first p n < n → p (fa_first p n) = true
  | 0, h => absurd h (Nat.not_lt_zero _)
  | n + 1, h => by
    have ih := fa_first_yes p n
    have hl := fa_first_le p n
    unfold fa_first at h ⊢
    split at h
    · rename_i h1
      rw [if_pos h1]
      exact ih h1
    · rename_i h1
      rw [if_neg h1]
      split at h
      · rename_i h2
        rw [if_pos h2]
        exact h2
      · omega
/-! ===== drawers: more things than places ===== -/
theorem fb_holes : ∀ (m n : Nat) (f : Nat → Nat), (∀ i, i < n → f i < m) → (∀ i j, i < j → j < n → f i ≠ f j) → n ≤ m := by
  intro m
  induction m with
  | zero =>
    intro n f h1 _
    rcases Nat.eq_zero_or_pos n with h | h
    · omega
    · exact absurd (h1 0 h) (Nat.not_lt_zero _)
  | succ m ih =>
    intro n f h1 h2
    by_cases hx : ∃ i, i < n ∧ f i = m
    · obtain ⟨a, ha, hfa⟩ := hx
      have hg := ih (n - 1) (fun i => if i < a then f i else f (i + 1)) (by
        intro i hi
        by_cases q : i < a
        · simp only [if_pos q]
          have b1 := h1 i (by omega)
          have b2 := h2 i a q ha
          omega
        · simp only [if_neg q]
          have b1 := h1 (i + 1) (by omega)
          have b2 := h2 a (i + 1) (by omega) (by omega)
          omega) (by
        intro i j hij hj
        by_cases q : i < a
        · by_cases r : j < a
          · simp only [if_pos q, if_pos r]
            exact h2 i j hij (by omega)
          · simp only [if_pos q, if_neg r]
            exact h2 i (j + 1) (by omega) (by omega)
        · have r : ¬ j < a := by omega
          simp only [if_neg q, if_neg r]
          exact h2 (i + 1) (j + 1) (by omega) (by omega))
      omega
    · have hg := ih n f (fun i hi => by
        have b1 := h1 i hi
        have b2 : f i ≠ m := fun e => hx ⟨i, hi, e⟩
        omega) h2
      omega
/-- two of them in one place -/
theorem fb_twice {m n : Nat} {f : Nat → Nat} (h : ∀ i, i < n → f i < m) (hm : m < n) : ∃ i j, i < j ∧ j < n ∧ f i = f j := by
  refine Classical.byContradiction fun hx => ?_
  have := fb_holes m n f h (fun i j hij hj e => hx ⟨i, j, hij, hj, e⟩)
  omega
/-! ===== how many places have a property ===== -/
def fb_ct (p : Nat → Bool) : Nat → Nat
  | 0 => 0
  | n + 1 => fb_ct p n + (if p n then 1 else 0)
theorem fb_ct_succ (p : Nat → Bool) (n : Nat) : fb_ct p (n + 1) = fb_ct p n + (if p n then 1 else 0) := rfl
theorem fb_ct_le (p : Nat → Bool) : ∀ n, fb_ct p n ≤ n
  | 0 => Nat.le_refl _
  | n + 1 => by
    have h := fb_ct_le p n
    rw [fb_ct_succ]
    split <;> omega
theorem fb_ct_step (p : Nat → Bool) (m : Nat) : ∀ n, fb_ct p m ≤ fb_ct p (m + n)
  | 0 => Nat.le_refl _
  | n + 1 => by
    have h := fb_ct_step p m n
    show fb_ct p m ≤ fb_ct p (m + n + 1)
    rw [fb_ct_succ]
    omega
theorem fb_ct_mono (p : Nat → Bool) {m n : Nat} (h : m ≤ n) : fb_ct p m ≤ fb_ct p n := by
  have := fb_ct_step p m (n - m)
  rwa [Nat.add_sub_cancel' h] at this
theorem fb_ct_cong {p q : Nat → Bool} : ∀ {n : Nat}, (∀ k, k < n → p k = q k) → fb_ct p n = fb_ct q n
  | 0, _ => rfl
  | n + 1, h => by
    rw [fb_ct_succ, fb_ct_succ, fb_ct_cong (fun k hk => h k (by omega)), h n (by omega)]
/-- one place changed -/
theorem fb_ct_out (p : Nat → Bool) (b : Bool) {i n : Nat} (h : n ≤ i) : fb_ct (fun k => if k = i then b else p k) n = fb_ct p n :=
  fb_ct_cong fun k hk => if_neg (by omega)
theorem fb_ct_upd (p : Nat → Bool) (b : Bool) {i : Nat} : ∀ {n : Nat}, i < n → fb_ct (fun k => if k = i then b else p k) n + (if p i then 1 else 0) = fb_ct p n + (if b then 1 else 0)
  | 0, h => absurd h (Nat.not_lt_zero i)
  | n + 1, h => by
    rw [fb_ct_succ, fb_ct_succ]
    rcases Nat.lt_or_ge i n with q | q
    · have := fb_ct_upd p b q
      have e : (if n = i then b else p n) = p n := if_neg (by omega)
      rw [e]
      omega
    · have e : i = n := by omega
      subst e
      rw [fb_ct_out p b (Nat.le_refl _)]
      simp only [if_true]
      omega
theorem fb_ct_sub {p q : Nat → Bool} : ∀ {n : Nat}, (∀ k, k < n → p k = true → q k = true) → fb_ct p n ≤ fb_ct q n
  | 0, _ => Nat.le_refl _
  | n + 1, h => by
    have h1 := fb_ct_sub (n := n) (p := p) (q := q) (fun k hk => h k (by omega))
    have h2 := h n (by omega)
    rw [fb_ct_succ, fb_ct_succ]
    cases hp : p n <;> cases hq : q n <;> simp_all <;> omega
theorem fb_ct_or {p q : Nat → Bool} : ∀ {n : Nat}, (∀ k, k < n → ¬ (p k = true ∧ q k = true)) → fb_ct (fun k => p k || q k) n = fb_ct p n + fb_ct q n
  | 0, _ => rfl
  | n + 1, h => by
    have h1 := fb_ct_or (n := n) (p := p) (q := q) (fun k hk => h k (by omega))
    have h2 := h n (by omega)
    rw [fb_ct_succ, fb_ct_succ, fb_ct_succ, h1]
    cases hp : p n <;> cases hq : q n <;> simp_all <;> omega
theorem fb_ct_not (p : Nat → Bool) : ∀ n, fb_ct p n + fb_ct (fun k => !p k) n = n
  | 0 => rfl
  | n + 1 => by
    have h := fb_ct_not p n
    rw [fb_ct_succ, fb_ct_succ]
    cases p n <;> simp <;> omega
theorem fb_ct_split (p : Nat → Bool) (m : Nat) : ∀ n, fb_ct p (m + n) = fb_ct p m + fb_ct (fun k => p (m + k)) n
  | 0 => rfl
  | n + 1 => by
    have h := fb_ct_split p m n
    show fb_ct p (m + n + 1) = _
    rw [fb_ct_succ, fb_ct_succ, h, Nat.add_assoc]
theorem fb_ct_zero {p : Nat → Bool} : ∀ {n : Nat}, fb_ct p n = 0 ↔ ∀ k, k < n → p k = false
  | 0 => ⟨fun _ k hk => absurd hk (Nat.not_lt_zero k), fun _ => rfl⟩
  | n + 1 => by
    have h := fb_ct_zero (p := p) (n := n)
    rw [fb_ct_succ]
    constructor
    · intro e k hk
      have e1 : fb_ct p n = 0 := by omega
      rcases Nat.lt_or_ge k n with q | q
      · exact h.mp e1 k q
      · have ek : k = n := by omega
        subst ek
        cases hp : p k
        · rfl
        · simp [hp] at e
    · intro a
      rw [h.mpr (fun k hk => a k (by omega)), a n (by omega)]
      rfl
theorem fb_ct_pos {p : Nat → Bool} {n : Nat} : 0 < fb_ct p n ↔ ∃ k, k < n ∧ p k = true := by
  constructor
  · intro h
    refine Classical.byContradiction fun hx => ?_
    have := fb_ct_zero.mpr (fun k hk => by
      cases hp : p k
      · rfl
      · exact absurd ⟨k, hk, hp⟩ hx : ∀ k, k < n → p k = false)
    omega
  · rintro ⟨k, hk, hp⟩
    rcases Nat.eq_zero_or_pos (fb_ct p n) with e | e
    · have := fb_ct_zero.mp e k hk
      rw [this] at hp
      cases hp
    · exact e
theorem fb_ct_all {p : Nat → Bool} {n : Nat} : fb_ct p n = n ↔ ∀ k, k < n → p k = true := by
  have h := fb_ct_not p n
  constructor
  · intro e k hk
    have z : fb_ct (fun k => !p k) n = 0 := by omega
    have := fb_ct_zero.mp z k hk
    cases hp : p k
    · simp [hp] at this
    · rfl
  · intro a
    have z : fb_ct (fun k => !p k) n = 0 := fb_ct_zero.mpr (fun k hk => by simp [a k hk])
    omega
/-- the k-th place with the property -/
theorem fb_ct_kth {p : Nat → Bool} {k : Nat} : ∀ {n : Nat}, k < fb_ct p n → ∃ i, i < n ∧ p i = true ∧ fb_ct p i = k
  | 0, h => absurd h (Nat.not_lt_zero k)
  | n + 1, h => by
    rcases Nat.lt_or_ge k (fb_ct p n) with q | q
    · obtain ⟨i, h1, h2⟩ := fb_ct_kth q
      exact ⟨i, by omega, h2⟩
    · rw [fb_ct_succ] at h
      cases hp : p n
      · simp [hp] at h; omega
      · simp [hp] at h
        exact ⟨n, by omega, hp, by omega⟩
theorem fb_ct_kth_one {p : Nat → Bool} {i j : Nat} (hi : p i = true) (hj : p j = true) (e : fb_ct p i = fb_ct p j) : i = j := by
  have key : ∀ a b : Nat, a < b → p a = true → fb_ct p a < fb_ct p b := by
    intro a b hab ha
    have h := fb_ct_mono p (show a + 1 ≤ b from hab)
    rw [fb_ct_succ, ha] at h
    simp at h
    omega
  rcases Nat.lt_trichotomy i j with q | q | q
  · have := key i j q hi; omega
  · exact q
  · have := key j i q hj; omega
theorem fb_bit_set (n j i : Nat) : (n ||| 2 ^ j).testBit i = (n.testBit i || decide (i = j)) := by
  rw [Nat.testBit_or]
  by_cases h : j = i
  · subst h; simp
  · have h2 : ¬ i = j := fun e => h e.symm
    first | (simp [Nat.testBit_two_pow, h, h2]; done) | (simp [Nat.testBit_two_pow_of_ne h, h2]; done)
end
section
/-! ===== the pure machine: groups by rounds, agreement, words ===== -/
theorem pm_first_eq {p : Nat → Bool} {n t : Nat} (h : t ≤ n) (hno : ∀ j, j < t → p j = false) (hy : t < n → p t = true) : fa_first p n = t := by
  have h1 := fa_first_le p n
  have h2 := fa_first_no p n
  have h3 := fa_first_yes p n
  rcases Nat.lt_trichotomy (fa_first p n) t with q | q | q
  · have e1 := h3 (by omega)
    rw [hno _ q] at e1
    cases e1
  · exact q
  · have e1 := h2 t q
    rw [hy (by omega)] at e1
    cases e1
/-- which two states stay together behind a round with the groups G -/
def pm_tg (nx : Nat → Nat) (ou : Nat → Int32) (G : Nat → Nat) (a b : Nat) : Bool := decide (G a = G b) && decide (fa_first (fun i => !(decide (ou (a * 3 + i) = ou (b * 3 + i)) && decide (G (nx (a * 3 + i)) = G (nx (b * 3 + i))))) 3 = 3)
theorem pm_tg_true {nx : Nat → Nat} {ou : Nat → Int32} {G : Nat → Nat} {a b : Nat} : pm_tg nx ou G a b = true ↔ (G a = G b ∧ ∀ i, i < 3 → ou (a * 3 + i) = ou (b * 3 + i) ∧ G (nx (a * 3 + i)) = G (nx (b * 3 + i))) := by
  unfold pm_tg
  rw [Bool.and_eq_true, decide_eq_true_iff, decide_eq_true_iff]
  constructor
  · rintro ⟨h1, h2⟩
    refine ⟨h1, fun i hi => ?_⟩
    have h3 := fa_first_no (fun i => !(decide (ou (a * 3 + i) = ou (b * 3 + i)) && decide (G (nx (a * 3 + i)) = G (nx (b * 3 + i))))) 3 i (by rw [h2]; exact hi)
    simp only [Bool.not_eq_false', Bool.and_eq_true, decide_eq_true_iff] at h3
    exact h3
  · rintro ⟨h1, h2⟩
    refine ⟨h1, pm_first_eq (Nat.le_refl _) (fun i hi => ?_) (fun q => absurd q (by omega))⟩
    have h3 := h2 i hi
    simp only [Bool.not_eq_false', Bool.and_eq_true, decide_eq_true_iff]
    exact h3
/-- the next round's group of s -/
def pm_nt (nx : Nat → Nat) (ou : Nat → Int32) (G : Nat → Nat) (s : Nat) : Nat := fa_first (fun t => pm_tg nx ou G t s) s
/-- the group of a state in a round -/
def pm_g (nx : Nat → Nat) (ou : Nat → Int32) : Nat → Nat → Nat
  | 0 => fun _ => 0
  | r + 1 => pm_nt nx ou (pm_g nx ou r)
/-- two states agree on all words of at most r inputs -/
def pm_eq (nx : Nat → Nat) (ou : Nat → Int32) : Nat → Nat → Nat → Prop
  | 0, _, _ => True
  | r + 1, a, b => ∀ i, i < 3 → ou (a * 3 + i) = ou (b * 3 + i) ∧ pm_eq nx ou r (nx (a * 3 + i)) (nx (b * 3 + i))
theorem pm_eq_refl {nx : Nat → Nat} {ou : Nat → Int32} : ∀ (r a : Nat), pm_eq nx ou r a a
  | 0, _ => trivial
  | r + 1, _ => fun _ _ => ⟨rfl, pm_eq_refl r _⟩
theorem pm_eq_symm {nx : Nat → Nat} {ou : Nat → Int32} : ∀ (r : Nat) {a b : Nat}, pm_eq nx ou r a b → pm_eq nx ou r b a
  | 0, _, _, _ => trivial
  | r + 1, _, _, h => fun i hi => ⟨(h i hi).1.symm, pm_eq_symm r (h i hi).2⟩
theorem pm_eq_trans {nx : Nat → Nat} {ou : Nat → Int32} : ∀ (r : Nat) {a b c : Nat}, pm_eq nx ou r a b → pm_eq nx ou r b c → pm_eq nx ou r a c
  | 0, _, _, _, _, _ => trivial
  | r + 1, _, _, _, h, g => fun i hi => ⟨(h i hi).1.trans (g i hi).1, pm_eq_trans r (h i hi).2 (g i hi).2⟩
theorem pm_eq_mono {nx : Nat → Nat} {ou : Nat → Int32} : ∀ (r : Nat) {a b : Nat}, pm_eq nx ou (r + 1) a b → pm_eq nx ou r a b
  | 0, _, _, _ => trivial
  | r + 1, _, _, h => fun i hi => ⟨(h i hi).1, pm_eq_mono r (h i hi).2⟩
theorem pm_eq_le {nx : Nat → Nat} {ou : Nat → Int32} {a b r : Nat} : ∀ (k : Nat), pm_eq nx ou (r + k) a b → pm_eq nx ou r a b
  | 0, h => h
  | k + 1, h => pm_eq_le k (pm_eq_mono (r + k) h)
def pm_sp (nx : Nat → Nat) (ou : Nat → Int32) (r : Nat) : Prop := ∀ s, pm_eq nx ou r (pm_g nx ou r s) s ∧ pm_g nx ou r s ≤ s ∧ ∀ j, j < pm_g nx ou r s → ¬ pm_eq nx ou r j s
theorem pm_iff_of {nx : Nat → Nat} {ou : Nat → Int32} {r : Nat} (h : pm_sp nx ou r) (a b : Nat) : pm_g nx ou r a = pm_g nx ou r b ↔ pm_eq nx ou r a b := by
  obtain ⟨a1, a2, a3⟩ := h a
  obtain ⟨b1, b2, b3⟩ := h b
  constructor
  · intro e
    rw [e] at a1
    exact pm_eq_trans r (pm_eq_symm r a1) b1
  · intro e
    rcases Nat.lt_trichotomy (pm_g nx ou r a) (pm_g nx ou r b) with q | q | q
    · exact absurd (pm_eq_trans r a1 e) (b3 _ q)
    · exact q
    · exact absurd (pm_eq_trans r b1 (pm_eq_symm r e)) (a3 _ q)
theorem pm_tg_iff {nx : Nat → Nat} {ou : Nat → Int32} {r : Nat} (h : pm_sp nx ou r) (a b : Nat) : pm_tg nx ou (pm_g nx ou r) a b = true ↔ pm_eq nx ou (r + 1) a b := by
  rw [pm_tg_true]
  constructor
  · rintro ⟨-, h2⟩ i hi
    exact ⟨(h2 i hi).1, (pm_iff_of h _ _).mp (h2 i hi).2⟩
  · intro e
    exact ⟨(pm_iff_of h _ _).mpr (pm_eq_mono r e), fun i hi => ⟨(e i hi).1, (pm_iff_of h _ _).mpr (e i hi).2⟩⟩
theorem pm_spec {nx : Nat → Nat} {ou : Nat → Int32} : ∀ r, pm_sp nx ou r
  | 0 => fun s => ⟨trivial, Nat.zero_le s, fun j hj => absurd hj (Nat.not_lt_zero j)⟩
  | r + 1 => by
    have h : pm_sp nx ou r := pm_spec r
    intro s
    have hle := fa_first_le (fun t => pm_tg nx ou (pm_g nx ou r) t s) s
    have hno := fa_first_no (fun t => pm_tg nx ou (pm_g nx ou r) t s) s
    have hyes := fa_first_yes (fun t => pm_tg nx ou (pm_g nx ou r) t s) s
    have e : pm_g nx ou (r + 1) s = fa_first (fun t => pm_tg nx ou (pm_g nx ou r) t s) s := rfl
    rw [e]
    generalize fa_first (fun t => pm_tg nx ou (pm_g nx ou r) t s) s = t at hle hno hyes ⊢
    refine ⟨?_, hle, fun j hj hc => ?_⟩
    · rcases Nat.lt_or_ge t s with q | q
      · exact (pm_tg_iff h _ _).mp (hyes q)
      · have e2 : t = s := by omega
        rw [e2]
        exact pm_eq_refl _ _
    · have h9 : pm_tg nx ou (pm_g nx ou r) j s = false := hno j hj
      rw [(pm_tg_iff h j s).mpr hc] at h9
      cases h9
theorem pm_iff {nx : Nat → Nat} {ou : Nat → Int32} (r a b : Nat) : pm_g nx ou r a = pm_g nx ou r b ↔ pm_eq nx ou r a b := pm_iff_of (pm_spec r) a b
theorem pm_g_le {nx : Nat → Nat} {ou : Nat → Int32} (r s : Nat) : pm_g nx ou r s ≤ s := (pm_spec r s).2.1
/-- a smallest state stays smallest -/
theorem pm_rep {nx : Nat → Nat} {ou : Nat → Int32} {r s : Nat} (h : pm_g nx ou r s = s) : pm_g nx ou (r + 1) s = s := by
  obtain ⟨h1, h2, h3⟩ := pm_spec (nx := nx) (ou := ou) (r + 1) s
  rcases Nat.lt_or_ge (pm_g nx ou (r + 1) s) s with q | q
  · exact absurd (pm_eq_mono r h1) ((pm_spec r s).2.2 _ (by rw [h]; exact q))
  · omega
theorem pm_ct_lt {p q : Nat → Bool} {n t : Nat} (hs : ∀ k, k < n → p k = true → q k = true) (ht : t < n) (h1 : p t = false) (h2 : q t = true) : fb_ct p n < fb_ct q n := by
  have a := fb_ct_upd p true ht
  have b := fb_ct_sub (p := fun k => if k = t then true else p k) (q := q) (n := n) (fun k hk hp => by
    by_cases e : k = t
    · rw [e]; exact h2
    · have hp : (if k = t then true else p k) = true := hp
      rw [if_neg e] at hp
      exact hs k hk hp)
  rw [h1] at a
  simp only [Bool.false_eq_true, if_false, if_true, Nat.add_zero] at a
  omega
/-- how many groups a round has -/
def pm_ct (nx : Nat → Nat) (ou : Nat → Int32) (r : Nat) : Nat := fb_ct (fun s => decide (pm_g nx ou r s = s)) 16
theorem pm_ct_up {nx : Nat → Nat} {ou : Nat → Int32} {r s : Nat} (hs : s < 16) (h : pm_g nx ou (r + 1) s ≠ pm_g nx ou r s) : pm_ct nx ou r < pm_ct nx ou (r + 1) := by
  obtain ⟨h1, h2, -⟩ := pm_spec (nx := nx) (ou := ou) (r + 1) s
  have e1 : pm_g nx ou (r + 1) (pm_g nx ou (r + 1) s) = pm_g nx ou (r + 1) s := (pm_iff _ _ _).mpr h1
  refine pm_ct_lt (t := pm_g nx ou (r + 1) s) (fun k _ hp => ?_) (by omega) ?_ ?_
  · exact decide_eq_true (pm_rep (of_decide_eq_true hp))
  · refine decide_eq_false (fun e => h ?_)
    have e3 := (pm_iff (nx := nx) (ou := ou) r _ _).mpr (pm_eq_mono r h1)
    rw [← e3]
    exact e.symm
  · exact decide_eq_true e1
theorem pm_grow {nx : Nat → Nat} {ou : Nat → Int32} : ∀ r, (∀ k, k < r → ∃ s, s < 16 ∧ pm_g nx ou (k + 1) s ≠ pm_g nx ou k s) → r + 1 ≤ pm_ct nx ou r
  | 0, _ => fb_ct_pos.mpr ⟨0, by decide, rfl⟩
  | r + 1, h => by
    have h1 := pm_grow r (fun k hk => h k (by omega))
    obtain ⟨s, hs, hne⟩ := h r (by omega)
    have := pm_ct_up hs hne
    omega
theorem pm_few {nx : Nat → Nat} {ou : Nat → Int32} {r : Nat} (h : ∀ k, k < r → ∃ s, s < 16 ∧ pm_g nx ou (k + 1) s ≠ pm_g nx ou k s) : r ≤ 15 := by
  have h1 := pm_grow r h
  have h2 : pm_ct nx ou r ≤ 16 := fb_ct_le _ 16
  omega
/-- nothing is split behind round r -/
def pm_st (nx : Nat → Nat) (ou : Nat → Int32) (r : Nat) : Prop := ∀ s, s < 16 → pm_g nx ou (r + 1) s = pm_g nx ou r s
theorem pm_st_up {nx : Nat → Nat} {ou : Nat → Int32} {r : Nat} (hn : ∀ i, nx i < 16) (h : pm_st nx ou r) : ∀ (k : Nat) {a b : Nat}, a < 16 → b < 16 → pm_eq nx ou (r + k) a b → pm_eq nx ou (r + k + 1) a b
  | 0, a, b, ha, hb, e => by
    refine (pm_iff (r + 1) a b).mp ?_
    rw [h a ha, h b hb]
    exact (pm_iff r a b).mpr e
  | k + 1, a, b, _, _, e => fun i hi => ⟨(e i hi).1, pm_st_up hn h k (hn _) (hn _) (e i hi).2⟩
theorem pm_st_all {nx : Nat → Nat} {ou : Nat → Int32} {r : Nat} (hn : ∀ i, nx i < 16) (h : pm_st nx ou r) {a b : Nat} (ha : a < 16) (hb : b < 16) (e : pm_eq nx ou r a b) : ∀ q, pm_eq nx ou q a b := by
  have up : ∀ k, pm_eq nx ou (r + k) a b := by
    intro k
    induction k with
    | zero => exact e
    | succ k ih => exact pm_st_up hn h k ha hb ih
  intro q
  refine pm_eq_le (r := q) r ?_
  rw [Nat.add_comm]
  exact up q
theorem pm_st_ex (nx : Nat → Nat) (ou : Nat → Int32) : ∃ r, r ≤ 15 ∧ pm_st nx ou r := by
  refine Classical.byContradiction fun hx => ?_
  have h : ∀ k, k < 16 → ∃ s, s < 16 ∧ pm_g nx ou (k + 1) s ≠ pm_g nx ou k s := by
    intro k hk
    refine Classical.byContradiction fun hy => hx ⟨k, by omega, fun s hs => ?_⟩
    exact Classical.byContradiction fun hz => hy ⟨s, hs, hz⟩
  have := pm_few h
  omega
/-- how many inputs the shortest telling word has; 0 if there is none -/
def pm_ds (nx : Nat → Nat) (ou : Nat → Int32) (a b : Nat) : Nat := if fa_first (fun k => decide (pm_g nx ou (k + 1) a ≠ pm_g nx ou (k + 1) b)) 16 < 16 then fa_first (fun k => decide (pm_g nx ou (k + 1) a ≠ pm_g nx ou (k + 1) b)) 16 + 1 else 0
theorem pm_ds_of0 {nx : Nat → Nat} {ou : Nat → Int32} {a b : Nat} (h : ∀ r, pm_eq nx ou r a b) : pm_ds nx ou a b = 0 := by
  have e : fa_first (fun k => decide (pm_g nx ou (k + 1) a ≠ pm_g nx ou (k + 1) b)) 16 = 16 := pm_first_eq (Nat.le_refl _) (fun j _ => decide_eq_false (fun hc => hc ((pm_iff _ _ _).mpr (h _)))) (fun q => absurd q (by omega))
  unfold pm_ds
  rw [e]
  rfl
theorem pm_ds_of {nx : Nat → Nat} {ou : Nat → Int32} (hn : ∀ i, nx i < 16) {a b L : Nat} (ha : a < 16) (hb : b < 16) (h : pm_eq nx ou L a b) (h2 : ¬ pm_eq nx ou (L + 1) a b) : pm_ds nx ou a b = L + 1 := by
  obtain ⟨r, hr, hst⟩ := pm_st_ex nx ou
  have hL : L < 16 := by
    refine Nat.lt_of_not_le fun q => h2 ?_
    refine pm_st_all hn hst ha hb ?_ _
    refine pm_eq_le (L - r) ?_
    rw [show r + (L - r) = L by omega]
    exact h
  have e : fa_first (fun k => decide (pm_g nx ou (k + 1) a ≠ pm_g nx ou (k + 1) b)) 16 = L := by
    refine pm_first_eq (by omega) (fun j hj => decide_eq_false (fun hc => hc ((pm_iff _ _ _).mpr ?_))) (fun _ => decide_eq_true (fun hc => h2 ((pm_iff _ _ _).mp hc)))
    refine pm_eq_le (L - (j + 1)) ?_
    rw [show j + 1 + (L - (j + 1)) = L by omega]
    exact h
  unfold pm_ds
  rw [e, if_pos hL]
theorem pm_ds_0 {nx : Nat → Nat} {ou : Nat → Int32} (hn : ∀ i, nx i < 16) {a b : Nat} (ha : a < 16) (hb : b < 16) (h : pm_ds nx ou a b = 0) : ∀ r, pm_eq nx ou r a b := by
  refine Classical.byContradiction fun hx => ?_
  have h1 : ∃ r, ¬ pm_eq nx ou r a b := Classical.byContradiction fun hy => hx (fun r => Classical.byContradiction fun hz => hy ⟨r, hz⟩)
  obtain ⟨r, hr, hmin⟩ := pk_least (fun r => ¬ pm_eq nx ou r a b) h1
  cases r with
  | zero => exact hr trivial
  | succ L =>
    have := pm_ds_of hn ha hb (Classical.byContradiction (hmin L (by omega))) hr
    omega
theorem pm_ds_s {nx : Nat → Nat} {ou : Nat → Int32} (hn : ∀ i, nx i < 16) {a b L : Nat} (ha : a < 16) (hb : b < 16) (h : pm_ds nx ou a b = L + 1) : pm_eq nx ou L a b ∧ ¬ pm_eq nx ou (L + 1) a b := by
  have h1 : ∃ r, ¬ pm_eq nx ou r a b := by
    refine Classical.byContradiction fun hy => ?_
    have := pm_ds_of0 (nx := nx) (ou := ou) (a := a) (b := b) (fun r => Classical.byContradiction fun hz => hy ⟨r, hz⟩)
    omega
  obtain ⟨r, hr, hmin⟩ := pk_least (fun r => ¬ pm_eq nx ou r a b) h1
  cases r with
  | zero => exact absurd trivial hr
  | succ M =>
    have h2 := pm_ds_of hn ha hb (Classical.byContradiction (hmin M (by omega))) hr
    have e : M = L := by omega
    subst e
    exact ⟨Classical.byContradiction (hmin M (by omega)), hr⟩
/-- what MachineTwins has behind prepare() -/
def pm_pr (nx : Nat → Nat) (ou : Nat → Int32) (ro : Nat) (gr : Nat → Nat) : Prop := (∀ r, r ≤ ro → ∀ s, s < 16 → gr (r * 16 + s) = pm_g nx ou r s) ∧ ro ≤ 15 ∧ pm_st nx ou ro ∧ ∀ k, k < ro → ∃ s, s < 16 ∧ pm_g nx ou (k + 1) s ≠ pm_g nx ou k s
/-- parting, as it is computed -/
def pm_pt (gr : Nat → Nat) (ro a b : Nat) : Nat := if fa_first (fun k => decide (gr ((k + 1) * 16 + a) ≠ gr ((k + 1) * 16 + b))) ro < ro then fa_first (fun k => decide (gr ((k + 1) * 16 + a) ≠ gr ((k + 1) * 16 + b))) ro + 1 else 0
theorem pm_pt_ds {nx : Nat → Nat} {ou : Nat → Int32} (hn : ∀ i, nx i < 16) {ro : Nat} {gr : Nat → Nat} (hp : pm_pr nx ou ro gr) {a b : Nat} (ha : a < 16) (hb : b < 16) : pm_pt gr ro a b = pm_ds nx ou a b := by
  obtain ⟨h1, h2, h3, -⟩ := hp
  unfold pm_pt
  have hle := fa_first_le (fun k => decide (gr ((k + 1) * 16 + a) ≠ gr ((k + 1) * 16 + b))) ro
  have hno := fa_first_no (fun k => decide (gr ((k + 1) * 16 + a) ≠ gr ((k + 1) * 16 + b))) ro
  have hyes := fa_first_yes (fun k => decide (gr ((k + 1) * 16 + a) ≠ gr ((k + 1) * 16 + b))) ro
  generalize fa_first (fun k => decide (gr ((k + 1) * 16 + a) ≠ gr ((k + 1) * 16 + b))) ro = t at hle hno hyes ⊢
  have heq : pm_eq nx ou t a b := by
    cases t with
    | zero => trivial
    | succ k =>
      have h5 := of_decide_eq_false (hno k (by omega))
      have h6 : gr ((k + 1) * 16 + a) = gr ((k + 1) * 16 + b) := Classical.byContradiction h5
      rw [h1 _ (by omega) a ha, h1 _ (by omega) b hb] at h6
      exact (pm_iff _ _ _).mp h6
  by_cases ht : t < ro
  · rw [if_pos ht]
    have h5 := of_decide_eq_true (hyes ht)
    rw [h1 _ (by omega) a ha, h1 _ (by omega) b hb] at h5
    exact (pm_ds_of hn ha hb heq (fun hc => h5 ((pm_iff _ _ _).mpr hc))).symm
  · rw [if_neg ht]
    have e : t = ro := by omega
    subst e
    exact (pm_ds_of0 (pm_st_all hn h3 ha hb heq)).symm
theorem pm_ds_le {nx : Nat → Nat} {ou : Nat → Int32} (hn : ∀ i, nx i < 16) {ro : Nat} {gr : Nat → Nat} (hp : pm_pr nx ou ro gr) {a b : Nat} (ha : a < 16) (hb : b < 16) : pm_ds nx ou a b ≤ ro := by
  rw [← pm_pt_ds hn hp ha hb]
  unfold pm_pt
  have hle := fa_first_le (fun k => decide (gr ((k + 1) * 16 + a) ≠ gr ((k + 1) * 16 + b))) ro
  split <;> omega
/-- the smallest state that nothing tells from s -/
def pm_kd (nx : Nat → Nat) (ou : Nat → Int32) (s : Nat) : Nat := fa_first (fun t => decide (pm_ds nx ou t s = 0)) s
theorem pm_kd_g {nx : Nat → Nat} {ou : Nat → Int32} (hn : ∀ i, nx i < 16) {ro : Nat} {gr : Nat → Nat} (hp : pm_pr nx ou ro gr) {s : Nat} (hs : s < 16) : gr (ro * 16 + s) = pm_kd nx ou s := by
  rw [hp.1 ro (Nat.le_refl _) s hs]
  obtain ⟨h1, h2, h3⟩ := pm_spec (nx := nx) (ou := ou) ro s
  refine (pm_first_eq h2 (fun j hj => decide_eq_false (fun hc => h3 j hj (pm_ds_0 hn (by omega) hs hc ro))) (fun q => decide_eq_true ?_)).symm
  exact pm_ds_of0 (pm_st_all hn hp.2.2.1 (by omega) hs h1)
theorem pm_kd_lt {nx : Nat → Nat} {ou : Nat → Int32} {s : Nat} : pm_kd nx ou s ≤ s := fa_first_le _ _
/-- the longest of the shortest telling words -/
def pm_mx (nx : Nat → Nat) (ou : Nat → Int32) : Nat → Nat
  | 0 => 0
  | n + 1 => if pm_mx nx ou n < (if n / 16 < n % 16 then pm_ds nx ou (n / 16) (n % 16) else 0) then (if n / 16 < n % 16 then pm_ds nx ou (n / 16) (n % 16) else 0) else pm_mx nx ou n
theorem pm_mx_le {nx : Nat → Nat} {ou : Nat → Int32} (hn : ∀ i, nx i < 16) {ro : Nat} {gr : Nat → Nat} (hp : pm_pr nx ou ro gr) : ∀ n, n ≤ 256 → pm_mx nx ou n ≤ ro
  | 0, _ => Nat.zero_le _
  | n + 1, h => by
    have h1 := pm_mx_le hn hp n (by omega)
    have h2 := pm_ds_le hn hp (a := n / 16) (b := n % 16) (by omega) (by omega)
    unfold pm_mx
    split
    · split <;> omega
    · exact h1
theorem pm_mx_ge {nx : Nat → Nat} {ou : Nat → Int32} {a b : Nat} (hab : a < b) (hb : b < 16) : ∀ n, a * 16 + b < n → pm_ds nx ou a b ≤ pm_mx nx ou n
  | 0, h => absurd h (Nat.not_lt_zero _)
  | n + 1, h => by
    unfold pm_mx
    by_cases e : n = a * 16 + b
    · have e1 : n / 16 = a := by omega
      have e2 : n % 16 = b := by omega
      rw [e1, e2, if_pos hab]
      split <;> omega
    · have h1 := pm_mx_ge (nx := nx) (ou := ou) hab hb n (by omega)
      generalize (if n / 16 < n % 16 then pm_ds nx ou (n / 16) (n % 16) else 0) = z
      split <;> omega
theorem pm_depth {nx : Nat → Nat} {ou : Nat → Int32} (hn : ∀ i, nx i < 16) {ro : Nat} {gr : Nat → Nat} (hp : pm_pr nx ou ro gr) : pm_mx nx ou 256 = ro := by
  have h1 := pm_mx_le hn hp 256 (Nat.le_refl _)
  refine Nat.le_antisymm h1 ?_
  cases ro with
  | zero => exact Nat.zero_le _
  | succ k =>
    obtain ⟨s, hs, hne⟩ := hp.2.2.2 k (by omega)
    obtain ⟨g1, g2, g3⟩ := pm_spec (nx := nx) (ou := ou) k s
    have g4 : pm_g nx ou k (pm_g nx ou k s) = pm_g nx ou k s := (pm_iff _ _ _).mpr g1
    have g5 := pm_rep g4
    have g6 : ¬ pm_eq nx ou (k + 1) (pm_g nx ou k s) s := by
      intro hc
      have := (pm_iff _ _ _).mpr hc
      rw [g5] at this
      exact hne this.symm
    have g7 : pm_g nx ou k s < s := by
      rcases Nat.lt_or_ge (pm_g nx ou k s) s with q | q
      · exact q
      · have e : pm_g nx ou k s = s := by omega
        rw [e] at g6
        exact absurd (pm_eq_refl _ _) g6
    have g8 := pm_ds_of hn (by omega) hs g1 g6
    have g9 := pm_mx_ge (nx := nx) (ou := ou) g7 hs 256 (by omega)
    omega
end
section
/-! ===== words: telling words, their order, the least one is the greedy one ===== -/
theorem pm_snoc : ∀ w : List Nat, w = [] ∨ ∃ u c, w = u ++ [c]
  | [] => Or.inl rfl
  | d :: w => by
    rcases pm_snoc w with e | ⟨u, c, e⟩
    · exact Or.inr ⟨[], d, by rw [e]; rfl⟩
    · exact Or.inr ⟨d :: u, c, by rw [e]; rfl⟩
theorem pm_rev_ind {P : List Nat → Prop} (h0 : P []) (hs : ∀ u c, P u → P (u ++ [c])) : ∀ w, P w := by
  have key : ∀ (n : Nat) (w : List Nat), w.length = n → P w := by
    intro n
    induction n with
    | zero =>
      intro w hw
      rw [List.length_eq_zero_iff.mp hw]
      exact h0
    | succ n ih =>
      intro w hw
      rcases pm_snoc w with e | ⟨u, c, e⟩
      · rw [e]; exact h0
      · subst e
        refine hs u c (ih u ?_)
        rw [List.length_append] at hw
        simp at hw
        exact hw
  exact fun w => key w.length w rfl
/-- w tells a from b -/
def pm_dis (nx : Nat → Nat) (ou : Nat → Int32) : List Nat → Nat → Nat → Prop
  | [], _, _ => False
  | c :: w, a, b => c < 3 ∧ ((w = [] ∧ ou (a * 3 + c) ≠ ou (b * 3 + c)) ∨ pm_dis nx ou w (nx (a * 3 + c)) (nx (b * 3 + c)))
theorem pm_eq_dis {nx : Nat → Nat} {ou : Nat → Int32} : ∀ (r a b : Nat), pm_eq nx ou r a b ↔ ∀ w : List Nat, w.length ≤ r → ¬ pm_dis nx ou w a b
  | 0, a, b => ⟨fun _ w hw hd => by
      rw [List.length_eq_zero_iff.mp (Nat.le_zero.mp hw)] at hd
      exact hd, fun _ => trivial⟩
  | r + 1, a, b => by
    constructor
    · intro e w hw hd
      cases w with
      | nil => exact hd
      | cons c w =>
        obtain ⟨hc, hd⟩ := hd
        rcases hd with ⟨-, h⟩ | h
        · exact h (e c hc).1
        · exact (pm_eq_dis r _ _).mp (e c hc).2 w (by simp at hw; exact hw) h
    · intro h i hi
      constructor
      · exact Classical.byContradiction fun hx => h [i] (by simp) ⟨hi, Or.inl ⟨rfl, hx⟩⟩
      · exact (pm_eq_dis r _ _).mpr fun w hw hd => h (i :: w) (by simp; exact hw) ⟨hi, Or.inr hd⟩
theorem pm_dis_lt {nx : Nat → Nat} {ou : Nat → Int32} : ∀ (w : List Nat) {a b : Nat}, pm_dis nx ou w a b → ∀ x ∈ w, x < 3
  | [], _, _, h, _, _ => h.elim
  | c :: w, a, b, h, x, hx => by
    obtain ⟨hc, h⟩ := h
    rcases List.mem_cons.mp hx with e | e
    · rw [e]; exact hc
    · rcases h with ⟨h, -⟩ | h
      · rw [h] at e; cases e
      · exact pm_dis_lt w h x e
/-- words in order: shorter ones first, then as they are spelled -/
def pm_enc (w : List Nat) : Nat := w.foldl (fun n c => n * 3 + c + 1) 0
theorem pm_enc_snoc (w : List Nat) (c : Nat) : pm_enc (w ++ [c]) = pm_enc w * 3 + c + 1 := by
  unfold pm_enc
  rw [List.foldl_append]
  rfl
theorem pm_enc_go : ∀ (w : List Nat) (n : Nat), w.foldl (fun n c => n * 3 + c + 1) n = n * 3 ^ w.length + pm_enc w
  | [], n => by simp [pm_enc]
  | c :: w, n => by
    have h1 := pm_enc_go w (n * 3 + c + 1)
    have h2 := pm_enc_go w (0 * 3 + c + 1)
    have h3 : pm_enc (c :: w) = w.foldl (fun n c => n * 3 + c + 1) (0 * 3 + c + 1) := rfl
    rw [h3, h2]
    show w.foldl (fun n c => n * 3 + c + 1) (n * 3 + c + 1) = _
    rw [h1, List.length_cons, Nat.pow_succ]
    generalize 3 ^ w.length = P
    have e1 : (n * 3 + c + 1) * P = n * (P * 3) + (c + 1) * P := by
      rw [Nat.add_assoc, Nat.add_mul, Nat.mul_assoc, Nat.mul_comm 3 P]
    have e2 : (0 * 3 + c + 1) * P = (c + 1) * P := by rw [Nat.zero_mul, Nat.zero_add]
    omega
theorem pm_enc_cons (c : Nat) (w : List Nat) : pm_enc (c :: w) = (c + 1) * 3 ^ w.length + pm_enc w := by
  have h := pm_enc_go w (0 * 3 + c + 1)
  have h2 : pm_enc (c :: w) = w.foldl (fun n c => n * 3 + c + 1) (0 * 3 + c + 1) := rfl
  rw [h2, h, Nat.zero_mul, Nat.zero_add]
theorem pm_enc_in : ∀ (w : List Nat), (∀ x ∈ w, x < 3) → 3 ^ w.length ≤ 2 * pm_enc w + 1 ∧ 2 * pm_enc w + 1 < 3 ^ (w.length + 1)
  | [], _ => by simp [pm_enc]
  | c :: w, h => by
    have h1 := pm_enc_in w (fun x hx => h x (List.mem_cons_of_mem _ hx))
    have hc := h c List.mem_cons_self
    rw [pm_enc_cons, List.length_cons, Nat.pow_succ 3 (w.length + 1), Nat.pow_succ 3 w.length]
    rw [Nat.pow_succ 3 w.length] at h1
    generalize 3 ^ w.length = P at h1 ⊢
    generalize pm_enc w = e at h1 ⊢
    rcases (show c = 0 ∨ c = 1 ∨ c = 2 by omega) with q | q | q <;> subst q <;> omega
theorem pm_enc_len {v w : List Nat} (hv : ∀ x ∈ v, x < 3) (hw : ∀ x ∈ w, x < 3) (h : v.length < w.length) : pm_enc v < pm_enc w := by
  have h1 := (pm_enc_in v hv).2
  have h2 := (pm_enc_in w hw).1
  have h3 : 3 ^ (v.length + 1) ≤ 3 ^ w.length := Nat.pow_le_pow_right (by decide) h
  omega
/-- the least telling word -/
def pm_sl (nx : Nat → Nat) (ou : Nat → Int32) (w : List Nat) (a b : Nat) : Prop := pm_dis nx ou w a b ∧ ∀ v, pm_dis nx ou v a b → pm_enc w ≤ pm_enc v
theorem pm_sl_len {nx : Nat → Nat} {ou : Nat → Int32} (hn : ∀ i, nx i < 16) {w : List Nat} {a b : Nat} (ha : a < 16) (hb : b < 16) (h : pm_sl nx ou w a b) : pm_ds nx ou a b = w.length := by
  obtain ⟨h1, h2⟩ := h
  have hl : w.length ≠ 0 := by
    intro e
    rw [List.length_eq_zero_iff.mp e] at h1
    exact h1
  obtain ⟨L, hL⟩ : ∃ L, w.length = L + 1 := ⟨w.length - 1, by omega⟩
  rw [hL]
  refine pm_ds_of hn ha hb ((pm_eq_dis L a b).mpr fun v hv hd => ?_) (fun hc => (pm_eq_dis _ a b).mp hc w (by omega) h1)
  have h3 := h2 v hd
  have h4 := pm_enc_len (pm_dis_lt v hd) (pm_dis_lt w h1) (by omega)
  omega
theorem pm_sl_tail {nx : Nat → Nat} {ou : Nat → Int32} {c : Nat} {w : List Nat} {a b : Nat} (h : pm_sl nx ou (c :: w) a b) (hw : w ≠ []) : pm_sl nx ou w (nx (a * 3 + c)) (nx (b * 3 + c)) := by
  obtain ⟨h1, h2⟩ := h
  have hl := pm_dis_lt _ h1
  obtain ⟨hc, h1⟩ := h1
  rcases h1 with ⟨e, -⟩ | h1
  · exact absurd e hw
  · refine ⟨h1, fun v hv => ?_⟩
    have h3 := h2 (c :: v) ⟨hc, Or.inr hv⟩
    have hlv := pm_dis_lt v hv
    have hlw := pm_dis_lt w h1
    rcases Nat.lt_trichotomy w.length v.length with q | q | q
    · exact Nat.le_of_lt (pm_enc_len hlw hlv q)
    · rw [pm_enc_cons, pm_enc_cons, q] at h3
      omega
    · have h4 : pm_enc (c :: v) < pm_enc (c :: w) := pm_enc_len (fun x hx => by
        rcases List.mem_cons.mp hx with e | e
        · rw [e]; exact hc
        · exact hlv x e) hl (by simp; exact q)
      omega
/-- the first input of a shortest telling word of length L -/
def pm_fp (nx : Nat → Nat) (ou : Nat → Int32) (a b L i : Nat) : Bool := decide ((L = 1 ∧ ou (a * 3 + i) ≠ ou (b * 3 + i)) ∨ (1 < L ∧ pm_ds nx ou (nx (a * 3 + i)) (nx (b * 3 + i)) = L - 1))
def pm_fi (nx : Nat → Nat) (ou : Nat → Int32) (a b L : Nat) : Nat := if fa_first (pm_fp nx ou a b L) 3 < 3 then fa_first (pm_fp nx ou a b L) 3 else 0
theorem pm_fi_lt (nx : Nat → Nat) (ou : Nat → Int32) (a b L : Nat) : pm_fi nx ou a b L < 3 := by
  unfold pm_fi
  split
  · assumption
  · decide
theorem pm_fi_of {nx : Nat → Nat} {ou : Nat → Int32} {a b L c : Nat} (hc : c < 3) (h1 : pm_fp nx ou a b L c = true) (h2 : ∀ i, i < c → pm_fp nx ou a b L i = false) : pm_fi nx ou a b L = c := by
  have e := pm_first_eq (p := pm_fp nx ou a b L) (n := 3) (t := c) (by omega) h2 (fun _ => h1)
  unfold pm_fi
  rw [e, if_pos hc]
/-- the greedy word -/
def pm_ws (nx : Nat → Nat) (ou : Nat → Int32) : Nat → Nat → Nat → List Nat
  | 0, _, _ => []
  | L + 1, a, b => pm_fi nx ou a b (L + 1) :: pm_ws nx ou L (nx (a * 3 + pm_fi nx ou a b (L + 1))) (nx (b * 3 + pm_fi nx ou a b (L + 1)))
theorem pm_ws_len {nx : Nat → Nat} {ou : Nat → Int32} : ∀ (L a b : Nat), (pm_ws nx ou L a b).length = L
  | 0, _, _ => rfl
  | L + 1, a, b => by
    unfold pm_ws
    rw [List.length_cons, pm_ws_len L]
theorem pm_sl_ws {nx : Nat → Nat} {ou : Nat → Int32} (hn : ∀ i, nx i < 16) : ∀ (w : List Nat) {a b : Nat}, a < 16 → b < 16 → pm_sl nx ou w a b → w = pm_ws nx ou w.length a b
  | [], _, _, _, _, h => h.1.elim
  | c :: w, a, b, ha, hb, h => by
    have hlt := pm_dis_lt _ h.1
    have hc : c < 3 := hlt c List.mem_cons_self
    have hfi : pm_fi nx ou a b (w.length + 1) = c := by
      by_cases hw : w = []
      · subst hw
        refine pm_fi_of hc ?_ (fun i hi => ?_)
        · obtain ⟨-, h1⟩ := h.1
          rcases h1 with ⟨-, h1⟩ | h1
          · exact decide_eq_true (Or.inl ⟨rfl, h1⟩)
          · exact h1.elim
        · refine decide_eq_false (fun hx => ?_)
          rcases hx with ⟨-, hx⟩ | ⟨hx, -⟩
          · have := h.2 [i] ⟨by omega, Or.inl ⟨rfl, hx⟩⟩
            rw [pm_enc_cons, pm_enc_cons] at this
            simp at this
            omega
          · simp at hx
      · have hl : w.length ≠ 0 := fun e => hw (List.length_eq_zero_iff.mp e)
        refine pm_fi_of hc ?_ (fun i hi => ?_)
        · refine decide_eq_true (Or.inr ⟨by omega, ?_⟩)
          rw [pm_sl_len hn (hn _) (hn _) (pm_sl_tail h hw)]
          omega
        · refine decide_eq_false (fun hx => ?_)
          rcases hx with ⟨hx, -⟩ | ⟨-, hx⟩
          · omega
          · obtain ⟨M, hM⟩ : ∃ M, w.length = M + 1 := ⟨w.length - 1, by omega⟩
            have h5 := pm_ds_s hn (hn _) (hn _) (show pm_ds nx ou (nx (a * 3 + i)) (nx (b * 3 + i)) = M + 1 by omega)
            refine h5.2 ((pm_eq_dis _ _ _).mpr fun v hv hd => ?_)
            have h6 : ¬ v.length ≤ M := fun q => (pm_eq_dis _ _ _).mp h5.1 v q hd
            have h7 := h.2 (i :: v) ⟨by omega, Or.inr hd⟩
            have h8 : v.length = w.length := by omega
            have h9 := (pm_enc_in v (pm_dis_lt v hd)).2
            have h10 := (pm_enc_in w (fun x hx => hlt x (List.mem_cons_of_mem _ hx))).1
            rw [pm_enc_cons, pm_enc_cons, h8] at h7
            rw [h8, Nat.pow_succ] at h9
            generalize 3 ^ w.length = P at h7 h9 h10
            have h11 : (i + 1) * P + P ≤ (c + 1) * P := by
              rw [← Nat.succ_mul]
              exact Nat.mul_le_mul_right P (by omega)
            omega
    have htl : w = pm_ws nx ou w.length (nx (a * 3 + c)) (nx (b * 3 + c)) := by
      by_cases hw : w = []
      · subst hw; rfl
      · exact pm_sl_ws hn w (hn _) (hn _) (pm_sl_tail h hw)
    show c :: w = pm_ws nx ou (w.length + 1) a b
    unfold pm_ws
    rw [hfi, ← htl]
/-- where a word leads -/
def pm_ga (nx : Nat → Nat) (s : Nat) (u : List Nat) : Nat := u.foldl (fun s c => nx (s * 3 + c)) s
theorem pm_ga_snoc (nx : Nat → Nat) (s : Nat) (u : List Nat) (c : Nat) : pm_ga nx s (u ++ [c]) = nx (pm_ga nx s u * 3 + c) := by
  unfold pm_ga
  rw [List.foldl_append]
  rfl
theorem pm_dis_snoc {nx : Nat → Nat} {ou : Nat → Int32} {c : Nat} : ∀ (u : List Nat) (a b : Nat), pm_dis nx ou (u ++ [c]) a b ↔ ((∀ x ∈ u, x < 3) ∧ c < 3 ∧ ou (pm_ga nx a u * 3 + c) ≠ ou (pm_ga nx b u * 3 + c))
  | [], a, b => by
    constructor
    · rintro ⟨hc, h⟩
      rcases h with ⟨-, h⟩ | h
      · exact ⟨fun x hx => absurd hx List.not_mem_nil, hc, h⟩
      · exact h.elim
    · rintro ⟨-, hc, h⟩
      exact ⟨hc, Or.inl ⟨rfl, h⟩⟩
  | d :: u, a, b => by
    have ih := pm_dis_snoc (nx := nx) (ou := ou) (c := c) u (nx (a * 3 + d)) (nx (b * 3 + d))
    constructor
    · rintro ⟨hd, h⟩
      rcases h with ⟨h, -⟩ | h
      · simp at h
      · obtain ⟨h1, h2, h3⟩ := ih.mp h
        refine ⟨fun x hx => ?_, h2, h3⟩
        rcases List.mem_cons.mp hx with e | e
        · rw [e]; exact hd
        · exact h1 x e
    · rintro ⟨h1, h2, h3⟩
      exact ⟨h1 d List.mem_cons_self, Or.inr (ih.mpr ⟨fun x hx => h1 x (List.mem_cons_of_mem _ hx), h2, h3⟩)⟩
end
section
/-! ===== the search breadth first, as plain arrays ===== -/
/-- a cell of a Nat array changed -/
def pm_up (f : Nat → Nat) (k x : Nat) : Nat → Nat := fun j => if j = k then x else f j
theorem pm_up_s {f : Nat → Nat} {k x : Nat} : pm_up f k x k = x := if_pos rfl
theorem pm_up_n {f : Nat → Nat} {k x j : Nat} (h : j ≠ k) : pm_up f k x j = f j := if_neg h
def pm_uw (f : Nat → List Nat) (k : Nat) (x : List Nat) : Nat → List Nat := fun j => if j = k then x else f j
theorem pm_uw_s {f : Nat → List Nat} {k : Nat} {x : List Nat} : pm_uw f k x k = x := if_pos rfl
theorem pm_uw_n {f : Nat → List Nat} {k j : Nat} {x : List Nat} (h : j ≠ k) : pm_uw f k x j = f j := if_neg h
/-- the pair (number a * 16 + b) behind an input -/
def pm_pp (nx : Nat → Nat) (p c : Nat) : Nat := nx (p / 16 * 3 + c) * 16 + nx (p % 16 * 3 + c)
theorem pm_pp_lt {nx : Nat → Nat} (hn : ∀ i, nx i < 16) (p c : Nat) : pm_pp nx p c < 256 := by
  have h1 := hn (p / 16 * 3 + c)
  have h2 := hn (p % 16 * 3 + c)
  unfold pm_pp
  omega
/-- what holds of the queue: n pairs, cur places (pair, input) are done -/
def pm_bf (nx : Nat → Nat) (ou : Nat → Int32) (a b : Nat) (pa : Nat → Nat) (fr : Nat → Int32) (bb kn : Nat → Nat) (n cur : Nat) (wd : Nat → List Nat) : Prop :=
  (0 < n ∧ pa 0 = a * 16 + b ∧ fr 0 < 0 ∧ wd 0 = []) ∧
  (∀ j, j < n → pa j < 256) ∧
  (∀ j, 0 < j → j < n → ∃ f, f < j ∧ fr j = nI f ∧ bb j < 3 ∧ f * 3 + bb j < cur ∧ wd j = wd f ++ [bb j] ∧ pa j = pm_pp nx (pa f) (bb j)) ∧
  (∀ i j, i < j → j < n → pm_enc (wd i) < pm_enc (wd j)) ∧
  (∀ p, p < 256 → (kn p ≠ 0 ↔ ∃ j, j < n ∧ pa j = p)) ∧
  fb_ct (fun p => decide (kn p ≠ 0)) 256 = n ∧
  (∀ j c, c < 3 → j * 3 + c < cur → j < n ∧ ou (pa j / 16 * 3 + c) = ou (pa j % 16 * 3 + c) ∧ ∃ q, q < n ∧ pa q = pm_pp nx (pa j) c ∧ pm_enc (wd q) ≤ pm_enc (wd j) * 3 + c + 1) ∧
  cur ≤ n * 3
theorem pm_bf_n {nx : Nat → Nat} {ou : Nat → Int32} {a b : Nat} {pa : Nat → Nat} {fr : Nat → Int32} {bb kn : Nat → Nat} {n cur : Nat} {wd : Nat → List Nat} (h : pm_bf nx ou a b pa fr bb kn n cur wd) : n ≤ 256 := by
  obtain ⟨-, -, -, -, -, h6, -, -⟩ := h
  rw [← h6]
  exact fb_ct_le _ _
theorem pm_bf_room {nx : Nat → Nat} {ou : Nat → Int32} {a b : Nat} {pa : Nat → Nat} {fr : Nat → Int32} {bb kn : Nat → Nat} {n cur : Nat} {wd : Nat → List Nat} (h : pm_bf nx ou a b pa fr bb kn n cur wd) {p : Nat} (hp : p < 256) (hk : kn p = 0) : n < 256 := by
  have h1 := pm_bf_n h
  obtain ⟨-, -, -, -, -, h6, -, -⟩ := h
  rcases Nat.lt_or_ge n 256 with q | q
  · exact q
  · have e : fb_ct (fun p => decide (kn p ≠ 0)) 256 = 256 := by omega
    have := of_decide_eq_true (fb_ct_all.mp e p hp)
    exact absurd hk this
theorem pm_bf_0 {nx : Nat → Nat} {ou : Nat → Int32} {a b : Nat} {pa : Nat → Nat} {fr : Nat → Int32} {bb kn : Nat → Nat} (ha : a < 16) (hb : b < 16) (hk : ∀ p, p < 256 → kn p = 0) {x : Int32} (hx : x < 0) (y : Nat) : pm_bf nx ou a b (pm_up pa 0 (a * 16 + b)) (upd fr 0 x) (pm_up bb 0 y) (pm_up kn (a * 16 + b) 1) 1 0 (fun _ => []) := by
  refine ⟨⟨by omega, pm_up_s, by rw [pk_us]; exact hx, rfl⟩, fun j hj => ?_, fun j h0 h1 => absurd h1 (by omega), fun i j h0 h1 => absurd h1 (by omega), fun p hp => ?_, ?_, fun j c _ h => absurd h (by omega), by omega⟩
  · rw [show j = 0 by omega, pm_up_s]
    omega
  · constructor
    · intro h
      by_cases e : p = a * 16 + b
      · exact ⟨0, by omega, by rw [pm_up_s, e]⟩
      · rw [pm_up_n e] at h
        exact absurd (hk p hp) h
    · rintro ⟨j, hj, e⟩
      rw [show j = 0 by omega, pm_up_s] at e
      rw [← e, pm_up_s]
      decide
  · have h1 := fb_ct_upd (fun p => decide (kn p ≠ 0)) true (i := a * 16 + b) (n := 256) (by omega)
    have h2 : fb_ct (fun p => decide (kn p ≠ 0)) 256 = 0 := fb_ct_zero.mpr (fun k hk' => decide_eq_false (fun hc => hc (hk k hk')))
    have h3 : fb_ct (fun p => decide (pm_up kn (a * 16 + b) 1 p ≠ 0)) 256 = fb_ct (fun k => if k = a * 16 + b then true else (fun p => decide (kn p ≠ 0)) k) 256 := fb_ct_cong (fun k _ => by
      by_cases e : k = a * 16 + b
      · rw [if_pos e, e, pm_up_s]; rfl
      · rw [if_neg e, pm_up_n e])
    rw [h2, hk _ (show a * 16 + b < 256 by omega)] at h1
    rw [h3]
    simp only [ne_eq, not_true_eq_false, decide_false, Bool.false_eq_true, if_false, if_true, Nat.add_zero, Nat.zero_add] at h1
    exact h1
/-- a pair that is known already -/
theorem pm_bf_old {nx : Nat → Nat} {ou : Nat → Int32} {a b : Nat} {pa : Nat → Nat} {fr : Nat → Int32} {bb kn : Nat → Nat} {n k i : Nat} {wd : Nat → List Nat} (hn : ∀ i, nx i < 16) (h : pm_bf nx ou a b pa fr bb kn n (k * 3 + i) wd) (hk : k < n) (hi : i < 3) (ho : ou (pa k / 16 * 3 + i) = ou (pa k % 16 * 3 + i)) (hkn : kn (pm_pp nx (pa k) i) ≠ 0) : pm_bf nx ou a b pa fr bb kn n (k * 3 + i + 1) wd := by
  obtain ⟨h1, h2, h3, h4, h5, h6, h7, h8⟩ := h
  refine ⟨h1, h2, fun j g0 g1 => ?_, h4, h5, h6, fun j c hc hj => ?_, by omega⟩
  · obtain ⟨f, f1, f2, f3, f4, f5⟩ := h3 j g0 g1
    exact ⟨f, f1, f2, f3, by omega, f5⟩
  · by_cases e : j * 3 + c < k * 3 + i
    · exact h7 j c hc e
    · have e1 : j = k := by omega
      have e2 : c = i := by omega
      subst e1; subst e2
      obtain ⟨q, q1, q2⟩ := (h5 _ (pm_pp_lt hn _ _)).mp hkn
      refine ⟨hk, ho, q, q1, q2, ?_⟩
      rcases Nat.eq_zero_or_pos q with z | z
      · rw [z, h1.2.2.2]
        simp [pm_enc]
      · obtain ⟨f, f1, f2, f3, f4, f5, -⟩ := h3 q z q1
        rw [f5, pm_enc_snoc]
        rcases Nat.lt_or_ge f j with w | w
        · have := h4 f j w hk
          omega
        · have e3 : f = j := by omega
          subst e3
          omega
/-- a pair that is new -/
theorem pm_bf_new {nx : Nat → Nat} {ou : Nat → Int32} {a b : Nat} {pa : Nat → Nat} {fr : Nat → Int32} {bb kn : Nat → Nat} {n k i : Nat} {wd : Nat → List Nat} (hn : ∀ i, nx i < 16) (h : pm_bf nx ou a b pa fr bb kn n (k * 3 + i) wd) (hk : k < n) (hi : i < 3) (ho : ou (pa k / 16 * 3 + i) = ou (pa k % 16 * 3 + i)) (hkn : kn (pm_pp nx (pa k) i) = 0) : pm_bf nx ou a b (pm_up pa n (pm_pp nx (pa k) i)) (upd fr n (nI k)) (pm_up bb n i) (pm_up kn (pm_pp nx (pa k) i) 1) (n + 1) (k * 3 + i + 1) (pm_uw wd n (wd k ++ [i])) := by
  obtain ⟨h1, h2, h3, h4, h5, h6, h7, h8⟩ := h
  have hp := pm_pp_lt hn (pa k) i
  have hwd : ∀ j, j < n → pm_uw wd n (wd k ++ [i]) j = wd j := fun j hj => pm_uw_n (by omega)
  have hpa : ∀ j, j < n → pm_up pa n (pm_pp nx (pa k) i) j = pa j := fun j hj => pm_up_n (by omega)
  refine ⟨⟨by omega, by rw [hpa 0 h1.1]; exact h1.2.1, by rw [pk_un (by omega)]; exact h1.2.2.1, by rw [hwd 0 h1.1]; exact h1.2.2.2⟩, fun j hj => ?_, fun j g0 g1 => ?_, fun x y hxy hy => ?_, fun p hp2 => ?_, ?_, fun j c hc hj => ?_, by omega⟩
  · by_cases e : j = n
    · rw [e, pm_up_s]; exact hp
    · rw [pm_up_n e]; exact h2 j (by omega)
  · by_cases e : j = n
    · refine ⟨k, by omega, by rw [e, pk_us], by rw [e, pm_up_s]; exact hi, by rw [e, pm_up_s]; omega, ?_, ?_⟩
      · rw [hwd k hk, e, pm_uw_s, pm_up_s]
      · rw [e, pm_up_s, hpa k hk, pm_up_s]
    · obtain ⟨f, f1, f2, f3, f4, f5, f6⟩ := h3 j g0 (by omega)
      refine ⟨f, f1, by rw [pk_un e]; exact f2, by rw [pm_up_n e]; exact f3, by rw [pm_up_n e]; omega, ?_, ?_⟩
      · rw [hwd j (by omega), hwd f (by omega), pm_up_n e]; exact f5
      · rw [hpa j (by omega), hpa f (by omega), pm_up_n e]; exact f6
  · by_cases e : y = n
    · rw [e, pm_uw_s, hwd x (by omega), pm_enc_snoc]
      rcases Nat.eq_zero_or_pos x with z | z
      · rw [z, h1.2.2.2]
        simp [pm_enc]
      · obtain ⟨f, f1, f2, f3, f4, f5, -⟩ := h3 x z (by omega)
        rw [f5, pm_enc_snoc]
        rcases Nat.lt_or_ge f k with w | w
        · have := h4 f k w hk
          omega
        · have e3 : f = k := by omega
          subst e3
          omega
    · rw [hwd x (by omega), hwd y (by omega)]
      exact h4 x y hxy (by omega)
  · constructor
    · intro hx
      by_cases e : p = pm_pp nx (pa k) i
      · exact ⟨n, by omega, by rw [pm_up_s, e]⟩
      · rw [pm_up_n e] at hx
        obtain ⟨j, j1, j2⟩ := (h5 p hp2).mp hx
        exact ⟨j, by omega, by rw [hpa j j1]; exact j2⟩
    · rintro ⟨j, j1, j2⟩
      by_cases e : p = pm_pp nx (pa k) i
      · rw [e, pm_up_s]; decide
      · rw [pm_up_n e]
        by_cases e2 : j = n
        · rw [e2, pm_up_s] at j2
          exact absurd j2.symm e
        · rw [pm_up_n e2] at j2
          exact (h5 p hp2).mpr ⟨j, by omega, j2⟩
  · have g1 := fb_ct_upd (fun p => decide (kn p ≠ 0)) true (i := pm_pp nx (pa k) i) (n := 256) hp
    have g3 : fb_ct (fun p => decide (pm_up kn (pm_pp nx (pa k) i) 1 p ≠ 0)) 256 = fb_ct (fun j => if j = pm_pp nx (pa k) i then true else (fun p => decide (kn p ≠ 0)) j) 256 := fb_ct_cong (fun j _ => by
      by_cases e : j = pm_pp nx (pa k) i
      · rw [if_pos e, e, pm_up_s]; rfl
      · rw [if_neg e, pm_up_n e])
    rw [h6, hkn] at g1
    rw [g3]
    simp only [ne_eq, not_true_eq_false, decide_false, Bool.false_eq_true, if_false, if_true, Nat.add_zero] at g1
    exact g1
  · by_cases e : j * 3 + c < k * 3 + i
    · obtain ⟨g1, g2, q, q1, q2, q3⟩ := h7 j c hc e
      refine ⟨by omega, by rw [hpa j g1]; exact g2, q, by omega, by rw [hpa q q1, hpa j g1]; exact q2, by rw [hwd q q1, hwd j g1]; exact q3⟩
    · have e1 : j = k := by omega
      have e2 : c = i := by omega
      subst e1; subst e2
      refine ⟨by omega, by rw [hpa j hk]; exact ho, n, by omega, by rw [pm_up_s, hpa j hk], ?_⟩
      rw [pm_uw_s, hwd j hk, pm_enc_snoc]
      exact Nat.le_refl _
/-- the word of a pair leads to it -/
theorem pm_bf_ga {nx : Nat → Nat} {ou : Nat → Int32} {a b : Nat} {pa : Nat → Nat} {fr : Nat → Int32} {bb kn : Nat → Nat} {n cur : Nat} {wd : Nat → List Nat} (hn : ∀ i, nx i < 16) (hb : b < 16) (h : pm_bf nx ou a b pa fr bb kn n cur wd) : ∀ (m j : Nat), j < m → j < n → (∀ x ∈ wd j, x < 3) ∧ pa j / 16 = pm_ga nx a (wd j) ∧ pa j % 16 = pm_ga nx b (wd j) ∧ (wd j).length ≤ j
  | 0, j, hj, _ => absurd hj (Nat.not_lt_zero j)
  | m + 1, j, hj, hjn => by
    obtain ⟨h1, h2, h3, -⟩ := id h
    rcases Nat.eq_zero_or_pos j with z | z
    · subst z
      rw [h1.2.1, h1.2.2.2]
      exact ⟨fun x hx => absurd hx List.not_mem_nil, by show _ = a; omega, by show _ = b; omega, Nat.le_refl _⟩
    · obtain ⟨f, f1, f2, f3, f4, f5, f6⟩ := h3 j z hjn
      obtain ⟨g1, g2, g3, g4⟩ := pm_bf_ga hn hb h m f (by omega) (by omega)
      have n1 := hn (pa f / 16 * 3 + bb j)
      have n2 := hn (pa f % 16 * 3 + bb j)
      refine ⟨fun x hx => ?_, ?_, ?_, ?_⟩
      · rw [f5] at hx
        rcases List.mem_append.mp hx with e | e
        · exact g1 x e
        · rw [List.mem_singleton.mp e]; exact f3
      · rw [f5, pm_ga_snoc, f6, ← g2]
        unfold pm_pp
        omega
      · rw [f5, pm_ga_snoc, f6, ← g3]
        unfold pm_pp
        omega
      · rw [f5, List.length_append]
        simp
        omega
theorem pm_bf_at {nx : Nat → Nat} {ou : Nat → Int32} {a b : Nat} {pa : Nat → Nat} {fr : Nat → Int32} {bb kn : Nat → Nat} {n cur : Nat} {wd : Nat → List Nat} (hn : ∀ i, nx i < 16) (hb : b < 16) (h : pm_bf nx ou a b pa fr bb kn n cur wd) {j : Nat} (hj : j < n) : (∀ x ∈ wd j, x < 3) ∧ pa j / 16 = pm_ga nx a (wd j) ∧ pa j % 16 = pm_ga nx b (wd j) ∧ (wd j).length ≤ j := pm_bf_ga hn hb h (j + 1) j (by omega) hj
/-- each word's pair is in the queue, with a word not behind it; or the word isn't ahead of the cursor's -/
theorem pm_bf_cl {nx : Nat → Nat} {ou : Nat → Int32} {a b : Nat} {pa : Nat → Nat} {fr : Nat → Int32} {bb kn : Nat → Nat} {n cur : Nat} {wd : Nat → List Nat} (hn : ∀ i, nx i < 16) (ha : a < 16) (hb : b < 16) (h : pm_bf nx ou a b pa fr bb kn n cur wd) (B : Nat) (hB : ∀ j c, j < n → c < 3 → cur ≤ j * 3 + c → B ≤ pm_enc (wd j) * 3 + c + 1) : ∀ u : List Nat, (∀ x ∈ u, x < 3) → (∃ j, j < n ∧ pa j / 16 = pm_ga nx a u ∧ pa j % 16 = pm_ga nx b u ∧ pm_enc (wd j) ≤ pm_enc u) ∨ B ≤ pm_enc u := by
  refine pm_rev_ind ?_ ?_
  · intro _
    obtain ⟨h1, -⟩ := h
    refine Or.inl ⟨0, h1.1, ?_, ?_, ?_⟩
    · rw [h1.2.1]; show _ = a; omega
    · rw [h1.2.1]; show _ = b; omega
    · rw [h1.2.2.2]; exact Nat.le_refl _
  · intro u c ih hx
    have hc : c < 3 := hx c (List.mem_append_right _ List.mem_cons_self)
    rw [pm_enc_snoc]
    rcases ih (fun x h => hx x (List.mem_append_left _ h)) with ⟨j, j1, j2, j3, j4⟩ | q
    · by_cases e : j * 3 + c < cur
      · obtain ⟨-, -, -, -, -, -, h7, -⟩ := h
        obtain ⟨-, -, q, q1, q2, q3⟩ := h7 j c hc e
        have n1 := hn (pa j / 16 * 3 + c)
        have n2 := hn (pa j % 16 * 3 + c)
        refine Or.inl ⟨q, q1, ?_, ?_, by omega⟩
        · rw [pm_ga_snoc, ← j2, q2]
          unfold pm_pp
          omega
        · rw [pm_ga_snoc, ← j3, q2]
          unfold pm_pp
          omega
      · have := hB j c j1 hc (by omega)
        exact Or.inr (by omega)
    · exact Or.inr (by omega)
/-- all is done and nothing was found: no word tells a from b -/
theorem pm_bf_none {nx : Nat → Nat} {ou : Nat → Int32} {a b : Nat} {pa : Nat → Nat} {fr : Nat → Int32} {bb kn : Nat → Nat} {n : Nat} {wd : Nat → List Nat} (hn : ∀ i, nx i < 16) (ha : a < 16) (hb : b < 16) (h : pm_bf nx ou a b pa fr bb kn n (n * 3) wd) : pm_ds nx ou a b = 0 := by
  refine pm_ds_of0 (fun r => (pm_eq_dis r a b).mpr fun w _ hd => ?_)
  rcases pm_snoc w with e | ⟨u, c, e⟩
  · rw [e] at hd; exact hd
  · subst e
    obtain ⟨d1, d2, d3⟩ := (pm_dis_snoc u a b).mp hd
    rcases pm_bf_cl hn ha hb h (pm_enc u + 1) (fun j c j1 j2 j3 => absurd j3 (by omega)) u d1 with ⟨j, j1, j2, j3, -⟩ | q
    · obtain ⟨-, -, -, -, -, -, h7, -⟩ := h
      obtain ⟨-, g, -⟩ := h7 j c d2 (by omega)
      rw [j2, j3] at g
      exact d3 g
    · omega
/-- the outputs differ at the cursor: its word is the least telling one -/
theorem pm_bf_hit {nx : Nat → Nat} {ou : Nat → Int32} {a b : Nat} {pa : Nat → Nat} {fr : Nat → Int32} {bb kn : Nat → Nat} {n k i : Nat} {wd : Nat → List Nat} (hn : ∀ i, nx i < 16) (ha : a < 16) (hb : b < 16) (h : pm_bf nx ou a b pa fr bb kn n (k * 3 + i) wd) (hk : k < n) (hi : i < 3) (ho : ou (pa k / 16 * 3 + i) ≠ ou (pa k % 16 * 3 + i)) : pm_sl nx ou (wd k ++ [i]) a b := by
  obtain ⟨g1, g2, g3, -⟩ := pm_bf_at hn hb h hk
  have hmono : ∀ j, j < n → k ≤ j → pm_enc (wd k) ≤ pm_enc (wd j) := by
    intro j hj hkj
    obtain ⟨-, -, -, h4, -⟩ := h
    rcases Nat.lt_or_ge k j with q | q
    · exact Nat.le_of_lt (h4 k j q hj)
    · rw [show k = j by omega]; exact Nat.le_refl _
  have hmono2 : ∀ j, j < n → k < j → pm_enc (wd k) < pm_enc (wd j) := by
    intro j hj hkj
    obtain ⟨-, -, -, h4, -⟩ := h
    exact h4 k j hkj hj
  have hBd : ∀ j c, j < n → c < 3 → k * 3 + i ≤ j * 3 + c → pm_enc (wd k) * 3 + i + 1 ≤ pm_enc (wd j) * 3 + c + 1 := by
    intro j c hj hc hle
    rcases Nat.lt_or_ge k j with q | q
    · have := hmono2 j hj q
      omega
    · have e : k = j := by omega
      subst e
      omega
  refine ⟨(pm_dis_snoc _ _ _).mpr ⟨g1, hi, by rw [← g2, ← g3]; exact ho⟩, fun v hv => ?_⟩
  rw [pm_enc_snoc]
  rcases pm_snoc v with e | ⟨u, c, e⟩
  · rw [e] at hv; exact hv.elim
  · subst e
    obtain ⟨d1, d2, d3⟩ := (pm_dis_snoc u a b).mp hv
    rw [pm_enc_snoc]
    rcases pm_bf_cl hn ha hb h (pm_enc (wd k) * 3 + i + 1) hBd u d1 with ⟨j, j1, j2, j3, j4⟩ | q
    · by_cases e : j * 3 + c < k * 3 + i
      · obtain ⟨-, -, -, -, -, -, h7, -⟩ := h
        obtain ⟨-, g, -⟩ := h7 j c d2 e
        rw [j2, j3] at g
        exact absurd g d3
      · have := hBd j c j1 d2 (by omega)
        omega
    · omega
/-- the chain from a pair back to the first one spells w, its last input first -/
def pm_ch (fr : Nat → Int32) (bb : Nat → Nat) : List Nat → Nat → Prop
  | [], k => fr k < 0
  | c :: w, k => bb k = c ∧ ∃ j, j < 256 ∧ fr k = nI j ∧ pm_ch fr bb w j
theorem pm_bf_ch {nx : Nat → Nat} {ou : Nat → Int32} {a b : Nat} {pa : Nat → Nat} {fr : Nat → Int32} {bb kn : Nat → Nat} {n cur : Nat} {wd : Nat → List Nat} (h : pm_bf nx ou a b pa fr bb kn n cur wd) : ∀ (m j : Nat), j < m → j < n → pm_ch fr bb (wd j).reverse j
  | 0, j, hj, _ => absurd hj (Nat.not_lt_zero j)
  | m + 1, j, hj, hjn => by
    have hn := pm_bf_n h
    obtain ⟨h1, h2, h3, -⟩ := id h
    rcases Nat.eq_zero_or_pos j with z | z
    · subst z
      rw [h1.2.2.2]
      exact h1.2.2.1
    · obtain ⟨f, f1, f2, f3, f4, f5, f6⟩ := h3 j z hjn
      rw [f5, List.reverse_append]
      exact ⟨rfl, f, by omega, f2, pm_bf_ch h m f (by omega) (by omega)⟩
end
section
/-! ===== sets of states as bits; what can be reached ===== -/
theorem pm_sm : ∀ n, n < 32 → ((nI n &&& 31).toBitVec.smod 32).toNat = n := by decide +kernel
theorem pm_bit1 {s : Nat} (hs : s < 31) : nI 1 <<< (nI s &&& 31) = nI (2 ^ s) := by
  have h : (2 : Nat) ^ s < 2 ^ 31 := Nat.pow_lt_pow_right (by decide) hs
  rw [pk_shlN (n := 1) (nI s &&& 31) s (pm_sm s (by omega)) (by rw [Nat.one_mul]; exact Nat.lt_trans h (by decide)), Nat.one_mul]
theorem pm_tb {m s : Nat} (hm : m < 65536) (hs : s < 32) : (nI m >>> (nI s &&& 31)) &&& nI 1 = nI (m.testBit s).toNat := by
  rw [pk_shrN (n := m) (Nat.lt_trans hm (by decide)) (nI s &&& 31) s (pm_sm s hs)]
  have h := fa_mask (m / 2 ^ s) 1
  rw [show (2 : Nat) ^ 1 - 1 = 1 from rfl, show (2 : Nat) ^ 1 = 2 from rfl] at h
  rw [h, Nat.toNat_testBit]
theorem pm_or_lt {m j : Nat} (hm : m < 65536) (hj : j < 16) : m ||| 2 ^ j < 65536 := Nat.or_lt_two_pow (n := 16) hm (Nat.pow_lt_pow_right (by decide) hj)
theorem pm_tb_hi {m t : Nat} (hm : m < 65536) (ht : 16 ≤ t) : m.testBit t = false := Nat.testBit_lt_two_pow (Nat.lt_of_lt_of_le hm (Nat.pow_le_pow_right (n := 2) (by decide) ht))
/-- t can be reached from s0 -/
def pm_rc (nx : Nat → Nat) (s0 t : Nat) : Prop := ∀ S : Nat → Prop, S s0 → (∀ s i, i < 3 → S s → S (nx (s * 3 + i))) → S t
theorem pm_rc_0 (nx : Nat → Nat) (s0 : Nat) : pm_rc nx s0 s0 := fun _ h _ => h
theorem pm_rc_s {nx : Nat → Nat} {s0 q : Nat} (h : pm_rc nx s0 (q / 3)) : pm_rc nx s0 (nx q) := fun S h0 hs => by
  have h1 := hs (q / 3) (q % 3) (Nat.mod_lt _ (by decide)) (h S h0 hs)
  rw [show q / 3 * 3 + q % 3 = q by omega] at h1
  exact h1
/-- m is the set of what can be reached from s0 -/
def pm_rm (nx : Nat → Nat) (s0 m : Nat) : Prop := m < 65536 ∧ m.testBit s0 = true ∧ (∀ t, m.testBit t = true → pm_rc nx s0 t) ∧ ∀ s i, i < 3 → m.testBit s = true → m.testBit (nx (s * 3 + i)) = true
theorem pm_rm_one {nx : Nat → Nat} {s0 m m' : Nat} (h : pm_rm nx s0 m) (h' : pm_rm nx s0 m') : m = m' := by
  apply Nat.eq_of_testBit_eq
  intro t
  refine Bool.eq_iff_iff.mpr ⟨fun e => ?_, fun e => ?_⟩
  · exact h.2.2.1 t e (fun t => m'.testBit t = true) h'.2.1 h'.2.2.2
  · exact h'.2.2.1 t e (fun t => m.testBit t = true) h.2.1 h.2.2.2
def pm_cm (m : Nat) : Nat := fb_ct (fun t => m.testBit t) 16
def pm_cl (nx : Nat → Nat) (p m : Nat) (n : Nat) : Prop := ∀ q, q < n → p.testBit (q / 3) = true → m.testBit (nx q) = true
theorem pm_cm_lt {m m' : Nat} (hm : m < 65536) (hm' : m' < 65536) (hs : ∀ t, m.testBit t = true → m'.testBit t = true) (hne : m' ≠ m) : pm_cm m < pm_cm m' := by
  have h : ∃ t, m'.testBit t = true ∧ m.testBit t = false := by
    refine Classical.byContradiction fun hx => hne (Nat.eq_of_testBit_eq fun t => ?_)
    cases e : m.testBit t with
    | true => exact hs t e
    | false =>
      cases e' : m'.testBit t with
      | false => rfl
      | true => exact absurd ⟨t, e', e⟩ hx
  obtain ⟨t, h1, h2⟩ := h
  have ht : t < 16 := by
    refine Nat.lt_of_not_le fun q => ?_
    rw [pm_tb_hi hm' q] at h1
    cases h1
  exact pm_ct_lt (fun k _ hk => hs k hk) ht h2 h1
/-- the scan of the 48 arrows out of the set p, i of them done -/
def pm_xi (nx : Nat → Nat) (s0 p m i : Nat) : Prop := m < 65536 ∧ (∀ t, p.testBit t = true → m.testBit t = true) ∧ (∀ t, m.testBit t = true → pm_rc nx s0 t) ∧ pm_cl nx p m i
theorem pm_xi_or {nx : Nat → Nat} {s0 p m i : Nat} (hn : ∀ i, nx i < 16) (h : pm_xi nx s0 p m i) (hr : pm_rc nx s0 (i / 3)) : pm_xi nx s0 p (m ||| 2 ^ nx i) (i + 1) := by
  obtain ⟨h1, h2, h3, h4⟩ := h
  have up : ∀ t, m.testBit t = true → (m ||| 2 ^ nx i).testBit t = true := fun t ht => by rw [fb_bit_set, ht]; rfl
  refine ⟨pm_or_lt h1 (hn i), fun t ht => up t (h2 t ht), fun t ht => ?_, fun q hq hp => ?_⟩
  · rw [fb_bit_set] at ht
    rcases (Bool.or_eq_true _ _).mp ht with e | e
    · exact h3 t e
    · rw [of_decide_eq_true e]
      exact pm_rc_s hr
  · by_cases e : q = i
    · rw [e, fb_bit_set]
      simp
    · exact up _ (h4 q (by omega) hp)
theorem pm_xi_no {nx : Nat → Nat} {s0 p m i : Nat} (h : pm_xi nx s0 p m i) (hp : p.testBit (i / 3) = false) : pm_xi nx s0 p m (i + 1) := by
  obtain ⟨h1, h2, h3, h4⟩ := h
  refine ⟨h1, h2, h3, fun q hq hpq => ?_⟩
  by_cases e : q = i
  · rw [e, hp] at hpq; cases hpq
  · exact h4 q (by omega) hpq
theorem pm_xi_0 {nx : Nat → Nat} {s0 p : Nat} (hp : p < 65536) (h : ∀ t, p.testBit t = true → pm_rc nx s0 t) : pm_xi nx s0 p p 0 := ⟨hp, fun _ h => h, h, fun q hq _ => absurd hq (Nat.not_lt_zero q)⟩
/-- MachineTwins.reach at its head: the set m, the one before p, k rounds -/
def pm_xo (nx : Nat → Nat) (s0 p m k : Nat) : Prop := m < 65536 ∧ m.testBit s0 = true ∧ (∀ t, m.testBit t = true → pm_rc nx s0 t) ∧ pm_cl nx p m 48 ∧ (m = p ∨ k + 1 ≤ pm_cm m)
theorem pm_one_bit (s t : Nat) : (2 ^ s).testBit t = decide (t = s) := by
  have h := fb_bit_set 0 s t
  rw [Nat.zero_or, Nat.zero_testBit, Bool.false_or] at h
  exact h
theorem pm_one_lt {s : Nat} (hs : s < 16) : 2 ^ s < 65536 := Nat.pow_lt_pow_right (a := 2) (n := 16) (by decide) hs
theorem pm_one_cm {s : Nat} (hs : s < 16) : 1 ≤ pm_cm (2 ^ s) := fb_ct_pos.mpr ⟨s, hs, by rw [pm_one_bit]; simp⟩
theorem pm_one_rc {nx : Nat → Nat} {s t : Nat} (h : (2 ^ s).testBit t = true) : pm_rc nx s t := by
  rw [pm_one_bit] at h
  rw [of_decide_eq_true h]
  exact pm_rc_0 nx s
theorem pm_xo_0 {nx : Nat → Nat} {s : Nat} (hs : s < 16) : pm_xo nx s 0 (2 ^ s) 0 := ⟨pm_one_lt hs, by rw [pm_one_bit]; simp, fun t ht => pm_one_rc ht, fun q _ h => (by rw [Nat.zero_testBit] at h; cases h), Or.inr (pm_one_cm hs)⟩
theorem pm_xo_s {nx : Nat → Nat} {s0 p m m' k : Nat} (h : pm_xo nx s0 p m k) (hne : m ≠ p) (hi : pm_xi nx s0 m m' 48) : pm_xo nx s0 m m' (k + 1) := by
  obtain ⟨h1, h2, h3, h4, h5⟩ := h
  obtain ⟨g1, g2, g3, g4⟩ := hi
  refine ⟨g1, g2 _ h2, g3, g4, ?_⟩
  by_cases e : m' = m
  · exact Or.inl e
  · refine Or.inr ?_
    have := pm_cm_lt h1 g1 g2 e
    rcases h5 with h5 | h5
    · exact absurd h5 hne
    · omega
theorem pm_cl_rm {nx : Nat → Nat} {s0 m : Nat} (h1 : m < 65536) (h2 : m.testBit s0 = true) (h3 : ∀ t, m.testBit t = true → pm_rc nx s0 t) (h4 : pm_cl nx m m 48) : pm_rm nx s0 m := by
  refine ⟨h1, h2, h3, fun s i hi hs => ?_⟩
  have h16 : s < 16 := by
    refine Nat.lt_of_not_le fun q => ?_
    rw [pm_tb_hi h1 q] at hs
    cases hs
  refine h4 (s * 3 + i) (by omega) ?_
  rw [show (s * 3 + i) / 3 = s by omega]
  exact hs
theorem pm_xo_x {nx : Nat → Nat} {s0 p m k : Nat} (h : pm_xo nx s0 p m k) (hx : m = p ∨ 16 ≤ k) : pm_rm nx s0 m := by
  obtain ⟨h1, h2, h3, h4, h5⟩ := h
  have e : m = p := by
    rcases hx with e | e
    · exact e
    · rcases h5 with h5 | h5
      · exact h5
      · have h6 : pm_cm m ≤ 16 := fb_ct_le _ 16
        omega
  subst e
  exact pm_cl_rm h1 h2 h3 h4
/-- the model's scan, in place -/
def pm_mi (nx : Nat → Nat) (s0 p m i : Nat) : Prop := pm_xi nx s0 p m i ∧ (pm_cl nx p p 48 → m = p)
theorem pm_mi_or {nx : Nat → Nat} {s0 p m i : Nat} (hn : ∀ i, nx i < 16) (hi : i < 48) (h : pm_mi nx s0 p m i) (hb : m.testBit (i / 3) = true) : pm_mi nx s0 p (m ||| 2 ^ nx i) (i + 1) := by
  refine ⟨pm_xi_or hn h.1 (h.1.2.2.1 _ hb), fun hc => ?_⟩
  have e := h.2 hc
  rw [e] at hb
  have h2 := hc i hi hb
  rw [e]
  apply Nat.eq_of_testBit_eq
  intro t
  rw [fb_bit_set]
  by_cases et : t = nx i
  · rw [et, h2]; rfl
  · simp [et]
theorem pm_mi_no {nx : Nat → Nat} {s0 p m i : Nat} (h : pm_mi nx s0 p m i) (hb : m.testBit (i / 3) = false) : pm_mi nx s0 p m (i + 1) := by
  refine ⟨pm_xi_no h.1 ?_, h.2⟩
  cases e : p.testBit (i / 3) with
  | false => rfl
  | true =>
    have := h.1.2.1 _ e
    rw [hb] at this
    cases this
def pm_mo (nx : Nat → Nat) (s0 m k : Nat) : Prop := m < 65536 ∧ m.testBit s0 = true ∧ (∀ t, m.testBit t = true → pm_rc nx s0 t) ∧ (pm_cl nx m m 48 ∨ k + 1 ≤ pm_cm m)
theorem pm_mo_0 {nx : Nat → Nat} {s : Nat} (hs : s < 16) : pm_mo nx s (2 ^ s) 0 := ⟨pm_one_lt hs, by rw [pm_one_bit]; simp, fun t ht => pm_one_rc ht, Or.inr (pm_one_cm hs)⟩
theorem pm_mo_i {nx : Nat → Nat} {s0 m k : Nat} (h : pm_mo nx s0 m k) : pm_mi nx s0 m m 0 := ⟨pm_xi_0 h.1 h.2.2.1, fun _ => rfl⟩
theorem pm_mo_s {nx : Nat → Nat} {s0 m m' k : Nat} (h : pm_mo nx s0 m k) (hi : pm_mi nx s0 m m' 48) : pm_mo nx s0 m' (k + 1) := by
  obtain ⟨h1, h2, h3, h4⟩ := h
  obtain ⟨⟨g1, g2, g3, g4⟩, g5⟩ := hi
  refine ⟨g1, g2 _ h2, g3, ?_⟩
  by_cases hc : pm_cl nx m m 48
  · have e := g5 hc
    rw [e]
    exact Or.inl hc
  · rcases h4 with h4 | h4
    · exact absurd h4 hc
    · refine Or.inr ?_
      have hne : m' ≠ m := by
        intro e
        rw [e] at g4
        exact hc g4
      have := pm_cm_lt h1 g1 g2 hne
      omega
theorem pm_mo_x {nx : Nat → Nat} {s0 m : Nat} (h : pm_mo nx s0 m 16) : pm_rm nx s0 m := by
  obtain ⟨h1, h2, h3, h4⟩ := h
  rcases h4 with h4 | h4
  · exact pm_cl_rm h1 h2 h3 h4
  · have h6 : pm_cm m ≤ 16 := fb_ct_le _ 16
    omega
/-- the kinds of the states in the set m, n states looked at -/
def pm_gm (kd : Nat → Nat) (m : Nat) : Nat → Nat
  | 0 => 0
  | n + 1 => if m.testBit n then pm_gm kd m n ||| 2 ^ kd n else pm_gm kd m n
theorem pm_gm_lt {kd : Nat → Nat} (hk : ∀ s, s < 16 → kd s < 16) (m : Nat) : ∀ n, n ≤ 16 → pm_gm kd m n < 65536
  | 0, _ => by show 0 < 65536; decide
  | n + 1, h => by
    have h1 := pm_gm_lt hk m n (by omega)
    unfold pm_gm
    split
    · exact pm_or_lt h1 (hk n (by omega))
    · exact h1
theorem pm_gm_y {kd : Nat → Nat} {m n : Nat} (h : m.testBit n = true) : pm_gm kd m (n + 1) = pm_gm kd m n ||| 2 ^ kd n := if_pos h
theorem pm_gm_n {kd : Nat → Nat} {m n : Nat} (h : m.testBit n = false) : pm_gm kd m (n + 1) = pm_gm kd m n := if_neg (by rw [h]; decide)
theorem pm_gm_cong {kd kd' : Nat → Nat} {m : Nat} : ∀ n, (∀ s, s < n → kd s = kd' s) → pm_gm kd m n = pm_gm kd' m n
  | 0, _ => rfl
  | n + 1, h => by
    unfold pm_gm
    rw [pm_gm_cong n (fun s hs => h s (by omega)), h n (by omega)]
/-- how many bits of g, of the first n -/
def pm_pc (g n : Nat) : Nat := fb_ct (fun t => g.testBit t) n
theorem pm_pc_s (g n : Nat) : pm_pc g (n + 1) = pm_pc g n + (g.testBit n).toNat := by
  unfold pm_pc
  rw [fb_ct_succ]
  cases g.testBit n <;> rfl
/-- run -/
def pm_in (w : Int32) (k : Nat) : Nat := if (w >>> (nI (2 * k) &&& 31)).toBitVec.toNat % 4 = 3 then 0 else (w >>> (nI (2 * k) &&& 31)).toBitVec.toNat % 4
def pm_rn (nx : Nat → Nat) (w : Int32) (s : Nat) : Nat → Nat
  | 0 => s
  | k + 1 => nx (pm_rn nx w s k * 3 + pm_in w k)
theorem pm_in_lt (w : Int32) (k : Nat) : pm_in w k < 3 := by
  unfold pm_in
  split <;> omega
theorem pm_rn_lt {nx : Nat → Nat} (hn : ∀ i, nx i < 16) {w : Int32} {s : Nat} (hs : s < 16) : ∀ k, pm_rn nx w s k < 16
  | 0 => hs
  | k + 1 => hn _
end
section
/-! ===== rows of this claim: numbers that aren't negative on the stack, arrays of them, worlds, contracts, calls ===== -/
def nA (g : Nat → Nat) : Nat → Int32 := fun i => nI (g i)
theorem nA_up (g : Nat → Nat) (k x : Nat) : upd (nA g) k (nI x) = nA (pm_up g k x) := by
  funext j
  by_cases h : j = k
  · subst h
    rw [pk_us]
    unfold nA
    rw [pm_up_s]
  · rw [pk_un h]
    unfold nA
    rw [pm_up_n h]
abbrev bI (b : Bool) : Int32 := nI b.toNat
theorem bI_0 {b : Bool} : bI b = 0 ↔ b = false := by cases b <;> decide
theorem bI_nar (b : Bool) : narrow .boolean (.int (bI b)) = .int (bI b) := by cases b <;> rfl
theorem nI_z {n : Nat} (h : n < 2 ^ 31) : nI n = 0 ↔ n = 0 := by
  rw [← nI_0, nI_eq h (by decide)]
theorem nI_inc1 (n : Nat) : nI n + Int32.ofInt 1 = nI (n + 1) := nI_1 n
section NR
variable {p : Program} {l : Launch} {e : Env} {R : Room} {s : State} {m : MethodId} {args : Array Value} {below : List Frame} {meth : Method} {c : Code} {H : Heap} {locs : List Loc} {cells slots : Nat} {Q : State → Prop}
variable {cc : ByteArray} {pc : Nat} {ls : Array Slot} {rest : List Value}
theorem n_iadd (hexec : p.tables.exec = Jvm.exec) (hb : c.code = cc) {x y : Nat} (hdg : decode cc pc = .ok (.iadd, 1)) (k : W p l e R s m args below meth c H locs cells slots Q (F0 m (pc + 1) ls (.int (nI (x + y)) :: rest))) : W p l e R s m args below meth c H locs cells slots Q (F0 m pc ls (.int (nI y) :: .int (nI x) :: rest)) :=
  lv_iadd hexec hb hdg (by rw [nI_add]; exact k)
theorem n_imul (hexec : p.tables.exec = Jvm.exec) (hb : c.code = cc) {x y : Nat} (hdg : decode cc pc = .ok (.imul, 1)) (k : W p l e R s m args below meth c H locs cells slots Q (F0 m (pc + 1) ls (.int (nI (x * y)) :: rest))) : W p l e R s m args below meth c H locs cells slots Q (F0 m pc ls (.int (nI y) :: .int (nI x) :: rest)) :=
  lv_imul hexec hb hdg (by rw [pk_mul]; exact k)
theorem n_isub (hexec : p.tables.exec = Jvm.exec) (hb : c.code = cc) {x y : Nat} (h : y ≤ x) (hdg : decode cc pc = .ok (.isub, 1)) (k : W p l e R s m args below meth c H locs cells slots Q (F0 m (pc + 1) ls (.int (nI (x - y)) :: rest))) : W p l e R s m args below meth c H locs cells slots Q (F0 m pc ls (.int (nI y) :: .int (nI x) :: rest)) :=
  lv_isub hexec hb hdg (by rw [pk_sub h]; exact k)
theorem n_idiv (hexec : p.tables.exec = Jvm.exec) (hb : c.code = cc) {x y : Nat} (hx : x < 2 ^ 31) (h0 : 0 < y) (hy : y < 2 ^ 31) (hdg : decode cc pc = .ok (.idiv, 1)) (k : W p l e R s m args below meth c H locs cells slots Q (F0 m (pc + 1) ls (.int (nI (x / y)) :: rest))) : W p l e R s m args below meth c H locs cells slots Q (F0 m pc ls (.int (nI y) :: .int (nI x) :: rest)) :=
  lv_idiv hexec hb hdg (nI_ne0 h0 hy) (by rw [pk_div hx h0 hy]; exact k)
theorem n_irem (hexec : p.tables.exec = Jvm.exec) (hb : c.code = cc) {x y : Nat} (hx : x < 2 ^ 31) (h0 : 0 < y) (hy : y < 2 ^ 31) (hdg : decode cc pc = .ok (.irem, 1)) (k : W p l e R s m args below meth c H locs cells slots Q (F0 m (pc + 1) ls (.int (nI (x % y)) :: rest))) : W p l e R s m args below meth c H locs cells slots Q (F0 m pc ls (.int (nI y) :: .int (nI x) :: rest)) :=
  lv_irem hexec hb hdg (nI_ne0 h0 hy) (by rw [pk_rem hx h0 hy]; exact k)
theorem n_ior (hexec : p.tables.exec = Jvm.exec) (hb : c.code = cc) {x y : Nat} (hdg : decode cc pc = .ok (.ior, 1)) (k : W p l e R s m args below meth c H locs cells slots Q (F0 m (pc + 1) ls (.int (nI (x ||| y)) :: rest))) : W p l e R s m args below meth c H locs cells slots Q (F0 m pc ls (.int (nI y) :: .int (nI x) :: rest)) :=
  lv_ior hexec hb hdg (by rw [fa_or]; exact k)
/-- 1 << s -/
theorem n_ishl1 (hexec : p.tables.exec = Jvm.exec) (hb : c.code = cc) {y : Nat} (h : y < 31) (hdg : decode cc pc = .ok (.ishl, 1)) (k : W p l e R s m args below meth c H locs cells slots Q (F0 m (pc + 1) ls (.int (nI (2 ^ y)) :: rest))) : W p l e R s m args below meth c H locs cells slots Q (F0 m pc ls (.int (nI y) :: .int (nI 1) :: rest)) :=
  lv_ishl hexec hb hdg (by rw [pm_bit1 h]; exact k)
/-- the number on top is another one by a proof -/
theorem n_top (x y : Int32) (h : x = y) (k : W p l e R s m args below meth c H locs cells slots Q (F0 m pc ls (.int y :: rest))) : W p l e R s m args below meth c H locs cells slots Q (F0 m pc ls (.int x :: rest)) := by
  rw [h]
  exact k
theorem n_icmp_ge (hexec : p.tables.exec = Jvm.exec) (hb : c.code = cc) {x y : Nat} {off : Int} {tgt : Nat} (hdg : decode cc pc = .ok (.if_icmp .ge off, 3)) (ht : (pc : Int) + off = (tgt : Int)) (hx : x < 2 ^ 31) (hy : y < 2 ^ 31) (kt : y ≤ x → W p l e R s m args below meth c H locs cells slots Q (F0 m tgt ls rest)) (kf : x < y → W p l e R s m args below meth c H locs cells slots Q (F0 m (pc + 3) ls rest)) : W p l e R s m args below meth c H locs cells slots Q (F0 m pc ls (.int (nI y) :: .int (nI x) :: rest)) :=
  lv_icmp_ge hexec hb hdg ht (fun h => kt ((nI_leI hy hx).mp h)) (fun h => kf (Nat.lt_of_not_le fun q => h ((nI_leI hy hx).mpr q)))
theorem n_icmp_lt (hexec : p.tables.exec = Jvm.exec) (hb : c.code = cc) {x y : Nat} {off : Int} {tgt : Nat} (hdg : decode cc pc = .ok (.if_icmp .lt off, 3)) (ht : (pc : Int) + off = (tgt : Int)) (hx : x < 2 ^ 31) (hy : y < 2 ^ 31) (kt : x < y → W p l e R s m args below meth c H locs cells slots Q (F0 m tgt ls rest)) (kf : y ≤ x → W p l e R s m args below meth c H locs cells slots Q (F0 m (pc + 3) ls rest)) : W p l e R s m args below meth c H locs cells slots Q (F0 m pc ls (.int (nI y) :: .int (nI x) :: rest)) :=
  lv_icmp_lt hexec hb hdg ht (fun h => kt ((nI_ltI hx hy).mp h)) (fun h => kf (Nat.le_of_not_lt fun q => h ((nI_ltI hx hy).mpr q)))
theorem n_icmp_gt (hexec : p.tables.exec = Jvm.exec) (hb : c.code = cc) {x y : Nat} {off : Int} {tgt : Nat} (hdg : decode cc pc = .ok (.if_icmp .gt off, 3)) (ht : (pc : Int) + off = (tgt : Int)) (hx : x < 2 ^ 31) (hy : y < 2 ^ 31) (kt : y < x → W p l e R s m args below meth c H locs cells slots Q (F0 m tgt ls rest)) (kf : x ≤ y → W p l e R s m args below meth c H locs cells slots Q (F0 m (pc + 3) ls rest)) : W p l e R s m args below meth c H locs cells slots Q (F0 m pc ls (.int (nI y) :: .int (nI x) :: rest)) :=
  lv_icmp_gt hexec hb hdg ht (fun h => kt ((nI_ltI hy hx).mp h)) (fun h => kf (Nat.le_of_not_lt fun q => h ((nI_ltI hy hx).mpr q)))
theorem n_icmp_le (hexec : p.tables.exec = Jvm.exec) (hb : c.code = cc) {x y : Nat} {off : Int} {tgt : Nat} (hdg : decode cc pc = .ok (.if_icmp .le off, 3)) (ht : (pc : Int) + off = (tgt : Int)) (hx : x < 2 ^ 31) (hy : y < 2 ^ 31) (kt : x ≤ y → W p l e R s m args below meth c H locs cells slots Q (F0 m tgt ls rest)) (kf : y < x → W p l e R s m args below meth c H locs cells slots Q (F0 m (pc + 3) ls rest)) : W p l e R s m args below meth c H locs cells slots Q (F0 m pc ls (.int (nI y) :: .int (nI x) :: rest)) :=
  lv_icmp_le hexec hb hdg ht (fun h => kt ((nI_leI hx hy).mp h)) (fun h => kf (Nat.lt_of_not_le fun q => h ((nI_leI hx hy).mpr q)))
theorem n_icmp_eq (hexec : p.tables.exec = Jvm.exec) (hb : c.code = cc) {x y : Nat} {off : Int} {tgt : Nat} (hdg : decode cc pc = .ok (.if_icmp .eq off, 3)) (ht : (pc : Int) + off = (tgt : Int)) (hx : x < 2 ^ 31) (hy : y < 2 ^ 31) (kt : x = y → W p l e R s m args below meth c H locs cells slots Q (F0 m tgt ls rest)) (kf : x ≠ y → W p l e R s m args below meth c H locs cells slots Q (F0 m (pc + 3) ls rest)) : W p l e R s m args below meth c H locs cells slots Q (F0 m pc ls (.int (nI y) :: .int (nI x) :: rest)) :=
  lv_icmp_eq hexec hb hdg ht (fun h => kt ((nI_eq hx hy).mp h)) (fun h => kf (fun q => h ((nI_eq hx hy).mpr q)))
theorem n_icmp_ne (hexec : p.tables.exec = Jvm.exec) (hb : c.code = cc) {x y : Nat} {off : Int} {tgt : Nat} (hdg : decode cc pc = .ok (.if_icmp .ne off, 3)) (ht : (pc : Int) + off = (tgt : Int)) (hx : x < 2 ^ 31) (hy : y < 2 ^ 31) (kt : x ≠ y → W p l e R s m args below meth c H locs cells slots Q (F0 m tgt ls rest)) (kf : x = y → W p l e R s m args below meth c H locs cells slots Q (F0 m (pc + 3) ls rest)) : W p l e R s m args below meth c H locs cells slots Q (F0 m pc ls (.int (nI y) :: .int (nI x) :: rest)) :=
  lv_icmp_ne hexec hb hdg ht (fun h => kt (fun q => h ((nI_eq hx hy).mpr q))) (fun h => kf ((nI_eq hx hy).mp h))
theorem n_if_eq (hexec : p.tables.exec = Jvm.exec) (hb : c.code = cc) {x : Nat} {off : Int} {tgt : Nat} (hdg : decode cc pc = .ok (.ifCond .eq off, 3)) (ht : (pc : Int) + off = (tgt : Int)) (hx : x < 2 ^ 31) (kt : x = 0 → W p l e R s m args below meth c H locs cells slots Q (F0 m tgt ls rest)) (kf : x ≠ 0 → W p l e R s m args below meth c H locs cells slots Q (F0 m (pc + 3) ls rest)) : W p l e R s m args below meth c H locs cells slots Q (F0 m pc ls (.int (nI x) :: rest)) :=
  lv_if_eq hexec hb hdg ht (fun h => kt ((nI_z hx).mp h)) (fun h => kf (fun q => h ((nI_z hx).mpr q)))
theorem n_if_ne (hexec : p.tables.exec = Jvm.exec) (hb : c.code = cc) {x : Nat} {off : Int} {tgt : Nat} (hdg : decode cc pc = .ok (.ifCond .ne off, 3)) (ht : (pc : Int) + off = (tgt : Int)) (hx : x < 2 ^ 31) (kt : x ≠ 0 → W p l e R s m args below meth c H locs cells slots Q (F0 m tgt ls rest)) (kf : x = 0 → W p l e R s m args below meth c H locs cells slots Q (F0 m (pc + 3) ls rest)) : W p l e R s m args below meth c H locs cells slots Q (F0 m pc ls (.int (nI x) :: rest)) :=
  lv_if_ne hexec hb hdg ht (fun h => kt (fun q => h ((nI_z hx).mpr q))) (fun h => kf ((nI_z hx).mp h))
/-- a branch on a boolean answer -/
theorem b_if_eq (hexec : p.tables.exec = Jvm.exec) (hb : c.code = cc) {x : Bool} {off : Int} {tgt : Nat} (hdg : decode cc pc = .ok (.ifCond .eq off, 3)) (ht : (pc : Int) + off = (tgt : Int)) (kt : x = false → W p l e R s m args below meth c H locs cells slots Q (F0 m tgt ls rest)) (kf : x = true → W p l e R s m args below meth c H locs cells slots Q (F0 m (pc + 3) ls rest)) : W p l e R s m args below meth c H locs cells slots Q (F0 m pc ls (.int (bI x) :: rest)) :=
  lv_if_eq hexec hb hdg ht (fun h => kt (bI_0.mp h)) (fun h => kf (by cases x; exact absurd rfl h; rfl))
theorem b_if_ne (hexec : p.tables.exec = Jvm.exec) (hb : c.code = cc) {x : Bool} {off : Int} {tgt : Nat} (hdg : decode cc pc = .ok (.ifCond .ne off, 3)) (ht : (pc : Int) + off = (tgt : Int)) (kt : x = true → W p l e R s m args below meth c H locs cells slots Q (F0 m tgt ls rest)) (kf : x = false → W p l e R s m args below meth c H locs cells slots Q (F0 m (pc + 3) ls rest)) : W p l e R s m args below meth c H locs cells slots Q (F0 m pc ls (.int (bI x) :: rest)) :=
  lv_if_ne hexec hb hdg ht (fun h => kt (by cases x; exact absurd rfl h; rfl)) (fun h => kf (bI_0.mp h))
variable {D : va_G} {cl : List vw_C} {A : Nat → Prop} {a : Nat} {tys : List (ClassId × FieldType)} {ws : va_W} {H0 : Heap}
theorem n_iald (hexec : p.tables.exec = Jvm.exec) (hb : c.code = cc) (hK : va_K D cl tys s) (hP : va_P D cl ws H) (q0 t0 : Nat) {cA : ClassId} {n : Nat} {g : Nat → Nat} (ha : ws[q0]? = some (a, .inl (cA, n, .inl (nA g)))) (ht : tys[t0]? = some (cA, .int)) {i : Nat} (hin : i < n) (hn : n < 2 ^ 31) (hdg : decode cc pc = .ok (.iaload, 1))
    (kk : W p l e R s m args below meth c H locs cells slots Q (F0 m (pc + 1) ls (.int (nI (g i)) :: rest))) : W p l e R s m args below meth c H locs cells slots Q (F0 m pc ls (.int (nI i) :: .ref a :: rest)) :=
  va_iald hexec hb hK hP q0 t0 ha ht (vp_in_nI hin hn) hdg (by rw [nI_clamp (Nat.lt_trans hin hn)]; exact kk)
theorem n_iald0 (hexec : p.tables.exec = Jvm.exec) (hb : c.code = cc) (hK : va_K D cl tys s) (hP : va_P D cl ws H) (q0 t0 : Nat) {cA : ClassId} {n : Nat} {f : Nat → Int32} (ha : ws[q0]? = some (a, .inl (cA, n, .inl f))) (ht : tys[t0]? = some (cA, .int)) {i : Nat} (hin : i < n) (hn : n < 2 ^ 31) (hdg : decode cc pc = .ok (.iaload, 1))
    (kk : W p l e R s m args below meth c H locs cells slots Q (F0 m (pc + 1) ls (.int (f i) :: rest))) : W p l e R s m args below meth c H locs cells slots Q (F0 m pc ls (.int (nI i) :: .ref a :: rest)) :=
  va_iald hexec hb hK hP q0 t0 ha ht (vp_in_nI hin hn) hdg (by rw [nI_clamp (Nat.lt_trans hin hn)]; exact kk)
theorem n_zald (hexec : p.tables.exec = Jvm.exec) (hb : c.code = cc) (hK : va_K D cl tys s) (hP : va_P D cl ws H) (q0 t0 : Nat) {cA : ClassId} {n : Nat} {g : Nat → Nat} (ha : ws[q0]? = some (a, .inl (cA, n, .inl (nA g)))) (ht : tys[t0]? = some (cA, .boolean)) {i : Nat} (hin : i < n) (hn : n < 2 ^ 31) (hdg : decode cc pc = .ok (.baload, 1))
    (kk : W p l e R s m args below meth c H locs cells slots Q (F0 m (pc + 1) ls (.int (nI (g i)) :: rest))) : W p l e R s m args below meth c H locs cells slots Q (F0 m pc ls (.int (nI i) :: .ref a :: rest)) :=
  va_zald hexec hb hK hP q0 t0 ha ht (vp_in_nI hin hn) hdg (by rw [nI_clamp (Nat.lt_trans hin hn)]; exact kk)
theorem n_iast (hexec : p.tables.exec = Jvm.exec) (hb : c.code = cc) (hK : va_K D cl tys s) (hP : va_P D cl ws H) (hD : va_D A ws) (hS : va_S A H0 H locs) (q0 t0 : Nat) {cA : ClassId} {n : Nat} {g : Nat → Nat} (ha : ws[q0]? = some (a, .inl (cA, n, .inl (nA g)))) (ht : tys[t0]? = some (cA, .int)) {i x : Nat} (hin : i < n) (hn : n < 2 ^ 31) (hdg : decode cc pc = .ok (.iastore, 1))
    (kk : ∀ (H1 : Heap) (locs1 : List Loc), va_P D cl (ws.set q0 (a, .inl (cA, n, .inl (nA (pm_up g i x))))) H1 → va_D A (ws.set q0 (a, .inl (cA, n, .inl (nA (pm_up g i x))))) → va_S A H0 H1 locs1 → W p l e R s m args below meth c H1 locs1 cells slots Q (F0 m (pc + 1) ls rest)) : W p l e R s m args below meth c H locs cells slots Q (F0 m pc ls (.int (nI x) :: .int (nI i) :: .ref a :: rest)) := by
  refine va_iast hexec hb hK hP hD hS q0 t0 ha ht (vp_in_nI hin hn) hdg ?_
  rw [nI_clamp (Nat.lt_trans hin hn), nA_up]
  exact kk
theorem n_iast0 (hexec : p.tables.exec = Jvm.exec) (hb : c.code = cc) (hK : va_K D cl tys s) (hP : va_P D cl ws H) (hD : va_D A ws) (hS : va_S A H0 H locs) (q0 t0 : Nat) {cA : ClassId} {n : Nat} {f : Nat → Int32} (ha : ws[q0]? = some (a, .inl (cA, n, .inl f))) (ht : tys[t0]? = some (cA, .int)) {i : Nat} {x : Int32} (hin : i < n) (hn : n < 2 ^ 31) (hdg : decode cc pc = .ok (.iastore, 1))
    (kk : ∀ (H1 : Heap) (locs1 : List Loc), va_P D cl (ws.set q0 (a, .inl (cA, n, .inl (upd f i x)))) H1 → va_D A (ws.set q0 (a, .inl (cA, n, .inl (upd f i x)))) → va_S A H0 H1 locs1 → W p l e R s m args below meth c H1 locs1 cells slots Q (F0 m (pc + 1) ls rest)) : W p l e R s m args below meth c H locs cells slots Q (F0 m pc ls (.int x :: .int (nI i) :: .ref a :: rest)) := by
  refine va_iast hexec hb hK hP hD hS q0 t0 ha ht (vp_in_nI hin hn) hdg ?_
  rw [nI_clamp (Nat.lt_trans hin hn)]
  exact kk
theorem n_zast (hexec : p.tables.exec = Jvm.exec) (hb : c.code = cc) (hK : va_K D cl tys s) (hP : va_P D cl ws H) (hD : va_D A ws) (hS : va_S A H0 H locs) (q0 t0 : Nat) {cA : ClassId} {n : Nat} {g : Nat → Nat} (ha : ws[q0]? = some (a, .inl (cA, n, .inl (nA g)))) (ht : tys[t0]? = some (cA, .boolean)) {i x : Nat} (hx : vp_nar .boolean (nI x) = nI x) (hin : i < n) (hn : n < 2 ^ 31) (hdg : decode cc pc = .ok (.bastore, 1))
    (kk : ∀ (H1 : Heap) (locs1 : List Loc), va_P D cl (ws.set q0 (a, .inl (cA, n, .inl (nA (pm_up g i x))))) H1 → va_D A (ws.set q0 (a, .inl (cA, n, .inl (nA (pm_up g i x))))) → va_S A H0 H1 locs1 → W p l e R s m args below meth c H1 locs1 cells slots Q (F0 m (pc + 1) ls rest)) : W p l e R s m args below meth c H locs cells slots Q (F0 m pc ls (.int (nI x) :: .int (nI i) :: .ref a :: rest)) := by
  refine va_zast hexec hb hK hP hD hS q0 t0 ha ht (vp_in_nI hin hn) hdg ?_
  rw [nI_clamp (Nat.lt_trans hin hn), hx, nA_up]
  exact kk
end NR
/-! ===== worlds ===== -/
abbrev vwCl : List vw_C := [(RX0, TX0, 7), (RX1, TX1, 8)]
/-- MachineTwins: next, output, ready, rounds, group, letters, wordLength -/
abbrev XS : Type := (Nat → Nat) × (Nat → Int32) × Nat × Nat × (Nat → Nat) × (Nat → Nat) × Nat
/-- MachineTwinsModel: nexts, outputs, pairs, from, by, known, pairCount, word -/
abbrev MS : Type := (Nat → Nat) × (Nat → Int32) × (Nat → Nat) × (Nat → Int32) × (Nat → Nat) × (Nat → Nat) × Nat × (Nat → Nat)
abbrev xwf (h0 qn qo qg ql : Nat) (dA : ClassId) (u : XS) : va_W := [(h0, .inr (0, [.ref qn, .ref qo, .int (nI u.2.2.1), .int (nI u.2.2.2.1), .ref qg, .ref ql, .int (nI u.2.2.2.2.2.2)])), (qn, .inl (dA, 48, .inl (nA u.1))), (qo, .inl (dA, 48, .inl u.2.1)), (qg, .inl (dA, 288, .inl (nA u.2.2.2.2.1))), (ql, .inl (dA, 16, .inl (nA u.2.2.2.2.2.1)))]
abbrev mwf (h0 qn qo qp qf qb qk qw : Nat) (dA dB : ClassId) (v : MS) : va_W := [(h0, .inr (1, [.ref qn, .ref qo, .ref qp, .ref qf, .ref qb, .ref qk, .int (nI v.2.2.2.2.2.2.1), .ref qw])), (qn, .inl (dA, 48, .inl (nA v.1))), (qo, .inl (dA, 48, .inl v.2.1)), (qp, .inl (dA, 256, .inl (nA v.2.2.1))), (qf, .inl (dA, 256, .inl v.2.2.2.1)), (qb, .inl (dA, 256, .inl (nA v.2.2.2.2.1))), (qk, .inl (dB, 256, .inl (nA v.2.2.2.2.2.1))), (qw, .inl (dA, 256, .inl (nA v.2.2.2.2.2.2.2)))]
def cPre (D : va_G) (tys : List (ClassId × FieldType)) (w : va_W) (sz : Nat) (U : State) : Prop := U.heap.size = sz ∧ va_P D vwCl w U.heap ∧ va_K D vwCl tys U ∧ va_D (fun _ => True) w
def cB (D : va_G) (tys : List (ClassId × FieldType)) (A : Nat → Prop) (w : va_W) (t : State) : Prop := va_P D vwCl w t.heap ∧ va_K D vwCl tys t ∧ va_D A w
abbrev cQi (D : va_G) (tys : List (ClassId × FieldType)) {S : Type} (Wf : S → va_W) (post : Int32 → S → Prop) (A : Nat → Prop) : Array Value → State → Outcome → State → Prop := va_Qi post (fun u t => cB D tys A (Wf u) t) A
abbrev cQv (D : va_G) (tys : List (ClassId × FieldType)) {S : Type} (Wf : S → va_W) (post : S → Prop) (A : Nat → Prop) : Array Value → State → Outcome → State → Prop := va_Qv post (fun u t => cB D tys A (Wf u) t) A
/-- a contract: the world w0 at its start, PQ at its end -/
abbrev cM (l : Launch) (y : MethodName) (ws : List Cond) (rm : Room) (D : va_G) (tys : List (ClassId × FieldType)) (av : List Value) (w0 : va_W) (sz : Nat) (PQ : (Nat → Prop) → Array Value → State → Outcome → State → Prop) : Prop := Met l y ws rm (va_Pc av (cPre D tys w0 sz)) (PQ (va_A w0 sz)) rm.cells rm.slots (va_A w0 sz)
theorem cM_start {l : Launch} {y : MethodName} {cc : ByteArray} {maxL : Nat} {ret : Option FieldType} {rm : Room} {D : va_G} {tys : List (ClassId × FieldType)} {av : List Value} {w0 : va_W} {sz : Nat} {PQ : (Nat → Prop) → Array Value → State → Outcome → State → Prop} (hy : plainName y.cls = true) (hlen : (lg_sl av).length ≤ maxL)
    (body : ∀ (p : Program) (e : Env) (s : State) (m : MethodId) (args : Array Value) (below : List Frame) (meth : Method) (c : Code) (A : Nat → Prop) (ls : Array Slot) (Q : State → Prop), p.tables.exec = Jvm.exec → c.code = cc → meth.sig.returnType = ret → meth.locks = false → c.maxLocals = maxL → s.vm.findClass y.cls = some m.cls → meth.name = y.name → (∀ w ∈ lw_all, w.before args s = true) → (∀ q : Nat, s.heap.size ≤ q → A q) → va_K D vwCl tys s → va_P D vwCl w0 s.heap → va_D A w0 → va_S A s.heap s.heap [] → lv_has ls maxL (lv_args 0 av) → Q = MQ below (PQ A) args s rm.cells rm.slots A →
      W p l e rm s m args below meth c s.heap [] 0 0 Q (F0 m 0 ls [])) : cM l y (ws_ y cc maxL ret) rm D tys av w0 sz PQ := by
  refine Met.ofW (cc := cc) (maxL := maxL) (ret := ret) hy rfl ?_
  intro p e s m args below meth c s₁ B hml hv
  obtain ⟨rfl, hsz, hP, hK, hD0⟩ := hv
  have hts0 := atoms_spec (ws := ws_ y cc maxL ret) B.pre
  have hts : ∀ w ∈ lw_all, w.before _ s = true := fun w h => hts0 w (List.mem_cons_of_mem _ h)
  have hown : s.vm.findClass y.cls = some m.cls := findClass_of_methodNamed B.named
  have hin : meth.name = y.name := (name_of_methodNamed B.named B.method).1
  subst hsz
  have hD := hD0.self (sz := s.heap.size)
  generalize hAe : va_A w0 s.heap.size = A at hD ⊢
  have hA : ∀ q : Nat, s.heap.size ≤ q → A q := fun q h => by rw [← hAe]; exact Or.inr h
  rw [lg_entry_eq]
  exact body p e s m _ below meth c A _ _ B.exec B.bytes B.returns B.notSynchronized hml hown hin hts hA hK hP hD va_S.rf (lv_entry av hlen) rfl
section CX
variable {p : Program} {l : Launch} {e : Env} {R : Room} {s : State} {m : MethodId} {args : Array Value} {below : List Frame} {meth : Method} {c : Code} {H : Heap} {locs : List Loc} {cells slots : Nat} {Q : State → Prop}
variable {cc : ByteArray} {pc : Nat} {ls : Array Slot} {rest : List Value} {D : va_G} {A : Nat → Prop} {tys : List (ClassId × FieldType)}
theorem cx_iret {S : Type} {Wf : S → va_W} {post : Int32 → S → Prop} {v : Int32} (hQ : Q = MQ below (cQi D tys Wf post A) args s cells slots A) (hx : p.tables.exec = Jvm.exec) (hb : c.code = cc) (hr : meth.sig.returnType = some .int) (hlocks : meth.locks = false) (hK : va_K D vwCl tys s) (u : S) (hP : va_P D vwCl (Wf u) H) (hD : va_D A (Wf u)) (hS : va_S A s.heap H locs) (hdg : decode cc pc = .ok (.ireturn, 1)) (hpost : post v u) : W p l e R s m args below meth c H locs cells slots Q (F0 m pc ls [.int v]) := by
  subst hQ
  exact W.iret hx hb hr (fun t ht hW => ⟨⟨v, u, rfl, hpost, by rw [ht]; exact hP, va_K.moved hW.alike hK, hD⟩, hS.F ht⟩) hS.2.2 hdg (hlocks := hlocks)
theorem cx_zret {S : Type} {Wf : S → va_W} {post : Int32 → S → Prop} {v : Int32} (hQ : Q = MQ below (cQi D tys Wf post A) args s cells slots A) (hx : p.tables.exec = Jvm.exec) (hb : c.code = cc) (hr : meth.sig.returnType = some .boolean) (hlocks : meth.locks = false) (hK : va_K D vwCl tys s) (u : S) (hP : va_P D vwCl (Wf u) H) (hD : va_D A (Wf u)) (hS : va_S A s.heap H locs) (hdg : decode cc pc = .ok (.ireturn, 1)) (hn : narrow .boolean (.int v) = .int v) (hpost : post v u) : W p l e R s m args below meth c H locs cells slots Q (F0 m pc ls [.int v]) := by
  subst hQ
  exact W.zret hx hb hr hn (fun t ht hW => ⟨⟨v, u, rfl, hpost, by rw [ht]; exact hP, va_K.moved hW.alike hK, hD⟩, hS.F ht⟩) hS.2.2 hdg (hlocks := hlocks)
theorem cx_vret {S : Type} {Wf : S → va_W} {post : S → Prop} (hQ : Q = MQ below (cQv D tys Wf post A) args s cells slots A) (hx : p.tables.exec = Jvm.exec) (hb : c.code = cc) (hr : meth.sig.returnType = none) (hlocks : meth.locks = false) (hK : va_K D vwCl tys s) (u : S) (hP : va_P D vwCl (Wf u) H) (hD : va_D A (Wf u)) (hS : va_S A s.heap H locs) (hdg : decode cc pc = .ok (.return_, 1)) (hpost : post u) : W p l e R s m args below meth c H locs cells slots Q (F0 m pc ls []) := by
  subst hQ
  exact W.vret hx hb hr (fun t ht hW => ⟨⟨u, rfl, hpost, by rw [ht]; exact hP, va_K.moved hW.alike hK, hD⟩, hS.F ht⟩) hS.2.2 hdg (hlocks := hlocks)
theorem cx_blind {w : va_W} {av : List Value} {sz : Nat} : FrameBlind (va_Pc av (cPre D tys w sz)) := by
  intro a U g mk q
  obtain ⟨q0, q1, qP, qK, qD⟩ := q
  exact ⟨q0, q1, qP, va_K.moved (u := U) (U := U.calling g mk a) (Vm.Alike.refl U.vm) qK, qD⟩
theorem cx_free {w : va_W} (hD : va_D A w) (hS : va_S A s.heap H locs) (hA : ∀ q : Nat, s.heap.size ≤ q → A q) : ∀ q, va_A w H.size q → A q := by
  intro q h
  rcases h with ⟨k, e, h⟩ | h
  · exact hD.2 k (q, e) h
  · exact hA q (Nat.le_trans hS.1 h)
variable {S : Type} {Wf : S → va_W} {u0 : S} {y : MethodName} {bytes : ByteArray} {maxL nL n index ci q0 : Nat} {ret : Option FieldType} {wsm Ts : List Cond} {rm : Room} {own C : String} {T : u_T} {N : Nat} {b : Nat} {As st0 : List Value} {fs : List Value} {w : va_W}
/-- a call of a method of the same object, int answer -/
theorem cx_V {post : Int32 → S → Prop} (Sx : CallFix p m c cc nL s args Ts own) (hM : cM l y wsm rm D tys (.ref b :: As) (Wf u0) H.size (cQi D tys Wf post)) (cw : CallW R s args own C index y bytes maxL ret wsm rm rm.cells rm.slots n) (hK : va_K D vwCl tys s) (hP : va_P D vwCl (Wf u0) H) (hD : va_D A (Wf u0)) (hS : va_S A s.heap H locs) (hA : ∀ q : Nat, s.heap.size ≤ q → A q) (he : (Wf u0)[q0]? = some (b, .inr (ci, fs))) (hc : vwCl[ci]? = some (C, T, N)) (hst : st0 = As.reverse ++ .ref b :: rest) (hn : As.length = n) (hsize : ls.size = nL) (hW : (rest.map fun v => v.category).sum ≤ 8) (hdg : decode cc pc = .ok (.invokevirtual index, 3)) (h0c : rm.cells = 0) (h0s : rm.slots = 0) (hf : cells ≤ R.cells ∧ slots ≤ R.slots)
    (kk : ∀ (r : Int32) (u : S) (H1 : Heap) (locs1 : List Loc), post r u → va_P D vwCl (Wf u) H1 → va_D A (Wf u) → va_S A s.heap H1 locs1 → W p l e R s m args below meth c H1 locs1 cells slots Q (F0 m (pc + 3) ls (.int r :: rest))) : W p l e R s m args below meth c H locs cells slots Q (F0 m pc ls st0) := by
  subst hst
  have hFc := cx_free hD hS hA
  refine va_calli (va_runV (As := As) (rest := rest) Sx hM cw ⟨cx_blind, va_recv hK hP hc he, fun U hU hW => ⟨rfl, by rw [hU], by rw [hU]; exact hP, va_K.moved hW.alike hK, hD.weaken (fun _ _ _ _ => trivial)⟩⟩ rfl hn hsize rfl (lv_room hW) hdg (by rw [h0c, h0s]; exact hf)) hS (fun q _ h => hFc q h) hFc (fun r u t H1 locs ht hvm hw hB hz1 hk1 hS => ?_)
  obtain ⟨hP1, hK1, hD1⟩ := hB
  rw [ht] at hP1
  rw [h0c, h0s]
  exact kk r u H1 locs hw hP1 (hD1.weaken (fun _ q _ h => hFc q.1 h)) hS
/-- the same, no answer -/
theorem cx_Vv {post : S → Prop} (Sx : CallFix p m c cc nL s args Ts own) (hM : cM l y wsm rm D tys (.ref b :: As) (Wf u0) H.size (cQv D tys Wf post)) (cw : CallW R s args own C index y bytes maxL ret wsm rm rm.cells rm.slots n) (hK : va_K D vwCl tys s) (hP : va_P D vwCl (Wf u0) H) (hD : va_D A (Wf u0)) (hS : va_S A s.heap H locs) (hA : ∀ q : Nat, s.heap.size ≤ q → A q) (he : (Wf u0)[q0]? = some (b, .inr (ci, fs))) (hc : vwCl[ci]? = some (C, T, N)) (hst : st0 = As.reverse ++ .ref b :: rest) (hn : As.length = n) (hsize : ls.size = nL) (hW : (rest.map fun v => v.category).sum ≤ 8) (hdg : decode cc pc = .ok (.invokevirtual index, 3)) (h0c : rm.cells = 0) (h0s : rm.slots = 0) (hf : cells ≤ R.cells ∧ slots ≤ R.slots)
    (kk : ∀ (u : S) (H1 : Heap) (locs1 : List Loc), post u → va_P D vwCl (Wf u) H1 → va_D A (Wf u) → va_S A s.heap H1 locs1 → W p l e R s m args below meth c H1 locs1 cells slots Q (F0 m (pc + 3) ls rest)) : W p l e R s m args below meth c H locs cells slots Q (F0 m pc ls st0) := by
  subst hst
  have hFc := cx_free hD hS hA
  refine va_callv (va_runV (As := As) (rest := rest) Sx hM cw ⟨cx_blind, va_recv hK hP hc he, fun U hU hW => ⟨rfl, by rw [hU], by rw [hU]; exact hP, va_K.moved hW.alike hK, hD.weaken (fun _ _ _ _ => trivial)⟩⟩ rfl hn hsize rfl (lv_room hW) hdg (by rw [h0c, h0s]; exact hf)) hS (fun q _ h => hFc q h) hFc (fun u t H1 locs ht hvm hw hB hz1 hk1 hS => ?_)
  obtain ⟨hP1, hK1, hD1⟩ := hB
  rw [ht] at hP1
  rw [h0c, h0s]
  exact kk u H1 locs hw hP1 (hD1.weaken (fun _ q _ h => hFc q.1 h)) hS
/-- what stays when a callee with no world ran -/
theorem cx_keep {H1 : Heap} (hP : va_P D vwCl w H) (hk : ∀ q : Nat, q < H.size → ¬ va_A [] H.size q → H1[q]? = H[q]?) : va_P D vwCl w H1 := by
  intro k q hq
  have h1 := hP k q hq
  refine h1.kept (hk q.1 h1.lt ?_)
  rintro (⟨k2, e2, h2⟩ | h2)
  · simp at h2
  · exact absurd h1.lt (by omega)
/-- a call with no world, through an object -/
theorem cx_E {post : Int32 → Unit → Prop} (Sx : CallFix p m c cc nL s args Ts own) (hM : cM l y wsm rm D [] (.ref b :: As) [] H.size (cQi D [] (fun _ : Unit => []) post)) (cw : CallW R s args own C index y bytes maxL ret wsm rm rm.cells rm.slots n) (hK : va_K D vwCl tys s) (hP : va_P D vwCl w H) (hD : va_D A w) (hS : va_S A s.heap H locs) (hA : ∀ q : Nat, s.heap.size ≤ q → A q) (he : w[q0]? = some (b, .inr (ci, fs))) (hc : vwCl[ci]? = some (C, T, N)) (hst : st0 = As.reverse ++ .ref b :: rest) (hn : As.length = n) (hsize : ls.size = nL) (hW : (rest.map fun v => v.category).sum ≤ 8) (hdg : decode cc pc = .ok (.invokevirtual index, 3)) (h0c : rm.cells = 0) (h0s : rm.slots = 0) (hf : cells ≤ R.cells ∧ slots ≤ R.slots)
    (kk : ∀ (r : Int32) (H1 : Heap) (locs1 : List Loc), post r () → va_P D vwCl w H1 → va_D A w → va_S A s.heap H1 locs1 → W p l e R s m args below meth c H1 locs1 cells slots Q (F0 m (pc + 3) ls (.int r :: rest))) : W p l e R s m args below meth c H locs cells slots Q (F0 m pc ls st0) := by
  subst hst
  have hP0 : va_P D vwCl [] H := fun k q h => by simp at h
  have hD0 : va_D A [] := ⟨fun i j p q h => by simp at h, fun k q h => by simp at h⟩
  have hFc := cx_free hD0 hS hA
  have hK0 : va_K D vwCl [] s := ⟨hK.1, fun k q h => by simp at h⟩
  refine va_calli (va_runV (As := As) (rest := rest) Sx hM cw ⟨cx_blind, va_recv hK hP hc he, fun U hU hW => ⟨rfl, by rw [hU], by rw [hU]; exact hP0, va_K.moved hW.alike hK0, hD0.weaken (fun _ _ _ _ => trivial)⟩⟩ rfl hn hsize rfl (lv_room hW) hdg (by rw [h0c, h0s]; exact hf)) hS (fun q _ h => hFc q h) hFc (fun r u t H1 locs ht hvm hw hB hz1 hk1 hS => ?_)
  rw [h0c, h0s]
  exact kk r H1 locs hw (cx_keep hP hk1) hD hS
/-- a static call with no world -/
theorem cx_S {post : Int32 → Unit → Prop} (Sx : CallFix p m c cc nL s args Ts own) (hM : cM l y wsm rm D [] As [] H.size (cQi D [] (fun _ : Unit => []) post)) (cw : CallB R s args own index y bytes maxL ret wsm rm rm.cells rm.slots n ∧ (Cond.static y).before args s = true) (hK : va_K D vwCl tys s) (hP : va_P D vwCl w H) (hD : va_D A w) (hS : va_S A s.heap H locs) (hA : ∀ q : Nat, s.heap.size ≤ q → A q) (hst : st0 = As.reverse ++ rest) (hn : As.length = n) (hsize : ls.size = nL) (hW : (rest.map fun v => v.category).sum ≤ 8) (hdg : decode cc pc = .ok (.invokestatic index, 3)) (h0c : rm.cells = 0) (h0s : rm.slots = 0) (hf : cells ≤ R.cells ∧ slots ≤ R.slots)
    (kk : ∀ (r : Int32) (H1 : Heap) (locs1 : List Loc), post r () → va_P D vwCl w H1 → va_D A w → va_S A s.heap H1 locs1 → W p l e R s m args below meth c H1 locs1 cells slots Q (F0 m (pc + 3) ls (.int r :: rest))) : W p l e R s m args below meth c H locs cells slots Q (F0 m pc ls st0) := by
  subst hst
  have hP0 : va_P D vwCl [] H := fun k q h => by simp at h
  have hD0 : va_D A [] := ⟨fun i j p q h => by simp at h, fun k q h => by simp at h⟩
  have hFc := cx_free hD0 hS hA
  have hK0 : va_K D vwCl [] s := ⟨hK.1, fun k q h => by simp at h⟩
  refine va_calli (va_runS (As := As) (rest := rest) Sx hM cw ⟨cx_blind, fun U hU hW => ⟨rfl, by rw [hU], by rw [hU]; exact hP0, va_K.moved hW.alike hK0, hD0.weaken (fun _ _ _ _ => trivial)⟩⟩ rfl hn hsize rfl (lv_room hW) hdg (by rw [h0c, h0s]; exact hf)) hS (fun q _ h => hFc q h) hFc (fun r u t H1 locs ht hvm hw hB hz1 hk1 hS => ?_)
  rw [h0c, h0s]
  exact kk r H1 locs hw (cx_keep hP hk1) hD hS
end CX
end
section
/-! ===== what the public methods answer, for both classes ===== -/
def pm_bad (x : Int32) : Bool := decide (x < 0 ∨ ¬ x < nI 16)
def pm_bi (x : Int32) : Bool := decide (x < 0 ∨ ¬ x < nI 3)
theorem pm_bad_n {x : Int32} (h : pm_bad x = false) : ∃ j, j < 16 ∧ x = nI j := by
  have h1 := of_decide_eq_false h
  rcases pk_ix x (n := 16) (by decide) with q | q | q
  · exact absurd (Or.inl q) h1
  · refine absurd (Or.inr fun q2 => ?_) h1
    exact (fa_of_lt q2).2.1 q
  · exact q
theorem pm_bi_n {x : Int32} (h : pm_bi x = false) : ∃ j, j < 3 ∧ x = nI j := by
  have h1 := of_decide_eq_false h
  rcases pk_ix x (n := 3) (by decide) with q | q | q
  · exact absurd (Or.inl q) h1
  · refine absurd (Or.inr fun q2 => ?_) h1
    exact (fa_of_lt q2).2.1 q
  · exact q
theorem pm_bad_nI {j : Nat} (h : j < 16) : pm_bad (nI j) = false := decide_eq_false (by
  rintro (q | q)
  · exact nI_pos (n := j) (by omega) q
  · exact q (nI_lt h (by decide)))
theorem pm_bi_nI {j : Nat} (h : j < 3) : pm_bi (nI j) = false := decide_eq_false (by
  rintro (q | q)
  · exact nI_pos (n := j) (by omega) q
  · exact q (nI_lt h (by decide)))
/-- what MachineTwins keeps from call to call -/
def pm_xv (nx : Nat → Nat) (ou : Nat → Int32) (rd ro : Nat) (gr : Nat → Nat) : Prop := rd = 0 ∨ (rd = 1 ∧ pm_pr nx ou ro gr)
def pm_xp (nx : Nat → Nat) (ou : Nat → Int32) (u : XS) : Prop := ∃ (rd ro : Nat) (gr le : Nat → Nat) (wl : Nat), u = (nx, ou, rd, ro, gr, le, wl) ∧ pm_xv nx ou rd ro gr
def pm_mp (nx : Nat → Nat) (ou : Nat → Int32) (v : MS) : Prop := ∃ (pa : Nat → Nat) (fr : Nat → Int32) (bb kn : Nat → Nat) (pc : Nat) (wo : Nat → Nat), v = (nx, ou, pa, fr, bb, kn, pc, wo)
-- transition
def pm_trR (nx : Nat → Nat) (ou : Nat → Int32) (x y : Int32) : Int32 := if pm_bad x then -1 else if pm_bi y then -2 else nI (nx (x.toNatClampNeg * 3 + y.toNatClampNeg)) + nI 16 * ou (x.toNatClampNeg * 3 + y.toNatClampNeg)
def pm_trN (nx : Nat → Nat) (x y t : Int32) : Nat → Nat := if pm_bad x then nx else if pm_bi y then nx else pm_up nx (x.toNatClampNeg * 3 + y.toNatClampNeg) (t.toBitVec.toNat % 16)
def pm_trO (ou : Nat → Int32) (x y t : Int32) : Nat → Int32 := if pm_bad x then ou else if pm_bi y then ou else upd ou (x.toNatClampNeg * 3 + y.toNatClampNeg) ((t >>> (nI 4 &&& 31)) &&& nI 7)
theorem pm_tr_1 {nx : Nat → Nat} {ou : Nat → Int32} {x y t : Int32} (h : pm_bad x = true) : pm_trR nx ou x y = -1 ∧ pm_trN nx x y t = nx ∧ pm_trO ou x y t = ou := ⟨if_pos h, if_pos h, if_pos h⟩
theorem pm_tr_2 {nx : Nat → Nat} {ou : Nat → Int32} {x y t : Int32} (h : pm_bad x = false) (h2 : pm_bi y = true) : pm_trR nx ou x y = -2 ∧ pm_trN nx x y t = nx ∧ pm_trO ou x y t = ou := by
  have h : ¬ pm_bad x = true := by rw [h]; decide
  exact ⟨by unfold pm_trR; rw [if_neg h, if_pos h2], by unfold pm_trN; rw [if_neg h, if_pos h2], by unfold pm_trO; rw [if_neg h, if_pos h2]⟩
theorem pm_tr_3 {nx : Nat → Nat} {ou : Nat → Int32} {i j : Nat} {t : Int32} (hi : i < 16) (hj : j < 3) : pm_trR nx ou (nI i) (nI j) = nI (nx (i * 3 + j)) + nI 16 * ou (i * 3 + j) ∧ pm_trN nx (nI i) (nI j) t = pm_up nx (i * 3 + j) (t.toBitVec.toNat % 16) ∧ pm_trO ou (nI i) (nI j) t = upd ou (i * 3 + j) ((t >>> (nI 4 &&& 31)) &&& nI 7) := by
  have h : ¬ pm_bad (nI i) = true := by rw [pm_bad_nI hi]; decide
  have h2 : ¬ pm_bi (nI j) = true := by rw [pm_bi_nI hj]; decide
  unfold pm_trR pm_trN pm_trO
  rw [if_neg h, if_neg h2, if_neg h, if_neg h2, if_neg h, if_neg h2, nI_clamp (by omega), nI_clamp (by omega)]
  exact ⟨rfl, rfl, rfl⟩
theorem pm_trN_lt {nx : Nat → Nat} (hn : ∀ i, nx i < 16) (x y t : Int32) : ∀ i, pm_trN nx x y t i < 16 := by
  intro i
  unfold pm_trN
  split
  · exact hn i
  · split
    · exact hn i
    · unfold pm_up
      split
      · exact Nat.mod_lt _ (by decide)
      · exact hn i
-- exchange
def pm_exR (a b x : Int32) : Int32 := if pm_bad a || pm_bad b then -1 else if pm_bi x then -2 else 0
def pm_exO (ou : Nat → Int32) (a b x : Int32) : Nat → Int32 := if pm_bad a || pm_bad b then ou else if pm_bi x then ou else upd (upd ou (a.toNatClampNeg * 3 + x.toNatClampNeg) (ou (b.toNatClampNeg * 3 + x.toNatClampNeg))) (b.toNatClampNeg * 3 + x.toNatClampNeg) (ou (a.toNatClampNeg * 3 + x.toNatClampNeg))
theorem pm_ex_1 {ou : Nat → Int32} {a b x : Int32} (h : pm_bad a = true ∨ pm_bad b = true) : pm_exR a b x = -1 ∧ pm_exO ou a b x = ou := by
  have h : (pm_bad a || pm_bad b) = true := (Bool.or_eq_true _ _).mpr h
  exact ⟨if_pos h, if_pos h⟩
theorem pm_ex_2 {ou : Nat → Int32} {a b x : Int32} (ha : pm_bad a = false) (hb : pm_bad b = false) (h2 : pm_bi x = true) : pm_exR a b x = -2 ∧ pm_exO ou a b x = ou := by
  have h : ¬ (pm_bad a || pm_bad b) = true := by rw [ha, hb]; decide
  exact ⟨by unfold pm_exR; rw [if_neg h, if_pos h2], by unfold pm_exO; rw [if_neg h, if_pos h2]⟩
theorem pm_ex_3 {ou : Nat → Int32} {i j k : Nat} (hi : i < 16) (hj : j < 16) (hk : k < 3) : pm_exR (nI i) (nI j) (nI k) = 0 ∧ pm_exO ou (nI i) (nI j) (nI k) = upd (upd ou (i * 3 + k) (ou (j * 3 + k))) (j * 3 + k) (ou (i * 3 + k)) := by
  have h : ¬ (pm_bad (nI i) || pm_bad (nI j)) = true := by rw [pm_bad_nI hi, pm_bad_nI hj]; decide
  have h2 : ¬ pm_bi (nI k) = true := by rw [pm_bi_nI hk]; decide
  unfold pm_exR pm_exO
  rw [if_neg h, if_neg h2, if_neg h, if_neg h2, nI_clamp (by omega), nI_clamp (by omega), nI_clamp (by omega)]
  exact ⟨rfl, rfl⟩
-- alike, distance, teller, kind
def pm_alS (nx : Nat → Nat) (ou : Nat → Int32) (x y : Int32) : Bool := !pm_bad x && (!pm_bad y && decide (pm_ds nx ou x.toNatClampNeg y.toNatClampNeg = 0))
theorem pm_al_1 {nx : Nat → Nat} {ou : Nat → Int32} {x y : Int32} (h : pm_bad x = true ∨ pm_bad y = true) : pm_alS nx ou x y = false := by
  unfold pm_alS
  rcases h with h | h <;> simp [h]
theorem pm_al_2 {nx : Nat → Nat} {ou : Nat → Int32} {i j : Nat} (hi : i < 16) (hj : j < 16) : pm_alS nx ou (nI i) (nI j) = decide (pm_ds nx ou i j = 0) := by
  unfold pm_alS
  rw [pm_bad_nI hi, pm_bad_nI hj, nI_clamp (by omega), nI_clamp (by omega)]
  simp
def pm_diS (nx : Nat → Nat) (ou : Nat → Int32) (x y : Int32) : Int32 := if pm_bad x || pm_bad y then -1 else if pm_ds nx ou x.toNatClampNeg y.toNatClampNeg = 0 then -4 else nI (pm_ds nx ou x.toNatClampNeg y.toNatClampNeg)
theorem pm_di_1 {nx : Nat → Nat} {ou : Nat → Int32} {x y : Int32} (h : pm_bad x = true ∨ pm_bad y = true) : pm_diS nx ou x y = -1 := if_pos ((Bool.or_eq_true _ _).mpr h)
theorem pm_di_2 {nx : Nat → Nat} {ou : Nat → Int32} {i j : Nat} (hi : i < 16) (hj : j < 16) : pm_diS nx ou (nI i) (nI j) = if pm_ds nx ou i j = 0 then -4 else nI (pm_ds nx ou i j) := by
  have h : ¬ (pm_bad (nI i) || pm_bad (nI j)) = true := by rw [pm_bad_nI hi, pm_bad_nI hj]; decide
  unfold pm_diS
  rw [if_neg h, nI_clamp (by omega), nI_clamp (by omega)]
def pm_teS (nx : Nat → Nat) (ou : Nat → Int32) (x y k : Int32) : Int32 := if pm_bad x || pm_bad y then -1 else if k < 0 ∨ ¬ k < nI (pm_ds nx ou x.toNatClampNeg y.toNatClampNeg) then -4 else nI ((pm_ws nx ou (pm_ds nx ou x.toNatClampNeg y.toNatClampNeg) x.toNatClampNeg y.toNatClampNeg).getD k.toNatClampNeg 0)
theorem pm_te_1 {nx : Nat → Nat} {ou : Nat → Int32} {x y k : Int32} (h : pm_bad x = true ∨ pm_bad y = true) : pm_teS nx ou x y k = -1 := if_pos ((Bool.or_eq_true _ _).mpr h)
theorem pm_te_2 {nx : Nat → Nat} {ou : Nat → Int32} {i j : Nat} {k : Int32} (hi : i < 16) (hj : j < 16) (hk : k < 0 ∨ ¬ k < nI (pm_ds nx ou i j)) : pm_teS nx ou (nI i) (nI j) k = -4 := by
  have h : ¬ (pm_bad (nI i) || pm_bad (nI j)) = true := by rw [pm_bad_nI hi, pm_bad_nI hj]; decide
  unfold pm_teS
  rw [if_neg h, nI_clamp (by omega), nI_clamp (by omega), if_pos hk]
theorem pm_te_3 {nx : Nat → Nat} {ou : Nat → Int32} {i j k : Nat} (hi : i < 16) (hj : j < 16) (hk : k < pm_ds nx ou i j) (hd : pm_ds nx ou i j < 1000) : pm_teS nx ou (nI i) (nI j) (nI k) = nI ((pm_ws nx ou (pm_ds nx ou i j) i j).getD k 0) := by
  have h : ¬ (pm_bad (nI i) || pm_bad (nI j)) = true := by rw [pm_bad_nI hi, pm_bad_nI hj]; decide
  unfold pm_teS
  rw [if_neg h, nI_clamp (n := i) (by omega), nI_clamp (n := j) (by omega), nI_clamp (n := k) (by omega), if_neg]
  rintro (q | q)
  · exact nI_pos (n := k) (by omega) q
  · exact q (nI_lt hk (by omega))
def pm_kiS (nx : Nat → Nat) (ou : Nat → Int32) (x : Int32) : Int32 := if pm_bad x then -1 else nI (pm_kd nx ou x.toNatClampNeg)
theorem pm_ki_1 {nx : Nat → Nat} {ou : Nat → Int32} {x : Int32} (h : pm_bad x = true) : pm_kiS nx ou x = -1 := if_pos h
theorem pm_ki_2 {nx : Nat → Nat} {ou : Nat → Int32} {i : Nat} (hi : i < 16) : pm_kiS nx ou (nI i) = nI (pm_kd nx ou i) := by
  have h : ¬ pm_bad (nI i) = true := by rw [pm_bad_nI hi]; decide
  unfold pm_kiS
  rw [if_neg h, nI_clamp (by omega)]
def pm_ksS (nx : Nat → Nat) (ou : Nat → Int32) (n : Nat) : Nat := fb_ct (fun s => decide (pm_kd nx ou s = s)) n
theorem pm_ks_s (nx : Nat → Nat) (ou : Nat → Int32) (n : Nat) : pm_ksS nx ou (n + 1) = if pm_kd nx ou n = n then pm_ksS nx ou n + 1 else pm_ksS nx ou n := by
  unfold pm_ksS
  rw [fb_ct_succ]
  by_cases h : pm_kd nx ou n = n
  · rw [if_pos h, if_pos (decide_eq_true h)]
  · rw [if_neg h, if_neg (by rw [decide_eq_true_iff]; exact h)]
    rfl
theorem pm_ks_le (nx : Nat → Nat) (ou : Nat → Int32) (n : Nat) : pm_ksS nx ou n ≤ n := fb_ct_le _ n
def pm_rkS (nx : Nat → Nat) (ou : Nat → Int32) (x r : Int32) : Prop := (pm_bad x = true ∧ r = -1) ∨ ∃ j m : Nat, j < 16 ∧ x = nI j ∧ pm_rm nx j m ∧ r = nI (pm_pc (pm_gm (pm_kd nx ou) m 16) 16)
theorem pm_rk_one {nx : Nat → Nat} {ou : Nat → Int32} {x r r' : Int32} (h : pm_rkS nx ou x r) (h' : pm_rkS nx ou x r') : r = r' := by
  rcases h with ⟨h1, h2⟩ | ⟨j, m, h1, h2, h3, h4⟩
  · rcases h' with ⟨g1, g2⟩ | ⟨j', m', g1, g2, g3, g4⟩
    · rw [h2, g2]
    · rw [g2, pm_bad_nI g1] at h1
      cases h1
  · rcases h' with ⟨g1, g2⟩ | ⟨j', m', g1, g2, g3, g4⟩
    · rw [h2, pm_bad_nI h1] at g1
      cases g1
    · have e : j = j' := (nI_eq (by omega) (by omega)).mp (h2.symm.trans g2)
      subst e
      rw [h4, g4, pm_rm_one h3 g3]
def pm_ruS (nx : Nat → Nat) (x w n : Int32) : Int32 := if pm_bad x then -1 else if n < 0 ∨ ¬ n ≤ nI 10 then -2 else nI (pm_rn nx w x.toNatClampNeg n.toNatClampNeg)
theorem pm_ru_1 {nx : Nat → Nat} {x w n : Int32} (h : pm_bad x = true) : pm_ruS nx x w n = -1 := if_pos h
theorem pm_ru_2 {nx : Nat → Nat} {x w n : Int32} (h : pm_bad x = false) (h2 : n < 0 ∨ ¬ n ≤ nI 10) : pm_ruS nx x w n = -2 := by
  have h : ¬ pm_bad x = true := by rw [h]; decide
  unfold pm_ruS
  rw [if_neg h, if_pos h2]
theorem pm_ru_3 {nx : Nat → Nat} {i n : Nat} {w : Int32} (hi : i < 16) (hn : n ≤ 10) : pm_ruS nx (nI i) w (nI n) = nI (pm_rn nx w i n) := by
  have h : ¬ pm_bad (nI i) = true := by rw [pm_bad_nI hi]; decide
  unfold pm_ruS
  rw [if_neg h, if_neg, nI_clamp (by omega), nI_clamp (by omega)]
  rintro (q | q)
  · exact nI_pos (n := n) (by omega) q
  · exact q (nI_le hn (by decide))
theorem pm_ten {n : Int32} (h1 : ¬ n < 0) (h2 : n ≤ nI 10) : ∃ j, j ≤ 10 ∧ n = nI j := nI_of2 (M := nI 10) (n := 10) (by decide) h1 h2
theorem pm_n_ix {x : Int32} {n : Nat} (hn : n < 2 ^ 31) (h1 : ¬ x < 0) (h2 : x < nI n) : ∃ j, j < n ∧ x = nI j := by
  rcases pk_ix x hn with q | q | q
  · exact absurd q h1
  · exact absurd q (fa_of_lt h2).2.1
  · exact q
end
section
/-! ===== MachineTwins: bad, groupOf, together, split, prepare, parting ===== -/
theorem pm_tg_false {nx : Nat → Nat} {ou : Nat → Int32} {G : Nat → Nat} {a b : Nat} (h : ¬ (G a = G b ∧ ∀ i, i < 3 → ou (a * 3 + i) = ou (b * 3 + i) ∧ G (nx (a * 3 + i)) = G (nx (b * 3 + i)))) : pm_tg nx ou G a b = false := Bool.eq_false_iff.mpr (fun e => h (pm_tg_true.mp e))
theorem pm_tg_cong {nx : Nat → Nat} {ou : Nat → Int32} {G G' : Nat → Nat} (hn : ∀ i, nx i < 16) (h : ∀ z, z < 16 → G z = G' z) {a b : Nat} (ha : a < 16) (hb : b < 16) : pm_tg nx ou G a b = pm_tg nx ou G' a b := by
  refine Bool.eq_iff_iff.mpr ?_
  rw [pm_tg_true, pm_tg_true, h a ha, h b hb]
  constructor
  · rintro ⟨h1, h2⟩
    refine ⟨h1, fun i hi => ?_⟩
    have h3 := h2 i hi
    rw [h _ (hn _), h _ (hn _)] at h3
    exact h3
  · rintro ⟨h1, h2⟩
    refine ⟨h1, fun i hi => ?_⟩
    have h3 := h2 i hi
    rw [← h _ (hn _), ← h _ (hn _)] at h3
    exact h3
theorem pm_nt_of {nx : Nat → Nat} {ou : Nat → Int32} {G : Nat → Nat} {z t : Nat} (h : t ≤ z) (h1 : ∀ j, j < t → pm_tg nx ou G j z = false) (h2 : t < z → pm_tg nx ou G t z = true) : pm_nt nx ou G z = t := pm_first_eq h h1 h2
theorem pm_nt_cong {nx : Nat → Nat} {ou : Nat → Int32} {G G' : Nat → Nat} (hn : ∀ i, nx i < 16) (h : ∀ z, z < 16 → G z = G' z) {s : Nat} (hs : s < 16) : pm_nt nx ou G s = pm_nt nx ou G' s := by
  unfold pm_nt
  have hle := fa_first_le (fun t => pm_tg nx ou G' t s) s
  have hno := fa_first_no (fun t => pm_tg nx ou G' t s) s
  have hyes := fa_first_yes (fun t => pm_tg nx ou G' t s) s
  refine pm_first_eq hle (fun j hj => ?_) (fun q => ?_)
  · rw [pm_tg_cong hn h (by omega) hs]; exact hno j hj
  · rw [pm_tg_cong hn h (by omega) hs]; exact hyes q
theorem pm_pt_hit {gr : Nat → Nat} {ro a b k : Nat} (hk : k < ro) (h : ∀ j, j < k → gr ((j + 1) * 16 + a) = gr ((j + 1) * 16 + b)) (h2 : gr ((k + 1) * 16 + a) ≠ gr ((k + 1) * 16 + b)) : pm_pt gr ro a b = k + 1 := by
  have e : fa_first (fun k => decide (gr ((k + 1) * 16 + a) ≠ gr ((k + 1) * 16 + b))) ro = k := pm_first_eq (by omega) (fun j hj => decide_eq_false (fun hc => hc (h j hj))) (fun _ => decide_eq_true h2)
  unfold pm_pt
  rw [e, if_pos hk]
theorem pm_pt_no {gr : Nat → Nat} {ro a b : Nat} (h : ∀ j, j < ro → gr ((j + 1) * 16 + a) = gr ((j + 1) * 16 + b)) : pm_pt gr ro a b = 0 := by
  have e : fa_first (fun k => decide (gr ((k + 1) * 16 + a) ≠ gr ((k + 1) * 16 + b))) ro = ro := pm_first_eq (by omega) (fun j hj => decide_eq_false (fun hc => hc (h j hj))) (fun q => absurd q (by omega))
  unfold pm_pt
  rw [e, if_neg (by omega)]

abbrev rmX0_bad : Room := { frames := 0, cells := 0, slots := 0, locals := 0 }
set_option maxHeartbeats 400000 in
set_option maxRecDepth 100000 in
theorem mX0_bad (l : Launch) (D : va_G) (sz : Nat) (x : Int32) : cM l yX0_bad (ws_ yX0_bad cX0_bad 1 (some .boolean)) rmX0_bad D [] [.int x] [] sz (cQi D [] (fun _ : Unit => []) (fun v _ => v = bI (pm_bad x))) := by
  refine cM_start (by decide) (Nat.le_of_ble_eq_true rfl) ?_
  intro p e s m args below meth c A ls Q hx hb hr hlocks hml hown hin hts hA hK hP hD hS hl hQ
  have hown : s.vm.findClass RX0 = some m.cls := hown
  have hl : lv_has ls 1 [(0, .int x)] := hl
  refine lv_iload_n hx hb dX0_bad_0 rfl (lv_at hl 0 rfl) ?_
  refine lv_if_lt (tgt := 10) hx hb dX0_bad_1 (by decide) (fun c_1 => ?_) (fun c_1 => ?_)
  · skip
    refine lv_iconst (v := nI 1) hx hb dX0_bad_10 (by decide) ?_
    refine lv_goto (tgt := 15) hx hb dX0_bad_11 (by decide) ?_
    exact cx_zret hQ hx hb hr hlocks hK () hP hD hS dX0_bad_15 rfl (by rw [show pm_bad x = true from decide_eq_true (Or.inl c_1)]; rfl)
  · skip
    refine lv_iload_n hx hb dX0_bad_4 rfl (lv_at hl 0 rfl) ?_
    refine lv_bipush (v := nI 16) hx hb dX0_bad_5 (by decide) ?_
    refine lv_icmp_lt (tgt := 14) hx hb dX0_bad_7 (by decide) (fun c_7 => ?_) (fun c_7 => ?_)
    · skip
      refine lv_iconst (v := nI 0) hx hb dX0_bad_14 (by decide) ?_
      exact cx_zret hQ hx hb hr hlocks hK () hP hD hS dX0_bad_15 rfl (by rw [show pm_bad x = false from decide_eq_false (fun h => h.elim c_1 (fun h => h c_7))]; rfl)
    · skip
      refine lv_iconst (v := nI 1) hx hb dX0_bad_10 (by decide) ?_
      refine lv_goto (tgt := 15) hx hb dX0_bad_11 (by decide) ?_
      exact cx_zret hQ hx hb hr hlocks hK () hP hD hS dX0_bad_15 rfl (by rw [show pm_bad x = true from decide_eq_true (Or.inr c_7)]; rfl)

abbrev rmX0_groupOf : Room := { frames := 0, cells := 0, slots := 0, locals := 0 }
set_option maxHeartbeats 400000 in
set_option maxRecDepth 100000 in
theorem mX0_groupOf (l : Launch) (D : va_G) (dA : ClassId) (h0 qn qo qg ql sz : Nat) (nx : Nat → Nat) (ou : Nat → Int32) (rd ro : Nat) (gr le : Nat → Nat) (wl : Nat) (ra sa : Nat) (hi : ra * 16 + sa < 288) : cM l yX0_groupOf (ws_ yX0_groupOf cX0_groupOf 3 (some .int)) rmX0_groupOf D [(dA, .int)] [.ref h0, .int (nI ra), .int (nI sa)] (xwf h0 qn qo qg ql dA (nx, ou, rd, ro, gr, le, wl)) sz (cQi D [(dA, .int)] (xwf h0 qn qo qg ql dA) (fun v u => v = nI (gr (ra * 16 + sa)) ∧ u = (nx, ou, rd, ro, gr, le, wl))) := by
  refine cM_start (by decide) (Nat.le_of_ble_eq_true rfl) ?_
  intro p e s m args below meth c A ls Q hx hb hr hlocks hml hown hin hts hA hK hP hD hS hl hQ
  have hown : s.vm.findClass RX0 = some m.cls := hown
  have hl : lv_has ls 3 [(0, .ref h0), (1, .int (nI ra)), (2, .int (nI sa))] := hl
  refine lv_aload_n hx hb dX0_groupOf_0 rfl (lv_at hl 0 rfl) ?_
  refine va_get (D := D) (ci := 0) (v := .ref qg) (C := RX0) (T := TX0) (N := 7) hx hb hts in_X0 hown hK hP 0 rfl rfl 4 (by decide) (hts _ q28) (fun _ h9 => h9) rfl dX0_groupOf_1 ?_
  refine lv_iload_n hx hb dX0_groupOf_4 rfl (lv_at hl 1 rfl) ?_
  refine lv_bipush (v := nI 16) hx hb dX0_groupOf_5 (by decide) ?_
  refine n_imul hx hb dX0_groupOf_7 ?_
  refine lv_iload_n hx hb dX0_groupOf_8 rfl (lv_at hl 2 rfl) ?_
  refine n_iadd hx hb dX0_groupOf_9 ?_
  refine n_iald (g := gr) (i := (ra * 16) + sa) hx hb hK hP 3 0 rfl rfl (by omega) (by decide) dX0_groupOf_10 ?_
  exact cx_iret hQ hx hb hr hlocks hK (nx, ou, rd, ro, gr, le, wl) hP hD hS dX0_groupOf_11 ⟨rfl, rfl⟩

abbrev rmX0_together : Room := { frames := 0, cells := 0, slots := 0, locals := 0 }
set_option maxHeartbeats 400000 in
set_option maxRecDepth 100000 in
theorem mX0_together (l : Launch) (D : va_G) (dA : ClassId) (h0 qn qo qg ql sz : Nat) (nx : Nat → Nat) (ou : Nat → Int32) (rd ro : Nat) (gr le : Nat → Nat) (wl : Nat) (ra sa sb : Nat) (hra : ra ≤ 16) (hsa : sa < 16) (hsb : sb < 16) (hnx : ∀ i, nx i < 16) (hgr : ∀ z, z < 16 → gr (ra * 16 + z) < 16) : cM l yX0_together (ws_ yX0_together cX0_together 7 (some .boolean)) rmX0_together D [(dA, .int)] [.ref h0, .int (nI ra), .int (nI sa), .int (nI sb)] (xwf h0 qn qo qg ql dA (nx, ou, rd, ro, gr, le, wl)) sz (cQi D [(dA, .int)] (xwf h0 qn qo qg ql dA) (fun v u => v = bI (pm_tg nx ou (fun z => gr (ra * 16 + z)) sa sb) ∧ u = (nx, ou, rd, ro, gr, le, wl))) := by
  refine cM_start (by decide) (Nat.le_of_ble_eq_true rfl) ?_
  intro p e s m args below meth c A ls Q hx hb hr hlocks hml hown hin hts hA hK hP hD hS hl hQ
  have hown : s.vm.findClass RX0 = some m.cls := hown
  have hl : lv_has ls 7 [(0, .ref h0), (1, .int (nI ra)), (2, .int (nI sa)), (3, .int (nI sb))] := hl
  refine lv_aload_n hx hb dX0_together_0 rfl (lv_at hl 0 rfl) ?_
  refine va_get (D := D) (ci := 0) (v := .ref qg) (C := RX0) (T := TX0) (N := 7) hx hb hts in_X0 hown hK hP 0 rfl rfl 4 (by decide) (hts _ q28) (fun _ h9 => h9) rfl dX0_together_1 ?_
  refine lv_iload_n hx hb dX0_together_4 rfl (lv_at hl 1 rfl) ?_
  refine lv_bipush (v := nI 16) hx hb dX0_together_5 (by decide) ?_
  refine n_imul hx hb dX0_together_7 ?_
  refine lv_iload_n hx hb dX0_together_8 rfl (lv_at hl 2 rfl) ?_
  refine n_iadd hx hb dX0_together_9 ?_
  refine n_iald (g := gr) (i := (ra * 16) + sa) hx hb hK hP 3 0 rfl rfl (by omega) (by decide) dX0_together_10 ?_
  refine lv_aload_n hx hb dX0_together_11 rfl (lv_at hl 0 rfl) ?_
  refine va_get (D := D) (ci := 0) (v := .ref qg) (C := RX0) (T := TX0) (N := 7) hx hb hts in_X0 hown hK hP 0 rfl rfl 4 (by decide) (hts _ q28) (fun _ h9 => h9) rfl dX0_together_12 ?_
  refine lv_iload_n hx hb dX0_together_15 rfl (lv_at hl 1 rfl) ?_
  refine lv_bipush (v := nI 16) hx hb dX0_together_16 (by decide) ?_
  refine n_imul hx hb dX0_together_18 ?_
  refine lv_iload_n hx hb dX0_together_19 rfl (lv_at hl 3 rfl) ?_
  refine n_iadd hx hb dX0_together_20 ?_
  refine n_iald (g := gr) (i := (ra * 16) + sb) hx hb hK hP 3 0 rfl rfl (by omega) (by decide) dX0_together_21 ?_
  have hg1 := hgr sa hsa
  have hg2 := hgr sb hsb
  refine n_icmp_eq (tgt := 27) hx hb dX0_together_22 (by decide) (by omega) (by omega) (fun c_22 => ?_) (fun c_22 => ?_)
  · skip
    refine lv_iconst (v := nI 0) hx hb dX0_together_27 (by decide) ?_
    refine lv_istore (lv' := [(4, .int (nI 0)), (0, .ref h0), (1, .int (nI ra)), (2, .int (nI sa)), (3, .int (nI sb))]) hx hb dX0_together_28 hl (by decide) rfl (fun ls hl => ?_)
    have loop_30 : ∀ (n : Nat) (i : Nat), i ≤ 3 → 3 + 1 ≤ i + n → (∀ j, j < i → ou (sa * 3 + j) = ou (sb * 3 + j) ∧ gr (ra * 16 + nx (sa * 3 + j)) = gr (ra * 16 + nx (sb * 3 + j))) → ∀ (ls : Array Slot), lv_has ls 7 [(0, .ref h0), (1, .int (nI ra)), (2, .int (nI sa)), (3, .int (nI sb)), (4, .int (nI i))] → W p l e rmX0_together s m args below meth c s.heap [] 0 0 Q (F0 m 30 ls []) := by
      intro n
      induction n with
      | zero =>
        intro i hi hf hinv
        exact absurd hf (by omega)
      | succ n ih_30 =>
        intro i hi hf hinv ls hl
        refine lv_iload hx hb dX0_together_30 (lv_at hl 4 rfl) ?_
        refine lv_iconst (v := nI 3) hx hb dX0_together_32 (by decide) ?_
        refine n_icmp_ge (tgt := 116) hx hb dX0_together_33 (by decide) (by omega) (by omega) (fun c_33 => ?_) (fun c_33 => ?_)
        · skip
          refine lv_iconst (v := nI 1) hx hb dX0_together_116 (by decide) ?_
          exact cx_zret hQ hx hb hr hlocks hK (nx, ou, rd, ro, gr, le, wl) hP hD hS dX0_together_117 rfl ⟨by rw [show pm_tg nx ou (fun z => gr (ra * 16 + z)) sa sb = true from pm_tg_true.mpr ⟨c_22, fun j hj => hinv j (by omega)⟩]; rfl, rfl⟩
        · skip
          refine lv_iload_n hx hb dX0_together_36 rfl (lv_at hl 2 rfl) ?_
          refine lv_iconst (v := nI 3) hx hb dX0_together_37 (by decide) ?_
          refine n_imul hx hb dX0_together_38 ?_
          refine lv_iload hx hb dX0_together_39 (lv_at hl 4 rfl) ?_
          refine n_iadd hx hb dX0_together_41 ?_
          refine lv_istore (lv' := [(5, .int (nI ((sa * 3) + i))), (0, .ref h0), (1, .int (nI ra)), (2, .int (nI sa)), (3, .int (nI sb)), (4, .int (nI i))]) hx hb dX0_together_42 hl (by decide) rfl (fun ls hl => ?_)
          refine lv_iload_n hx hb dX0_together_44 rfl (lv_at hl 4 rfl) ?_
          refine lv_iconst (v := nI 3) hx hb dX0_together_45 (by decide) ?_
          refine n_imul hx hb dX0_together_46 ?_
          refine lv_iload hx hb dX0_together_47 (lv_at hl 5 rfl) ?_
          refine n_iadd hx hb dX0_together_49 ?_
          refine lv_istore (lv' := [(6, .int (nI ((sb * 3) + i))), (5, .int (nI ((sa * 3) + i))), (0, .ref h0), (1, .int (nI ra)), (2, .int (nI sa)), (3, .int (nI sb)), (4, .int (nI i))]) hx hb dX0_together_50 hl (by decide) rfl (fun ls hl => ?_)
          refine lv_aload_n hx hb dX0_together_52 rfl (lv_at hl 2 rfl) ?_
          refine va_get (D := D) (ci := 0) (v := .ref qo) (C := RX0) (T := TX0) (N := 7) hx hb hts in_X0 hown hK hP 0 rfl rfl 1 (by decide) (hts _ q25) (fun _ h9 => h9) rfl dX0_together_53 ?_
          refine lv_iload hx hb dX0_together_56 (lv_at hl 1 rfl) ?_
          refine n_iald0 (f := ou) (i := (sa * 3) + i) hx hb hK hP 2 0 rfl rfl (by omega) (by decide) dX0_together_58 ?_
          refine lv_aload_n hx hb dX0_together_59 rfl (lv_at hl 2 rfl) ?_
          refine va_get (D := D) (ci := 0) (v := .ref qo) (C := RX0) (T := TX0) (N := 7) hx hb hts in_X0 hown hK hP 0 rfl rfl 1 (by decide) (hts _ q25) (fun _ h9 => h9) rfl dX0_together_60 ?_
          refine lv_iload hx hb dX0_together_63 (lv_at hl 0 rfl) ?_
          refine n_iald0 (f := ou) (i := (sb * 3) + i) hx hb hK hP 2 0 rfl rfl (by omega) (by decide) dX0_together_65 ?_
          refine lv_icmp_eq (tgt := 71) hx hb dX0_together_66 (by decide) (fun c_66 => ?_) (fun c_66 => ?_)
          · skip
            refine lv_aload_n hx hb dX0_together_71 rfl (lv_at hl 2 rfl) ?_
            refine va_get (D := D) (ci := 0) (v := .ref qg) (C := RX0) (T := TX0) (N := 7) hx hb hts in_X0 hown hK hP 0 rfl rfl 4 (by decide) (hts _ q28) (fun _ h9 => h9) rfl dX0_together_72 ?_
            refine lv_iload_n hx hb dX0_together_75 rfl (lv_at hl 3 rfl) ?_
            refine lv_bipush (v := nI 16) hx hb dX0_together_76 (by decide) ?_
            refine n_imul hx hb dX0_together_78 ?_
            refine lv_aload_n hx hb dX0_together_79 rfl (lv_at hl 2 rfl) ?_
            refine va_get (D := D) (ci := 0) (v := .ref qn) (C := RX0) (T := TX0) (N := 7) hx hb hts in_X0 hown hK hP 0 rfl rfl 0 (by decide) (hts _ q24) (fun _ h9 => h9) rfl dX0_together_80 ?_
            refine lv_iload hx hb dX0_together_83 (lv_at hl 1 rfl) ?_
            refine n_iald (g := nx) (i := (sa * 3) + i) hx hb hK hP 1 0 rfl rfl (by omega) (by decide) dX0_together_85 ?_
            have hn_85 := hnx ((sa * 3) + i)
            refine n_iadd hx hb dX0_together_86 ?_
            refine n_iald (g := gr) (i := (ra * 16) + (nx ((sa * 3) + i))) hx hb hK hP 3 0 rfl rfl (by omega) (by decide) dX0_together_87 ?_
            refine lv_aload_n hx hb dX0_together_88 rfl (lv_at hl 2 rfl) ?_
            refine va_get (D := D) (ci := 0) (v := .ref qg) (C := RX0) (T := TX0) (N := 7) hx hb hts in_X0 hown hK hP 0 rfl rfl 4 (by decide) (hts _ q28) (fun _ h9 => h9) rfl dX0_together_89 ?_
            refine lv_iload_n hx hb dX0_together_92 rfl (lv_at hl 3 rfl) ?_
            refine lv_bipush (v := nI 16) hx hb dX0_together_93 (by decide) ?_
            refine n_imul hx hb dX0_together_95 ?_
            refine lv_aload_n hx hb dX0_together_96 rfl (lv_at hl 2 rfl) ?_
            refine va_get (D := D) (ci := 0) (v := .ref qn) (C := RX0) (T := TX0) (N := 7) hx hb hts in_X0 hown hK hP 0 rfl rfl 0 (by decide) (hts _ q24) (fun _ h9 => h9) rfl dX0_together_97 ?_
            refine lv_iload hx hb dX0_together_100 (lv_at hl 0 rfl) ?_
            refine n_iald (g := nx) (i := (sb * 3) + i) hx hb hK hP 1 0 rfl rfl (by omega) (by decide) dX0_together_102 ?_
            have hn_102 := hnx ((sb * 3) + i)
            refine n_iadd hx hb dX0_together_103 ?_
            refine n_iald (g := gr) (i := (ra * 16) + (nx ((sb * 3) + i))) hx hb hK hP 3 0 rfl rfl (by omega) (by decide) dX0_together_104 ?_
            have hg3 := hgr _ hn_85
            have hg4 := hgr _ hn_102
            refine n_icmp_eq (tgt := 110) hx hb dX0_together_105 (by decide) (by omega) (by omega) (fun c_105 => ?_) (fun c_105 => ?_)
            · skip
              refine lv_iinc (v := nI (i + 1)) (lv' := [(4, .int (nI (i + 1))), (6, .int (nI ((sb * 3) + i))), (5, .int (nI ((sa * 3) + i))), (0, .ref h0), (1, .int (nI ra)), (2, .int (nI sa)), (3, .int (nI sb))]) hx hb dX0_together_110 hl (k := 6) rfl (nI_inc1 _) (by decide) rfl (fun ls hl => ?_)
              refine lv_goto (tgt := 30) hx hb dX0_together_113 (by decide) ?_
              exact ih_30 (i + 1) (by omega) (by omega) (lt_s hinv ⟨c_66, c_105⟩) ls (lv_sub hl [3, 4, 5, 6, 0] rfl)
            · skip
              refine lv_iconst (v := nI 0) hx hb dX0_together_108 (by decide) ?_
              exact cx_zret hQ hx hb hr hlocks hK (nx, ou, rd, ro, gr, le, wl) hP hD hS dX0_together_109 rfl ⟨by rw [show pm_tg nx ou (fun z => gr (ra * 16 + z)) sa sb = false from pm_tg_false (fun hc => c_105 (hc.2 i (by omega)).2)]; rfl, rfl⟩
          · skip
            refine lv_iconst (v := nI 0) hx hb dX0_together_69 (by decide) ?_
            exact cx_zret hQ hx hb hr hlocks hK (nx, ou, rd, ro, gr, le, wl) hP hD hS dX0_together_70 rfl ⟨by rw [show pm_tg nx ou (fun z => gr (ra * 16 + z)) sa sb = false from pm_tg_false (fun hc => c_66 (hc.2 i (by omega)).1)]; rfl, rfl⟩
    exact loop_30 4 0 (by omega) (by omega) (fun j hj => absurd hj (Nat.not_lt_zero j)) ls (lv_sub hl [1, 2, 3, 4, 0] rfl)
  · skip
    refine lv_iconst (v := nI 0) hx hb dX0_together_25 (by decide) ?_
    exact cx_zret hQ hx hb hr hlocks hK (nx, ou, rd, ro, gr, le, wl) hP hD hS dX0_together_26 rfl ⟨by rw [show pm_tg nx ou (fun z => gr (ra * 16 + z)) sa sb = false from pm_tg_false (fun hc => c_22 hc.1)]; rfl, rfl⟩

abbrev rmX0_split : Room := { frames := 1, cells := 0, slots := 0, locals := 26 }
set_option maxHeartbeats 400000 in
set_option maxRecDepth 100000 in
theorem mX0_split (l : Launch) (D : va_G) (dA : ClassId) (h0 qn qo qg ql sz : Nat) (nx : Nat → Nat) (ou : Nat → Int32) (rd ro : Nat) (gr le : Nat → Nat) (wl : Nat) (ra : Nat) (hra : ra ≤ 16) (hnx : ∀ i, nx i < 16) (hgr : ∀ z, z < 16 → gr (ra * 16 + z) < 16) : cM l yX0_split (ws_ yX0_split cX0_split 5 (some .boolean)) rmX0_split D [(dA, .int)] [.ref h0, .int (nI ra)] (xwf h0 qn qo qg ql dA (nx, ou, rd, ro, gr, le, wl)) sz (cQi D [(dA, .int)] (xwf h0 qn qo qg ql dA) (fun v u => ∃ (sm : Nat) (grx : Nat → Nat), v = nI sm ∧ u = (nx, ou, rd, ro, grx, le, wl) ∧ (∀ k, k < (ra + 1) * 16 ∨ (ra + 1) * 16 + 16 ≤ k → grx k = gr k) ∧ (∀ y, y < 16 → grx ((ra + 1) * 16 + y) = pm_nt nx ou (fun z => gr (ra * 16 + z)) y) ∧ ((sm = 0 ∧ ∀ y, y < 16 → pm_nt nx ou (fun z => gr (ra * 16 + z)) y = gr (ra * 16 + y)) ∨ (sm = 1 ∧ ∃ y, y < 16 ∧ pm_nt nx ou (fun z => gr (ra * 16 + z)) y ≠ gr (ra * 16 + y))))) := by
  refine cM_start (by decide) (Nat.le_of_ble_eq_true rfl) ?_
  intro p e s m args below meth c A ls Q hx hb hr hlocks hml hown hin hts hA hK hP hD hS hl hQ
  have hown : s.vm.findClass RX0 = some m.cls := hown
  have hl : lv_has ls 5 [(0, .ref h0), (1, .int (nI ra))] := hl
  refine lv_iconst (v := nI 0) hx hb dX0_split_0 (by decide) ?_
  refine lv_istore_n (lv' := [(2, .int (nI 0)), (0, .ref h0), (1, .int (nI ra))]) hx hb dX0_split_1 rfl hl (by decide) rfl (fun ls hl => ?_)
  refine lv_iconst (v := nI 0) hx hb dX0_split_2 (by decide) ?_
  refine lv_istore_n (lv' := [(3, .int (nI 0)), (2, .int (nI 0)), (0, .ref h0), (1, .int (nI ra))]) hx hb dX0_split_3 rfl hl (by decide) rfl (fun ls hl => ?_)
  have loop_4 : ∀ (n : Nat) (z : Nat) (sm : Nat) (grx : Nat → Nat), z ≤ 16 → 16 + 1 ≤ z + n → (∀ k, k < (ra + 1) * 16 ∨ (ra + 1) * 16 + z ≤ k → grx k = gr k) → (∀ y, y < z → grx ((ra + 1) * 16 + y) = pm_nt nx ou (fun z => gr (ra * 16 + z)) y) → ((sm = 0 ∧ ∀ y, y < z → pm_nt nx ou (fun z => gr (ra * 16 + z)) y = gr (ra * 16 + y)) ∨ (sm = 1 ∧ ∃ y, y < 16 ∧ pm_nt nx ou (fun z => gr (ra * 16 + z)) y ≠ gr (ra * 16 + y))) → ∀ (H : Heap) (locs : List Loc), va_P D vwCl (xwf h0 qn qo qg ql dA (nx, ou, rd, ro, grx, le, wl)) H → va_D A (xwf h0 qn qo qg ql dA (nx, ou, rd, ro, grx, le, wl)) → va_S A s.heap H locs → ∀ (ls : Array Slot), lv_has ls 5 [(0, .ref h0), (1, .int (nI ra)), (2, .int (nI sm)), (3, .int (nI z))] → W p l e rmX0_split s m args below meth c H locs 0 0 Q (F0 m 4 ls []) := by
    intro n
    induction n with
    | zero =>
      intro z sm grx hz hf hk hd hsm
      exact absurd hf (by omega)
    | succ n ih_4 =>
      intro z sm grx hz hf hk hd hsm H locs hP hD hS ls hl
      refine lv_iload_n hx hb dX0_split_4 rfl (lv_at hl 3 rfl) ?_
      refine lv_bipush (v := nI 16) hx hb dX0_split_5 (by decide) ?_
      refine n_icmp_ge (tgt := 75) hx hb dX0_split_7 (by decide) (by omega) (by omega) (fun c_7 => ?_) (fun c_7 => ?_)
      · skip
        refine lv_iload_n hx hb dX0_split_75 rfl (lv_at hl 2 rfl) ?_
        have ez : z = 16 := by omega
        subst ez
        have hnar : narrow .boolean (.int (nI sm)) = .int (nI sm) := by rcases hsm with ⟨q, -⟩ | ⟨q, -⟩ <;> rw [q] <;> rfl
        exact cx_zret hQ hx hb hr hlocks hK (nx, ou, rd, ro, grx, le, wl) hP hD hS dX0_split_76 hnar ⟨sm, grx, rfl, rfl, hk, hd, hsm⟩
      · skip
        refine lv_iconst (v := nI 0) hx hb dX0_split_10 (by decide) ?_
        refine lv_istore (lv' := [(4, .int (nI 0)), (0, .ref h0), (1, .int (nI ra)), (2, .int (nI sm)), (3, .int (nI z))]) hx hb dX0_split_11 hl (by decide) rfl (fun ls hl => ?_)
        have loop_13 : ∀ (n : Nat) (t : Nat), t ≤ z → z + 1 ≤ t + n → (∀ j, j < t → pm_tg nx ou (fun z => gr (ra * 16 + z)) j z = false) → ∀ (H : Heap) (locs : List Loc), va_P D vwCl (xwf h0 qn qo qg ql dA (nx, ou, rd, ro, grx, le, wl)) H → va_D A (xwf h0 qn qo qg ql dA (nx, ou, rd, ro, grx, le, wl)) → va_S A s.heap H locs → ∀ (ls : Array Slot), lv_has ls 5 [(0, .ref h0), (1, .int (nI ra)), (2, .int (nI sm)), (3, .int (nI z)), (4, .int (nI t))] → W p l e rmX0_split s m args below meth c H locs 0 0 Q (F0 m 13 ls []) := by
          intro n
          induction n with
          | zero =>
            intro t htz hft htg
            exact absurd hft (by omega)
          | succ n ih_13 =>
            intro t htz hft htg H locs hP hD hS ls hl
            refine lv_iload hx hb dX0_split_13 (lv_at hl 4 rfl) ?_
            refine lv_iload_n hx hb dX0_split_15 rfl (lv_at hl 3 rfl) ?_
            refine n_icmp_ge (tgt := 36) hx hb dX0_split_16 (by decide) (by omega) (by omega) (fun c_16 => ?_) (fun c_16 => ?_)
            · skip
              have ht : pm_nt nx ou (fun z => gr (ra * 16 + z)) z = t := pm_nt_of (by omega) htg (fun q => absurd q (by omega))
              refine lv_aload_n hx hb dX0_split_36 rfl (lv_at hl 0 rfl) ?_
              refine va_get (D := D) (ci := 0) (v := .ref qg) (C := RX0) (T := TX0) (N := 7) hx hb hts in_X0 hown hK hP 0 rfl rfl 4 (by decide) (hts _ q28) (fun _ h9 => h9) rfl dX0_split_37 ?_
              refine lv_iload_n hx hb dX0_split_40 rfl (lv_at hl 1 rfl) ?_
              refine lv_iconst (v := nI 1) hx hb dX0_split_41 (by decide) ?_
              refine n_iadd hx hb dX0_split_42 ?_
              refine lv_bipush (v := nI 16) hx hb dX0_split_43 (by decide) ?_
              refine n_imul hx hb dX0_split_45 ?_
              refine lv_iload_n hx hb dX0_split_46 rfl (lv_at hl 3 rfl) ?_
              refine n_iadd hx hb dX0_split_47 ?_
              refine lv_iload hx hb dX0_split_48 (lv_at hl 4 rfl) ?_
              refine n_iast (g := grx) hx hb hK hP hD hS 3 0 rfl rfl (by omega) (by decide) dX0_split_50 (fun H locs hP hD hS => ?_)
              have hP : va_P D vwCl (xwf h0 qn qo qg ql dA (nx, ou, rd, ro, pm_up grx (((ra + 1) * 16) + z) t, le, wl)) H := hP
              have hD : va_D A (xwf h0 qn qo qg ql dA (nx, ou, rd, ro, pm_up grx (((ra + 1) * 16) + z) t, le, wl)) := hD
              refine lv_iload hx hb dX0_split_51 (lv_at hl 4 rfl) ?_
              refine lv_aload_n hx hb dX0_split_53 rfl (lv_at hl 0 rfl) ?_
              refine va_get (D := D) (ci := 0) (v := .ref qg) (C := RX0) (T := TX0) (N := 7) hx hb hts in_X0 hown hK hP 0 rfl rfl 4 (by decide) (hts _ q28) (fun _ h9 => h9) rfl dX0_split_54 ?_
              refine lv_iload_n hx hb dX0_split_57 rfl (lv_at hl 1 rfl) ?_
              refine lv_bipush (v := nI 16) hx hb dX0_split_58 (by decide) ?_
              refine n_imul hx hb dX0_split_60 ?_
              refine lv_iload_n hx hb dX0_split_61 rfl (lv_at hl 3 rfl) ?_
              refine n_iadd hx hb dX0_split_62 ?_
              refine n_iald (g := pm_up grx (((ra + 1) * 16) + z) t) (i := (ra * 16) + z) hx hb hK hP 3 0 rfl rfl (by omega) (by decide) dX0_split_63 ?_
              have hv64 : pm_up grx ((ra + 1) * 16 + z) t (ra * 16 + z) = gr (ra * 16 + z) := by rw [pm_up_n (by omega)]; exact hk _ (Or.inl (by omega))
              refine n_top _ (nI (gr (ra * 16 + z))) (by rw [hv64]) ?_
              have hg64 := hgr z (by omega)
              refine n_icmp_eq (tgt := 69) hx hb dX0_split_64 (by decide) (by omega) (by omega) (fun c_64 => ?_) (fun c_64 => ?_)
              · skip
                refine lv_iinc (v := nI (z + 1)) (lv' := [(3, .int (nI (z + 1))), (0, .ref h0), (1, .int (nI ra)), (2, .int (nI sm)), (4, .int (nI t))]) hx hb dX0_split_69 hl (k := 3) rfl (nI_inc1 _) (by decide) rfl (fun ls hl => ?_)
                refine lv_goto (tgt := 4) hx hb dX0_split_72 (by decide) ?_
                exact ih_4 (z + 1) sm (pm_up grx ((ra + 1) * 16 + z) t) (by omega) (by omega) (fun k hkk => by rw [pm_up_n (by omega)]; exact hk k (by omega)) (lt_s (fun y hy => by rw [pm_up_n (by omega)]; exact hd y hy) (by rw [pm_up_s, ht])) (hsm.imp (fun q => ⟨q.1, lt_s q.2 (ht.trans c_64)⟩) id) H locs hP hD hS ls (lv_sub hl [1, 2, 3, 0] rfl)
              · skip
                refine lv_iconst (v := nI 1) hx hb dX0_split_67 (by decide) ?_
                refine lv_istore_n (lv' := [(2, .int (nI 1)), (0, .ref h0), (1, .int (nI ra)), (3, .int (nI z)), (4, .int (nI t))]) hx hb dX0_split_68 rfl hl (by decide) rfl (fun ls hl => ?_)
                refine lv_iinc (v := nI (z + 1)) (lv' := [(3, .int (nI (z + 1))), (2, .int (nI 1)), (0, .ref h0), (1, .int (nI ra)), (4, .int (nI t))]) hx hb dX0_split_69 hl (k := 3) rfl (nI_inc1 _) (by decide) rfl (fun ls hl => ?_)
                refine lv_goto (tgt := 4) hx hb dX0_split_72 (by decide) ?_
                exact ih_4 (z + 1) 1 (pm_up grx ((ra + 1) * 16 + z) t) (by omega) (by omega) (fun k hkk => by rw [pm_up_n (by omega)]; exact hk k (by omega)) (lt_s (fun y hy => by rw [pm_up_n (by omega)]; exact hd y hy) (by rw [pm_up_s, ht])) (Or.inr ⟨rfl, z, by omega, fun q => c_64 (ht.symm.trans q)⟩) H locs hP hD hS ls (lv_sub hl [2, 3, 1, 0] rfl)
            · skip
              refine lv_aload_n hx hb dX0_split_19 rfl (lv_at hl 0 rfl) ?_
              refine lv_iload_n hx hb dX0_split_20 rfl (lv_at hl 1 rfl) ?_
              refine lv_iload hx hb dX0_split_21 (lv_at hl 4 rfl) ?_
              refine lv_iload_n hx hb dX0_split_23 rfl (lv_at hl 3 rfl) ?_
              have hgx : ∀ z, z < 16 → grx (ra * 16 + z) < 16 := fun z hz => by rw [hk _ (Or.inl (by omega))]; exact hgr z hz
              refine cx_V (As := [.int (nI ra), .int (nI t), .int (nI z)]) (rest := []) (q0 := 0) (ci := 0) (C := RX0) (T := TX0) (N := 7) ⟨hx, hb, hml, hown, hts⟩ (mX0_together l D dA h0 qn qo qg ql H.size nx ou rd ro grx le wl ra t z (by omega) (by omega) (by omega) hnx hgx) (cwV 3 hts (lw_V q70 q72 qs2 q14 q73) rfl rfl rfl (by decide +kernel) ⟨Nat.le_of_ble_eq_true rfl, Nat.le_of_ble_eq_true rfl⟩) hK hP hD hS hA rfl rfl rfl rfl hl.1 (Nat.le_of_ble_eq_true rfl) dX0_split_24 rfl rfl ⟨Nat.zero_le _, Nat.zero_le _⟩ (fun rv uv H locs hw hP hD hS => ?_)
              obtain ⟨rfl, rfl⟩ := hw
              rw [pm_tg_cong (G := fun z => grx (ra * 16 + z)) (G' := (fun z => gr (ra * 16 + z))) hnx (fun z hz => hk _ (Or.inl (by omega))) (show t < 16 by omega) (show z < 16 by omega)]
              refine b_if_ne (tgt := 36) hx hb dX0_split_27 (by decide) (fun c_27 => ?_) (fun c_27 => ?_)
              · skip
                have ht : pm_nt nx ou (fun z => gr (ra * 16 + z)) z = t := pm_nt_of (by omega) htg (fun _ => c_27)
                refine lv_aload_n hx hb dX0_split_36 rfl (lv_at hl 0 rfl) ?_
                refine va_get (D := D) (ci := 0) (v := .ref qg) (C := RX0) (T := TX0) (N := 7) hx hb hts in_X0 hown hK hP 0 rfl rfl 4 (by decide) (hts _ q28) (fun _ h9 => h9) rfl dX0_split_37 ?_
                refine lv_iload_n hx hb dX0_split_40 rfl (lv_at hl 1 rfl) ?_
                refine lv_iconst (v := nI 1) hx hb dX0_split_41 (by decide) ?_
                refine n_iadd hx hb dX0_split_42 ?_
                refine lv_bipush (v := nI 16) hx hb dX0_split_43 (by decide) ?_
                refine n_imul hx hb dX0_split_45 ?_
                refine lv_iload_n hx hb dX0_split_46 rfl (lv_at hl 3 rfl) ?_
                refine n_iadd hx hb dX0_split_47 ?_
                refine lv_iload hx hb dX0_split_48 (lv_at hl 4 rfl) ?_
                refine n_iast (g := grx) hx hb hK hP hD hS 3 0 rfl rfl (by omega) (by decide) dX0_split_50 (fun H locs hP hD hS => ?_)
                have hP : va_P D vwCl (xwf h0 qn qo qg ql dA (nx, ou, rd, ro, pm_up grx (((ra + 1) * 16) + z) t, le, wl)) H := hP
                have hD : va_D A (xwf h0 qn qo qg ql dA (nx, ou, rd, ro, pm_up grx (((ra + 1) * 16) + z) t, le, wl)) := hD
                refine lv_iload hx hb dX0_split_51 (lv_at hl 4 rfl) ?_
                refine lv_aload_n hx hb dX0_split_53 rfl (lv_at hl 0 rfl) ?_
                refine va_get (D := D) (ci := 0) (v := .ref qg) (C := RX0) (T := TX0) (N := 7) hx hb hts in_X0 hown hK hP 0 rfl rfl 4 (by decide) (hts _ q28) (fun _ h9 => h9) rfl dX0_split_54 ?_
                refine lv_iload_n hx hb dX0_split_57 rfl (lv_at hl 1 rfl) ?_
                refine lv_bipush (v := nI 16) hx hb dX0_split_58 (by decide) ?_
                refine n_imul hx hb dX0_split_60 ?_
                refine lv_iload_n hx hb dX0_split_61 rfl (lv_at hl 3 rfl) ?_
                refine n_iadd hx hb dX0_split_62 ?_
                refine n_iald (g := pm_up grx (((ra + 1) * 16) + z) t) (i := (ra * 16) + z) hx hb hK hP 3 0 rfl rfl (by omega) (by decide) dX0_split_63 ?_
                have hv64 : pm_up grx ((ra + 1) * 16 + z) t (ra * 16 + z) = gr (ra * 16 + z) := by rw [pm_up_n (by omega)]; exact hk _ (Or.inl (by omega))
                refine n_top _ (nI (gr (ra * 16 + z))) (by rw [hv64]) ?_
                have hg64 := hgr z (by omega)
                refine n_icmp_eq (tgt := 69) hx hb dX0_split_64 (by decide) (by omega) (by omega) (fun c_64 => ?_) (fun c_64 => ?_)
                · skip
                  refine lv_iinc (v := nI (z + 1)) (lv' := [(3, .int (nI (z + 1))), (0, .ref h0), (1, .int (nI ra)), (2, .int (nI sm)), (4, .int (nI t))]) hx hb dX0_split_69 hl (k := 3) rfl (nI_inc1 _) (by decide) rfl (fun ls hl => ?_)
                  refine lv_goto (tgt := 4) hx hb dX0_split_72 (by decide) ?_
                  exact ih_4 (z + 1) sm (pm_up grx ((ra + 1) * 16 + z) t) (by omega) (by omega) (fun k hkk => by rw [pm_up_n (by omega)]; exact hk k (by omega)) (lt_s (fun y hy => by rw [pm_up_n (by omega)]; exact hd y hy) (by rw [pm_up_s, ht])) (hsm.imp (fun q => ⟨q.1, lt_s q.2 (ht.trans c_64)⟩) id) H locs hP hD hS ls (lv_sub hl [1, 2, 3, 0] rfl)
                · skip
                  refine lv_iconst (v := nI 1) hx hb dX0_split_67 (by decide) ?_
                  refine lv_istore_n (lv' := [(2, .int (nI 1)), (0, .ref h0), (1, .int (nI ra)), (3, .int (nI z)), (4, .int (nI t))]) hx hb dX0_split_68 rfl hl (by decide) rfl (fun ls hl => ?_)
                  refine lv_iinc (v := nI (z + 1)) (lv' := [(3, .int (nI (z + 1))), (2, .int (nI 1)), (0, .ref h0), (1, .int (nI ra)), (4, .int (nI t))]) hx hb dX0_split_69 hl (k := 3) rfl (nI_inc1 _) (by decide) rfl (fun ls hl => ?_)
                  refine lv_goto (tgt := 4) hx hb dX0_split_72 (by decide) ?_
                  exact ih_4 (z + 1) 1 (pm_up grx ((ra + 1) * 16 + z) t) (by omega) (by omega) (fun k hkk => by rw [pm_up_n (by omega)]; exact hk k (by omega)) (lt_s (fun y hy => by rw [pm_up_n (by omega)]; exact hd y hy) (by rw [pm_up_s, ht])) (Or.inr ⟨rfl, z, by omega, fun q => c_64 (ht.symm.trans q)⟩) H locs hP hD hS ls (lv_sub hl [2, 3, 1, 0] rfl)
              · skip
                refine lv_iinc (v := nI (t + 1)) (lv' := [(4, .int (nI (t + 1))), (0, .ref h0), (1, .int (nI ra)), (2, .int (nI sm)), (3, .int (nI z))]) hx hb dX0_split_30 hl (k := 4) rfl (nI_inc1 _) (by decide) rfl (fun ls hl => ?_)
                refine lv_goto (tgt := 13) hx hb dX0_split_33 (by decide) ?_
                exact ih_13 (t + 1) (by omega) (by omega) (lt_s htg c_27) H locs hP hD hS ls (lv_sub hl [1, 2, 3, 4, 0] rfl)
        exact loop_13 (z + 1) 0 (by omega) (by omega) (fun j hj => absurd hj (Nat.not_lt_zero j)) _ _ hP hD hS ls (lv_sub hl [1, 2, 3, 4, 0] rfl)
  exact loop_4 17 0 0 gr (by omega) (by omega) (fun _ _ => rfl) (fun y hy => absurd hy (Nat.not_lt_zero y)) (Or.inl ⟨rfl, fun y hy => absurd hy (Nat.not_lt_zero y)⟩) _ _ hP hD hS ls (lv_sub hl [2, 3, 1, 0] rfl)
end
section
/-! ===== MachineTwins: prepare, parting, firstInput, findWord ===== -/
abbrev rmX0_parting : Room := { frames := 1, cells := 0, slots := 0, locals := 22 }
set_option maxHeartbeats 400000 in
set_option maxRecDepth 100000 in
theorem mX0_parting (l : Launch) (D : va_G) (dA : ClassId) (h0 qn qo qg ql sz : Nat) (nx : Nat → Nat) (ou : Nat → Int32) (rd ro : Nat) (gr le : Nat → Nat) (wl : Nat) (sa sb : Nat) (hsa : sa < 16) (hsb : sb < 16) (hro : ro ≤ 16) (hgr : ∀ q, q ≤ ro → ∀ z, z < 16 → gr (q * 16 + z) < 16) : cM l yX0_parting (ws_ yX0_parting cX0_parting 6 (some .int)) rmX0_parting D [(dA, .int)] [.ref h0, .int (nI sa), .int (nI sb)] (xwf h0 qn qo qg ql dA (nx, ou, rd, ro, gr, le, wl)) sz (cQi D [(dA, .int)] (xwf h0 qn qo qg ql dA) (fun v u => v = nI (pm_pt gr ro sa sb) ∧ u = (nx, ou, rd, ro, gr, le, wl))) := by
  refine cM_start (by decide) (Nat.le_of_ble_eq_true rfl) ?_
  intro p e s m args below meth c A ls Q hx hb hr hlocks hml hown hin hts hA hK hP hD hS hl hQ
  have hown : s.vm.findClass RX0 = some m.cls := hown
  have hl : lv_has ls 6 [(0, .ref h0), (1, .int (nI sa)), (2, .int (nI sb))] := hl
  refine lv_iconst (v := nI 1) hx hb dX0_parting_0 (by decide) ?_
  refine lv_istore_n (lv' := [(3, .int (nI 1)), (0, .ref h0), (1, .int (nI sa)), (2, .int (nI sb))]) hx hb dX0_parting_1 rfl hl (by decide) rfl (fun ls hl => ?_)
  have loop_2 : ∀ (n : Nat) (k : Nat), k ≤ ro → ro + 1 ≤ k + n → (∀ j, j < k → gr ((j + 1) * 16 + sa) = gr ((j + 1) * 16 + sb)) → ∀ (H : Heap) (locs : List Loc), va_P D vwCl (xwf h0 qn qo qg ql dA (nx, ou, rd, ro, gr, le, wl)) H → va_D A (xwf h0 qn qo qg ql dA (nx, ou, rd, ro, gr, le, wl)) → va_S A s.heap H locs → ∀ (ls : Array Slot), lv_has ls 6 [(0, .ref h0), (1, .int (nI sa)), (2, .int (nI sb)), (3, .int (nI (k + 1)))] → W p l e rmX0_parting s m args below meth c H locs 0 0 Q (F0 m 2 ls []) := by
    intro n
    induction n with
    | zero =>
      intro k hk hf hinv
      exact absurd hf (by omega)
    | succ n ih_2 =>
      intro k hk hf hinv H locs hP hD hS ls hl
      refine lv_iload_n hx hb dX0_parting_2 rfl (lv_at hl 3 rfl) ?_
      refine lv_aload_n hx hb dX0_parting_3 rfl (lv_at hl 0 rfl) ?_
      refine va_get (D := D) (ci := 0) (v := .int (nI ro)) (C := RX0) (T := TX0) (N := 7) hx hb hts in_X0 hown hK hP 0 rfl rfl 3 (by decide) (hts _ q27) (fun _ h9 => h9) rfl dX0_parting_4 ?_
      refine n_icmp_gt (tgt := 41) hx hb dX0_parting_7 (by decide) (by omega) (by omega) (fun c_7 => ?_) (fun c_7 => ?_)
      · skip
        refine lv_iconst (v := nI 0) hx hb dX0_parting_41 (by decide) ?_
        exact cx_iret hQ hx hb hr hlocks hK (nx, ou, rd, ro, gr, le, wl) hP hD hS dX0_parting_42 ⟨by rw [pm_pt_no (fun j hj => hinv j (by omega))], rfl⟩
      · skip
        refine lv_aload_n hx hb dX0_parting_10 rfl (lv_at hl 0 rfl) ?_
        refine lv_iload_n hx hb dX0_parting_11 rfl (lv_at hl 3 rfl) ?_
        refine lv_iload_n hx hb dX0_parting_12 rfl (lv_at hl 1 rfl) ?_
        refine cx_V (As := [.int (nI (k + 1)), .int (nI sa)]) (rest := []) (q0 := 0) (ci := 0) (C := RX0) (T := TX0) (N := 7) ⟨hx, hb, hml, hown, hts⟩ (mX0_groupOf l D dA h0 qn qo qg ql H.size nx ou rd ro gr le wl (k + 1) sa (by omega)) (cwV 2 hts (lw_V q78 q80 qs4 q14 q81) rfl rfl rfl (by decide +kernel) ⟨Nat.le_of_ble_eq_true rfl, Nat.le_of_ble_eq_true rfl⟩) hK hP hD hS hA rfl rfl rfl rfl hl.1 (Nat.le_of_ble_eq_true rfl) dX0_parting_13 rfl rfl ⟨Nat.zero_le _, Nat.zero_le _⟩ (fun rv uv H locs hw hP hD hS => ?_)
        obtain ⟨rfl, rfl⟩ := hw
        refine lv_istore (lv' := [(4, .int (nI (gr ((k + 1) * 16 + sa)))), (0, .ref h0), (1, .int (nI sa)), (2, .int (nI sb)), (3, .int (nI (k + 1)))]) hx hb dX0_parting_16 hl (by decide) rfl (fun ls hl => ?_)
        refine lv_aload_n hx hb dX0_parting_18 rfl (lv_at hl 1 rfl) ?_
        refine lv_iload_n hx hb dX0_parting_19 rfl (lv_at hl 4 rfl) ?_
        refine lv_iload_n hx hb dX0_parting_20 rfl (lv_at hl 3 rfl) ?_
        refine cx_V (As := [.int (nI (k + 1)), .int (nI sb)]) (rest := []) (q0 := 0) (ci := 0) (C := RX0) (T := TX0) (N := 7) ⟨hx, hb, hml, hown, hts⟩ (mX0_groupOf l D dA h0 qn qo qg ql H.size nx ou rd ro gr le wl (k + 1) sb (by omega)) (cwV 2 hts (lw_V q78 q80 qs4 q14 q81) rfl rfl rfl (by decide +kernel) ⟨Nat.le_of_ble_eq_true rfl, Nat.le_of_ble_eq_true rfl⟩) hK hP hD hS hA rfl rfl rfl rfl hl.1 (Nat.le_of_ble_eq_true rfl) dX0_parting_21 rfl rfl ⟨Nat.zero_le _, Nat.zero_le _⟩ (fun rv uv H locs hw hP hD hS => ?_)
        obtain ⟨rfl, rfl⟩ := hw
        refine lv_istore (lv' := [(5, .int (nI (gr ((k + 1) * 16 + sb)))), (4, .int (nI (gr ((k + 1) * 16 + sa)))), (0, .ref h0), (1, .int (nI sa)), (2, .int (nI sb)), (3, .int (nI (k + 1)))]) hx hb dX0_parting_24 hl (by decide) rfl (fun ls hl => ?_)
        refine lv_iload hx hb dX0_parting_26 (lv_at hl 1 rfl) ?_
        refine lv_iload hx hb dX0_parting_28 (lv_at hl 0 rfl) ?_
        have hg1 := hgr (k + 1) (by omega) sa hsa
        have hg2 := hgr (k + 1) (by omega) sb hsb
        refine n_icmp_eq (tgt := 35) hx hb dX0_parting_30 (by decide) (by omega) (by omega) (fun c_30 => ?_) (fun c_30 => ?_)
        · skip
          refine lv_iinc (v := nI (k + 1 + 1)) (lv' := [(3, .int (nI (k + 1 + 1))), (5, .int (nI (gr ((k + 1) * 16 + sb)))), (4, .int (nI (gr ((k + 1) * 16 + sa)))), (0, .ref h0), (1, .int (nI sa)), (2, .int (nI sb))]) hx hb dX0_parting_35 hl (k := 5) rfl (nI_inc1 _) (by decide) rfl (fun ls hl => ?_)
          refine lv_goto (tgt := 2) hx hb dX0_parting_38 (by decide) ?_
          exact ih_2 (k + 1) (by omega) (by omega) (lt_s hinv c_30) H locs hP hD hS ls (lv_sub hl [3, 4, 5, 0] rfl)
        · skip
          refine lv_iload_n hx hb dX0_parting_33 rfl (lv_at hl 5 rfl) ?_
          exact cx_iret hQ hx hb hr hlocks hK (nx, ou, rd, ro, gr, le, wl) hP hD hS dX0_parting_34 ⟨by rw [pm_pt_hit (by omega) hinv c_30], rfl⟩
  exact loop_2 (ro + 1) 0 (by omega) (by omega) (fun j hj => absurd hj (Nat.not_lt_zero j)) _ _ hP hD hS ls (lv_sub hl [1, 2, 3, 0] rfl)

/-- a round more -/
theorem pm_round {nx : Nat → Nat} {ou : Nat → Int32} (hn : ∀ i, nx i < 16) {rr sm : Nat} {gx gy : Nat → Nat} (hx : ∀ z, z < 16 → gx ((rr) * 16 + z) = pm_g nx ou rr z) (hd : ∀ y, y < 16 → gy ((rr + 1) * 16 + y) = pm_nt nx ou (fun z => gx (rr * 16 + z)) y) (hs : (sm = 0 ∧ ∀ y, y < 16 → pm_nt nx ou (fun z => gx (rr * 16 + z)) y = gx (rr * 16 + y)) ∨ (sm = 1 ∧ ∃ y, y < 16 ∧ pm_nt nx ou (fun z => gx (rr * 16 + z)) y ≠ gx (rr * 16 + y))) : (∀ z, z < 16 → gy ((rr + 1) * 16 + z) = pm_g nx ou (rr + 1) z) ∧ ((sm = 0 ∧ ∀ z, z < 16 → pm_g nx ou (rr + 1) z = pm_g nx ou rr z) ∨ (sm = 1 ∧ ∃ z, z < 16 ∧ pm_g nx ou (rr + 1) z ≠ pm_g nx ou rr z)) := by
  have e : ∀ y, y < 16 → pm_nt nx ou (fun z => gx (rr * 16 + z)) y = pm_g nx ou (rr + 1) y := fun y hy => pm_nt_cong hn hx hy
  refine ⟨fun z hz => by rw [hd z hz, e z hz], ?_⟩
  rcases hs with ⟨q1, q2⟩ | ⟨q1, y, q2, q3⟩
  · exact Or.inl ⟨q1, fun z hz => by rw [← e z hz, q2 z hz, hx z hz]⟩
  · exact Or.inr ⟨q1, y, q2, by rw [← e y q2, ← hx y q2]; exact q3⟩

abbrev rmX0_prepare : Room := { frames := 2, cells := 0, slots := 0, locals := 50 }
set_option maxHeartbeats 400000 in
set_option maxRecDepth 100000 in
theorem mX0_prepare (l : Launch) (D : va_G) (dA : ClassId) (h0 qn qo qg ql sz : Nat) (nx : Nat → Nat) (ou : Nat → Int32) (rd ro : Nat) (gr le : Nat → Nat) (wl : Nat) (hv : pm_xv nx ou rd ro gr) (hnx : ∀ i, nx i < 16) : cM l yX0_prepare (ws_ yX0_prepare cX0_prepare 2 none) rmX0_prepare D [(dA, .int)] [.ref h0] (xwf h0 qn qo qg ql dA (nx, ou, rd, ro, gr, le, wl)) sz (cQv D [(dA, .int)] (xwf h0 qn qo qg ql dA) (fun u => ∃ (ro1 : Nat) (gr1 : Nat → Nat), u = (nx, ou, 1, ro1, gr1, le, wl) ∧ pm_pr nx ou ro1 gr1)) := by
  refine cM_start (by decide) (Nat.le_of_ble_eq_true rfl) ?_
  intro p e s m args below meth c A ls Q hx hb hr hlocks hml hown hin hts hA hK hP hD hS hl hQ
  have hown : s.vm.findClass RX0 = some m.cls := hown
  have hl : lv_has ls 2 [(0, .ref h0)] := hl
  have hrd : rd ≤ 1 := by rcases hv with q | ⟨q, -⟩ <;> omega
  refine lv_aload_n hx hb dX0_prepare_0 rfl (lv_at hl 0 rfl) ?_
  refine va_get (D := D) (ci := 0) (v := .int (nI rd)) (C := RX0) (T := TX0) (N := 7) hx hb hts in_X0 hown hK hP 0 rfl rfl 2 (by decide) (hts _ q26) (fun _ h9 => h9) rfl dX0_prepare_1 ?_
  refine n_if_eq (tgt := 8) hx hb dX0_prepare_4 (by decide) (by omega) (fun c_4 => ?_) (fun c_4 => ?_)
  · skip
    refine lv_aload_n hx hb dX0_prepare_8 rfl (lv_at hl 0 rfl) ?_
    refine lv_iconst (v := nI 1) hx hb dX0_prepare_9 (by decide) ?_
    refine va_put (D := D) (ci := 0) (v := .int (nI 1)) (ty := .boolean) (C := RX0) (T := TX0) (N := 7) hx hb hts in_X0 tyX0 tyX0_ok nmX0 hown hK hP hD hS 0 rfl rfl 2 (by decide) (hts _ q26) (fun _ h9 => h9) rfl (by decide +kernel) rfl rfl (Nat.le_of_ble_eq_true rfl) dX0_prepare_10 (fun H locs hP hD hS => ?_)
    have hP : va_P D vwCl (xwf h0 qn qo qg ql dA (nx, ou, 1, ro, gr, le, wl)) H := hP
    have hD : va_D A (xwf h0 qn qo qg ql dA (nx, ou, 1, ro, gr, le, wl)) := hD
    refine lv_aload_n hx hb dX0_prepare_13 rfl (lv_at hl 0 rfl) ?_
    refine lv_iconst (v := nI 0) hx hb dX0_prepare_14 (by decide) ?_
    refine va_put (D := D) (ci := 0) (v := .int (nI 0)) (ty := .int) (C := RX0) (T := TX0) (N := 7) hx hb hts in_X0 tyX0 tyX0_ok nmX0 hown hK hP hD hS 0 rfl rfl 3 (by decide) (hts _ q27) (fun _ h9 => h9) rfl (by decide +kernel) rfl rfl (Nat.le_of_ble_eq_true rfl) dX0_prepare_15 (fun H locs hP hD hS => ?_)
    have hP : va_P D vwCl (xwf h0 qn qo qg ql dA (nx, ou, 1, 0, gr, le, wl)) H := hP
    have hD : va_D A (xwf h0 qn qo qg ql dA (nx, ou, 1, 0, gr, le, wl)) := hD
    refine lv_iconst (v := nI 0) hx hb dX0_prepare_18 (by decide) ?_
    refine lv_istore_n (lv' := [(1, .int (nI 0)), (0, .ref h0)]) hx hb dX0_prepare_19 rfl hl (by decide) rfl (fun ls hl => ?_)
    have loop_20 : ∀ (n : Nat) (z : Nat) (grx : Nat → Nat), z ≤ 16 → 16 + 1 ≤ z + n → (∀ y, y < z → grx y = 0) → ∀ (H : Heap) (locs : List Loc), va_P D vwCl (xwf h0 qn qo qg ql dA (nx, ou, 1, 0, grx, le, wl)) H → va_D A (xwf h0 qn qo qg ql dA (nx, ou, 1, 0, grx, le, wl)) → va_S A s.heap H locs → ∀ (ls : Array Slot), lv_has ls 2 [(0, .ref h0), (1, .int (nI z))] → W p l e rmX0_prepare s m args below meth c H locs 0 0 Q (F0 m 20 ls []) := by
      intro n
      induction n with
      | zero =>
        intro z grx hz hf hz0
        exact absurd hf (by omega)
      | succ n ih_20 =>
        intro z grx hz hf hz0 H locs hP hD hS ls hl
        refine lv_iload_n hx hb dX0_prepare_20 rfl (lv_at hl 1 rfl) ?_
        refine lv_bipush (v := nI 16) hx hb dX0_prepare_21 (by decide) ?_
        refine n_icmp_ge (tgt := 39) hx hb dX0_prepare_23 (by decide) (by omega) (by omega) (fun c_23 => ?_) (fun c_23 => ?_)
        · skip
          refine lv_aload_n hx hb dX0_prepare_39 rfl (lv_at hl 0 rfl) ?_
          refine lv_iconst (v := nI 0) hx hb dX0_prepare_40 (by decide) ?_
          have hgx : ∀ z, z < 16 → grx (0 * 16 + z) < 16 := fun z hz => by rw [show 0 * 16 + z = z by omega, hz0 z (by omega)]; decide
          refine cx_V (As := [.int (nI 0)]) (rest := []) (q0 := 0) (ci := 0) (C := RX0) (T := TX0) (N := 7) ⟨hx, hb, hml, hown, hts⟩ (mX0_split l D dA h0 qn qo qg ql H.size nx ou 1 0 grx le wl 0 (by omega) hnx hgx) (cwV 1 hts (lw_V q66 q68 qs1 q14 q69) rfl rfl rfl (by decide +kernel) ⟨Nat.le_of_ble_eq_true rfl, Nat.le_of_ble_eq_true rfl⟩) hK hP hD hS hA rfl rfl rfl rfl hl.1 (Nat.le_of_ble_eq_true rfl) dX0_prepare_41 rfl rfl ⟨Nat.zero_le _, Nat.zero_le _⟩ (fun rv uv H locs hw hP hD hS => ?_)
          obtain ⟨sm1, gr1, rfl, rfl, hk1, hd1, hs1⟩ := hw
          have hr1 := pm_round (rr := 0) hnx (fun y hy => by rw [show 0 * 16 + y = y by omega, hz0 y (by omega)]; rfl) hd1 hs1
          refine lv_istore_n (lv' := [(1, .int (nI sm1)), (0, .ref h0)]) hx hb dX0_prepare_44 rfl hl (by decide) rfl (fun ls hl => ?_)
          have loop_45 : ∀ (n : Nat) (rr : Nat) (sm : Nat) (grx : Nat → Nat), rr ≤ 16 → 16 + 1 ≤ rr + n → (∀ q, q ≤ rr → ∀ z, z < 16 → grx (q * 16 + z) = pm_g nx ou q z) → (∀ z, z < 16 → grx ((rr + 1) * 16 + z) = pm_g nx ou (rr + 1) z) → (∀ k, k < rr → ∃ z, z < 16 ∧ pm_g nx ou (k + 1) z ≠ pm_g nx ou k z) → ((sm = 0 ∧ ∀ z, z < 16 → pm_g nx ou (rr + 1) z = pm_g nx ou rr z) ∨ (sm = 1 ∧ ∃ z, z < 16 ∧ pm_g nx ou (rr + 1) z ≠ pm_g nx ou rr z)) → ∀ (H : Heap) (locs : List Loc), va_P D vwCl (xwf h0 qn qo qg ql dA (nx, ou, 1, rr, grx, le, wl)) H → va_D A (xwf h0 qn qo qg ql dA (nx, ou, 1, rr, grx, le, wl)) → va_S A s.heap H locs → ∀ (ls : Array Slot), lv_has ls 2 [(0, .ref h0), (1, .int (nI sm))] → W p l e rmX0_prepare s m args below meth c H locs 0 0 Q (F0 m 45 ls []) := by
            intro n
            induction n with
            | zero =>
              intro rr sm grx hrr hf hA1 hB hC hsm
              exact absurd hf (by omega)
            | succ n ih_45 =>
              intro rr sm grx hrr hf hA1 hB hC hsm H locs hP hD hS ls hl
              have hr15 := pm_few hC
              have hsm1 : sm ≤ 1 := by rcases hsm with ⟨q, -⟩ | ⟨q, -⟩ <;> omega
              refine lv_iload_n hx hb dX0_prepare_45 rfl (lv_at hl 1 rfl) ?_
              refine n_if_eq (tgt := 80) hx hb dX0_prepare_46 (by decide) (by omega) (fun c_46 => ?_) (fun c_46 => ?_)
              · skip
                exact cx_vret hQ hx hb hr hlocks hK (nx, ou, 1, rr, grx, le, wl) hP hD hS dX0_prepare_80 ⟨rr, grx, rfl, hA1, hr15, (by rcases hsm with ⟨-, q⟩ | ⟨q, -⟩; exact q; exact absurd c_46 (by omega)), hC⟩
              · skip
                refine lv_aload_n hx hb dX0_prepare_49 rfl (lv_at hl 0 rfl) ?_
                refine va_get (D := D) (ci := 0) (v := .int (nI rr)) (C := RX0) (T := TX0) (N := 7) hx hb hts in_X0 hown hK hP 0 rfl rfl 3 (by decide) (hts _ q27) (fun _ h9 => h9) rfl dX0_prepare_50 ?_
                refine lv_bipush (v := nI 16) hx hb dX0_prepare_53 (by decide) ?_
                refine n_icmp_ge (tgt := 80) hx hb dX0_prepare_55 (by decide) (by omega) (by omega) (fun c_55 => ?_) (fun c_55 => ?_)
                · skip
                  exact absurd c_55 (by omega)
                · skip
                  refine lv_aload_n hx hb dX0_prepare_58 rfl (lv_at hl 0 rfl) ?_
                  refine lv_dup hx hb dX0_prepare_59 rfl ?_
                  refine va_get (D := D) (ci := 0) (v := .int (nI rr)) (C := RX0) (T := TX0) (N := 7) hx hb hts in_X0 hown hK hP 0 rfl rfl 3 (by decide) (hts _ q27) (fun _ h9 => h9) rfl dX0_prepare_60 ?_
                  refine lv_iconst (v := nI 1) hx hb dX0_prepare_63 (by decide) ?_
                  refine n_iadd hx hb dX0_prepare_64 ?_
                  refine va_put (D := D) (ci := 0) (v := .int (nI (rr + 1))) (ty := .int) (C := RX0) (T := TX0) (N := 7) hx hb hts in_X0 tyX0 tyX0_ok nmX0 hown hK hP hD hS 0 rfl rfl 3 (by decide) (hts _ q27) (fun _ h9 => h9) rfl (by decide +kernel) rfl rfl (Nat.le_of_ble_eq_true rfl) dX0_prepare_65 (fun H locs hP hD hS => ?_)
                  have hP : va_P D vwCl (xwf h0 qn qo qg ql dA (nx, ou, 1, rr + 1, grx, le, wl)) H := hP
                  have hD : va_D A (xwf h0 qn qo qg ql dA (nx, ou, 1, rr + 1, grx, le, wl)) := hD
                  refine lv_aload_n hx hb dX0_prepare_68 rfl (lv_at hl 0 rfl) ?_
                  refine lv_aload_n hx hb dX0_prepare_69 rfl (lv_at hl 0 rfl) ?_
                  refine va_get (D := D) (ci := 0) (v := .int (nI (rr + 1))) (C := RX0) (T := TX0) (N := 7) hx hb hts in_X0 hown hK hP 0 rfl rfl 3 (by decide) (hts _ q27) (fun _ h9 => h9) rfl dX0_prepare_70 ?_
                  have hgx : ∀ z, z < 16 → grx ((rr + 1) * 16 + z) < 16 := fun z hz => by rw [hB z hz]; exact Nat.lt_of_le_of_lt (pm_g_le _ _) hz
                  refine cx_V (As := [.int (nI (rr + 1))]) (rest := []) (q0 := 0) (ci := 0) (C := RX0) (T := TX0) (N := 7) ⟨hx, hb, hml, hown, hts⟩ (mX0_split l D dA h0 qn qo qg ql H.size nx ou 1 (rr + 1) grx le wl (rr + 1) (by omega) hnx hgx) (cwV 1 hts (lw_V q66 q68 qs1 q14 q69) rfl rfl rfl (by decide +kernel) ⟨Nat.le_of_ble_eq_true rfl, Nat.le_of_ble_eq_true rfl⟩) hK hP hD hS hA rfl rfl rfl rfl hl.1 (Nat.le_of_ble_eq_true rfl) dX0_prepare_73 rfl rfl ⟨Nat.zero_le _, Nat.zero_le _⟩ (fun rv uv H locs hw hP hD hS => ?_)
                  obtain ⟨sm1, gr1, rfl, rfl, hk1, hd1, hs1⟩ := hw
                  refine lv_istore_n (lv' := [(1, .int (nI sm1)), (0, .ref h0)]) hx hb dX0_prepare_76 rfl hl (by decide) rfl (fun ls hl => ?_)
                  refine lv_goto (tgt := 45) hx hb dX0_prepare_77 (by decide) ?_
                  have hr1 := pm_round (rr := rr + 1) hnx hB hd1 hs1
                  exact ih_45 (rr + 1) sm1 gr1 (by omega) (by omega) (fun q hq y hy => by
                rw [hk1 _ (Or.inl (by omega))]
                by_cases e : q = rr + 1
                · rw [e]; exact hB y hy
                · exact hA1 q (by omega) y hy) hr1.1 (lt_s hC (by rcases hsm with ⟨q, -⟩ | ⟨-, q⟩; exact absurd q c_46; exact q)) hr1.2 H locs hP hD hS ls (lv_sub hl [1, 0] rfl)
          exact loop_45 17 0 sm1 gr1 (by omega) (by omega) (fun q hq y hy => by rw [show q = 0 by omega, hk1 _ (Or.inl (by omega)), show 0 * 16 + y = y by omega, hz0 y (by omega)]; rfl) hr1.1 (fun k hk => absurd hk (Nat.not_lt_zero k)) hr1.2 _ _ hP hD hS ls (lv_sub hl [1, 0] rfl)
        · skip
          refine lv_aload_n hx hb dX0_prepare_26 rfl (lv_at hl 0 rfl) ?_
          refine va_get (D := D) (ci := 0) (v := .ref qg) (C := RX0) (T := TX0) (N := 7) hx hb hts in_X0 hown hK hP 0 rfl rfl 4 (by decide) (hts _ q28) (fun _ h9 => h9) rfl dX0_prepare_27 ?_
          refine lv_iload_n hx hb dX0_prepare_30 rfl (lv_at hl 1 rfl) ?_
          refine lv_iconst (v := nI 0) hx hb dX0_prepare_31 (by decide) ?_
          refine n_iast (g := grx) hx hb hK hP hD hS 3 0 rfl rfl (by omega) (by decide) dX0_prepare_32 (fun H locs hP hD hS => ?_)
          have hP : va_P D vwCl (xwf h0 qn qo qg ql dA (nx, ou, 1, 0, pm_up grx z 0, le, wl)) H := hP
          have hD : va_D A (xwf h0 qn qo qg ql dA (nx, ou, 1, 0, pm_up grx z 0, le, wl)) := hD
          refine lv_iinc (v := nI (z + 1)) (lv' := [(1, .int (nI (z + 1))), (0, .ref h0)]) hx hb dX0_prepare_33 hl (k := 1) rfl (nI_inc1 _) (by decide) rfl (fun ls hl => ?_)
          refine lv_goto (tgt := 20) hx hb dX0_prepare_36 (by decide) ?_
          exact ih_20 (z + 1) (pm_up grx z 0) (by omega) (by omega) (lt_s (fun y hy => by rw [pm_up_n (by omega)]; exact hz0 y hy) pm_up_s) H locs hP hD hS ls (lv_sub hl [1, 0] rfl)
    exact loop_20 17 0 gr (by omega) (by omega) (fun y hy => absurd hy (Nat.not_lt_zero y)) _ _ hP hD hS ls (lv_sub hl [1, 0] rfl)
  · skip
    have h1 : rd = 1 ∧ pm_pr nx ou ro gr := by rcases hv with q | q; exact absurd q c_4; exact q
    exact cx_vret hQ hx hb hr hlocks hK (nx, ou, rd, ro, gr, le, wl) hP hD hS dX0_prepare_7 ⟨ro, gr, by rw [h1.1], h1.2⟩

theorem pm_pr_gr {nx : Nat → Nat} {ou : Nat → Int32} {ro : Nat} {gr : Nat → Nat} (h : pm_pr nx ou ro gr) : ∀ q, q ≤ ro → ∀ z, z < 16 → gr (q * 16 + z) < 16 := fun q hq z hz => by
  rw [h.1 q hq z hz]
  exact Nat.lt_of_le_of_lt (pm_g_le _ _) hz
theorem pm_fi_no {nx : Nat → Nat} {ou : Nat → Int32} {a b L : Nat} (h : ∀ j, j < 3 → pm_fp nx ou a b L j = false) : pm_fi nx ou a b L = 0 := by
  have e := pm_first_eq (p := pm_fp nx ou a b L) (n := 3) (t := 3) (by omega) h (fun q => absurd q (by omega))
  unfold pm_fi
  rw [e, if_neg (by omega)]
theorem pm_ws_step {nx : Nat → Nat} {ou : Nat → Int32} {w : List Nat} {L k x y : Nat} (h : w.drop k = pm_ws nx ou (L - k) x y) (hk : k < L) : w.getD k 0 = pm_fi nx ou x y (L - k) ∧ w.drop (k + 1) = pm_ws nx ou (L - (k + 1)) (nx (x * 3 + pm_fi nx ou x y (L - k))) (nx (y * 3 + pm_fi nx ou x y (L - k))) := by
  obtain ⟨M, hM⟩ : ∃ M, L - k = M + 1 := ⟨L - k - 1, by omega⟩
  rw [hM] at h ⊢
  have hM2 : L - (k + 1) = M := by omega
  rw [hM2]
  have e : pm_ws nx ou (M + 1) x y = pm_fi nx ou x y (M + 1) :: pm_ws nx ou M (nx (x * 3 + pm_fi nx ou x y (M + 1))) (nx (y * 3 + pm_fi nx ou x y (M + 1))) := rfl
  rw [e] at h
  constructor
  · have h1 : (w.drop k)[0]? = some (pm_fi nx ou x y (M + 1)) := by rw [h]; rfl
    rw [List.getElem?_drop] at h1
    rw [List.getD_eq_getElem?_getD]
    rw [show k + 0 = k from rfl] at h1
    rw [h1]
    rfl
  · have h2 : (w.drop k).drop 1 = w.drop (k + 1) := by rw [List.drop_drop]
    rw [← h2, h]
    rfl

abbrev rmX0_firstInput : Room := { frames := 2, cells := 0, slots := 0, locals := 47 }
set_option maxHeartbeats 400000 in
set_option maxRecDepth 100000 in
theorem mX0_firstInput (l : Launch) (D : va_G) (dA : ClassId) (h0 qn qo qg ql sz : Nat) (nx : Nat → Nat) (ou : Nat → Int32) (rd ro : Nat) (gr le : Nat → Nat) (wl : Nat) (sa sb ln : Nat) (hsa : sa < 16) (hsb : sb < 16) (hl1 : 1 ≤ ln) (hl2 : ln ≤ 16) (hpr : pm_pr nx ou ro gr) (hnx : ∀ i, nx i < 16) : cM l yX0_firstInput (ws_ yX0_firstInput cX0_firstInput 8 (some .int)) rmX0_firstInput D [(dA, .int)] [.ref h0, .int (nI sa), .int (nI sb), .int (nI ln)] (xwf h0 qn qo qg ql dA (nx, ou, rd, ro, gr, le, wl)) sz (cQi D [(dA, .int)] (xwf h0 qn qo qg ql dA) (fun v u => v = nI (pm_fi nx ou sa sb ln) ∧ u = (nx, ou, rd, ro, gr, le, wl))) := by
  refine cM_start (by decide) (Nat.le_of_ble_eq_true rfl) ?_
  intro p e s m args below meth c A ls Q hx hb hr hlocks hml hown hin hts hA hK hP hD hS hl hQ
  have hown : s.vm.findClass RX0 = some m.cls := hown
  have hl : lv_has ls 8 [(0, .ref h0), (1, .int (nI sa)), (2, .int (nI sb)), (3, .int (nI ln))] := hl
  have hro := hpr.2.1
  refine lv_iconst (v := nI 0) hx hb dX0_firstInput_0 (by decide) ?_
  refine lv_istore (lv' := [(4, .int (nI 0)), (0, .ref h0), (1, .int (nI sa)), (2, .int (nI sb)), (3, .int (nI ln))]) hx hb dX0_firstInput_1 hl (by decide) rfl (fun ls hl => ?_)
  have loop_3 : ∀ (n : Nat) (i : Nat), i ≤ 3 → 3 + 1 ≤ i + n → (∀ j, j < i → pm_fp nx ou sa sb ln j = false) → ∀ (H : Heap) (locs : List Loc), va_P D vwCl (xwf h0 qn qo qg ql dA (nx, ou, rd, ro, gr, le, wl)) H → va_D A (xwf h0 qn qo qg ql dA (nx, ou, rd, ro, gr, le, wl)) → va_S A s.heap H locs → ∀ (ls : Array Slot), lv_has ls 8 [(0, .ref h0), (1, .int (nI sa)), (2, .int (nI sb)), (3, .int (nI ln)), (4, .int (nI i))] → W p l e rmX0_firstInput s m args below meth c H locs 0 0 Q (F0 m 3 ls []) := by
    intro n
    induction n with
    | zero =>
      intro i hi hf hinv
      exact absurd hf (by omega)
    | succ n ih_3 =>
      intro i hi hf hinv H locs hP hD hS ls hl
      refine lv_iload hx hb dX0_firstInput_3 (lv_at hl 4 rfl) ?_
      refine lv_iconst (v := nI 3) hx hb dX0_firstInput_5 (by decide) ?_
      refine n_icmp_ge (tgt := 92) hx hb dX0_firstInput_6 (by decide) (by omega) (by omega) (fun c_6 => ?_) (fun c_6 => ?_)
      · skip
        refine lv_iconst (v := nI 0) hx hb dX0_firstInput_92 (by decide) ?_
        exact cx_iret hQ hx hb hr hlocks hK (nx, ou, rd, ro, gr, le, wl) hP hD hS dX0_firstInput_93 ⟨by rw [pm_fi_no (fun j hj => hinv j (by omega))], rfl⟩
      · skip
        refine lv_iload_n hx hb dX0_firstInput_9 rfl (lv_at hl 1 rfl) ?_
        refine lv_iconst (v := nI 3) hx hb dX0_firstInput_10 (by decide) ?_
        refine n_imul hx hb dX0_firstInput_11 ?_
        refine lv_iload hx hb dX0_firstInput_12 (lv_at hl 4 rfl) ?_
        refine n_iadd hx hb dX0_firstInput_14 ?_
        refine lv_istore (lv' := [(5, .int (nI ((sa * 3) + i))), (0, .ref h0), (1, .int (nI sa)), (2, .int (nI sb)), (3, .int (nI ln)), (4, .int (nI i))]) hx hb dX0_firstInput_15 hl (by decide) rfl (fun ls hl => ?_)
        refine lv_iload_n hx hb dX0_firstInput_17 rfl (lv_at hl 3 rfl) ?_
        refine lv_iconst (v := nI 3) hx hb dX0_firstInput_18 (by decide) ?_
        refine n_imul hx hb dX0_firstInput_19 ?_
        refine lv_iload hx hb dX0_firstInput_20 (lv_at hl 5 rfl) ?_
        refine n_iadd hx hb dX0_firstInput_22 ?_
        refine lv_istore (lv' := [(6, .int (nI ((sb * 3) + i))), (5, .int (nI ((sa * 3) + i))), (0, .ref h0), (1, .int (nI sa)), (2, .int (nI sb)), (3, .int (nI ln)), (4, .int (nI i))]) hx hb dX0_firstInput_23 hl (by decide) rfl (fun ls hl => ?_)
        refine lv_iload_n hx hb dX0_firstInput_25 rfl (lv_at hl 5 rfl) ?_
        refine lv_iconst (v := nI 1) hx hb dX0_firstInput_26 (by decide) ?_
        refine n_icmp_ne (tgt := 50) hx hb dX0_firstInput_27 (by decide) (by omega) (by omega) (fun c_27 => ?_) (fun c_27 => ?_)
        · skip
          refine lv_iload_n hx hb dX0_firstInput_50 rfl (lv_at hl 5 rfl) ?_
          refine lv_iconst (v := nI 1) hx hb dX0_firstInput_51 (by decide) ?_
          refine n_icmp_le (tgt := 86) hx hb dX0_firstInput_52 (by decide) (by omega) (by omega) (fun c_52 => ?_) (fun c_52 => ?_)
          · skip
            refine lv_iinc (v := nI (i + 1)) (lv' := [(4, .int (nI (i + 1))), (6, .int (nI ((sb * 3) + i))), (5, .int (nI ((sa * 3) + i))), (0, .ref h0), (1, .int (nI sa)), (2, .int (nI sb)), (3, .int (nI ln))]) hx hb dX0_firstInput_86 hl (k := 6) rfl (nI_inc1 _) (by decide) rfl (fun ls hl => ?_)
            refine lv_goto (tgt := 3) hx hb dX0_firstInput_89 (by decide) ?_
            exact ih_3 (i + 1) (by omega) (by omega) (absurd c_52 (by omega)) H locs hP hD hS ls (lv_sub hl [3, 4, 5, 6, 0] rfl)
          · skip
            refine lv_aload_n hx hb dX0_firstInput_55 rfl (lv_at hl 2 rfl) ?_
            refine lv_aload_n hx hb dX0_firstInput_56 rfl (lv_at hl 2 rfl) ?_
            refine va_get (D := D) (ci := 0) (v := .ref qn) (C := RX0) (T := TX0) (N := 7) hx hb hts in_X0 hown hK hP 0 rfl rfl 0 (by decide) (hts _ q24) (fun _ h9 => h9) rfl dX0_firstInput_57 ?_
            refine lv_iload hx hb dX0_firstInput_60 (lv_at hl 1 rfl) ?_
            refine n_iald (g := nx) (i := (sa * 3) + i) hx hb hK hP 1 0 rfl rfl (by omega) (by decide) dX0_firstInput_62 ?_
            have hn_62 := hnx ((sa * 3) + i)
            refine lv_aload_n hx hb dX0_firstInput_63 rfl (lv_at hl 2 rfl) ?_
            refine va_get (D := D) (ci := 0) (v := .ref qn) (C := RX0) (T := TX0) (N := 7) hx hb hts in_X0 hown hK hP 0 rfl rfl 0 (by decide) (hts _ q24) (fun _ h9 => h9) rfl dX0_firstInput_64 ?_
            refine lv_iload hx hb dX0_firstInput_67 (lv_at hl 0 rfl) ?_
            refine n_iald (g := nx) (i := (sb * 3) + i) hx hb hK hP 1 0 rfl rfl (by omega) (by decide) dX0_firstInput_69 ?_
            have hn_69 := hnx ((sb * 3) + i)
            refine cx_V (As := [.int (nI (nx ((sa * 3) + i))), .int (nI (nx ((sb * 3) + i)))]) (rest := []) (q0 := 0) (ci := 0) (C := RX0) (T := TX0) (N := 7) ⟨hx, hb, hml, hown, hts⟩ (mX0_parting l D dA h0 qn qo qg ql H.size nx ou rd ro gr le wl (nx ((sa * 3) + i)) (nx ((sb * 3) + i)) (by omega) (by omega) (Nat.le_trans hpr.2.1 (by decide)) (pm_pr_gr hpr)) (cwV 2 hts (lw_V q74 q76 qs3 q14 q77) rfl rfl rfl (by decide +kernel) ⟨Nat.le_of_ble_eq_true rfl, Nat.le_of_ble_eq_true rfl⟩) hK hP hD hS hA rfl rfl rfl rfl hl.1 (Nat.le_of_ble_eq_true rfl) dX0_firstInput_70 rfl rfl ⟨Nat.zero_le _, Nat.zero_le _⟩ (fun rv uv H locs hw hP hD hS => ?_)
            obtain ⟨rfl, rfl⟩ := hw
            rw [pm_pt_ds hnx hpr (a := nx ((sa * 3) + i)) (b := nx ((sb * 3) + i)) (by omega) (by omega)]
            have hds_0 := pm_ds_le hnx hpr (a := nx ((sa * 3) + i)) (b := nx ((sb * 3) + i)) (by omega) (by omega)
            refine lv_istore (lv' := [(7, .int (nI (pm_ds nx ou (nx ((sa * 3) + i)) (nx ((sb * 3) + i))))), (6, .int (nI ((sb * 3) + i))), (5, .int (nI ((sa * 3) + i))), (0, .ref h0), (1, .int (nI sa)), (2, .int (nI sb)), (3, .int (nI ln)), (4, .int (nI i))]) hx hb dX0_firstInput_73 hl (by decide) rfl (fun ls hl => ?_)
            refine lv_iload hx hb dX0_firstInput_75 (lv_at hl 0 rfl) ?_
            refine lv_iload_n hx hb dX0_firstInput_77 rfl (lv_at hl 6 rfl) ?_
            refine lv_iconst (v := nI 1) hx hb dX0_firstInput_78 (by decide) ?_
            refine n_isub hx hb (by omega) dX0_firstInput_79 ?_
            refine n_icmp_ne (tgt := 86) hx hb dX0_firstInput_80 (by decide) (by omega) (by omega) (fun c_80 => ?_) (fun c_80 => ?_)
            · skip
              refine lv_iinc (v := nI (i + 1)) (lv' := [(4, .int (nI (i + 1))), (7, .int (nI (pm_ds nx ou (nx ((sa * 3) + i)) (nx ((sb * 3) + i))))), (6, .int (nI ((sb * 3) + i))), (5, .int (nI ((sa * 3) + i))), (0, .ref h0), (1, .int (nI sa)), (2, .int (nI sb)), (3, .int (nI ln))]) hx hb dX0_firstInput_86 hl (k := 7) rfl (nI_inc1 _) (by decide) rfl (fun ls hl => ?_)
              refine lv_goto (tgt := 3) hx hb dX0_firstInput_89 (by decide) ?_
              exact ih_3 (i + 1) (by omega) (by omega) (lt_s hinv (decide_eq_false (fun h => by rcases h with ⟨h, -⟩ | ⟨-, h⟩; omega; exact c_80 h))) H locs hP hD hS ls (lv_sub hl [4, 5, 6, 7, 0] rfl)
            · skip
              refine lv_iload hx hb dX0_firstInput_83 (lv_at hl 7 rfl) ?_
              exact cx_iret hQ hx hb hr hlocks hK (nx, ou, rd, ro, gr, le, wl) hP hD hS dX0_firstInput_85 ⟨by rw [pm_fi_of (by omega) (decide_eq_true (Or.inr ⟨c_52, c_80⟩)) hinv], rfl⟩
        · skip
          refine lv_aload_n hx hb dX0_firstInput_30 rfl (lv_at hl 2 rfl) ?_
          refine va_get (D := D) (ci := 0) (v := .ref qo) (C := RX0) (T := TX0) (N := 7) hx hb hts in_X0 hown hK hP 0 rfl rfl 1 (by decide) (hts _ q25) (fun _ h9 => h9) rfl dX0_firstInput_31 ?_
          refine lv_iload hx hb dX0_firstInput_34 (lv_at hl 1 rfl) ?_
          refine n_iald0 (f := ou) (i := (sa * 3) + i) hx hb hK hP 2 0 rfl rfl (by omega) (by decide) dX0_firstInput_36 ?_
          refine lv_aload_n hx hb dX0_firstInput_37 rfl (lv_at hl 2 rfl) ?_
          refine va_get (D := D) (ci := 0) (v := .ref qo) (C := RX0) (T := TX0) (N := 7) hx hb hts in_X0 hown hK hP 0 rfl rfl 1 (by decide) (hts _ q25) (fun _ h9 => h9) rfl dX0_firstInput_38 ?_
          refine lv_iload hx hb dX0_firstInput_41 (lv_at hl 0 rfl) ?_
          refine n_iald0 (f := ou) (i := (sb * 3) + i) hx hb hK hP 2 0 rfl rfl (by omega) (by decide) dX0_firstInput_43 ?_
          refine lv_icmp_eq (tgt := 50) hx hb dX0_firstInput_44 (by decide) (fun c_44 => ?_) (fun c_44 => ?_)
          · skip
            refine lv_iload_n hx hb dX0_firstInput_50 rfl (lv_at hl 5 rfl) ?_
            refine lv_iconst (v := nI 1) hx hb dX0_firstInput_51 (by decide) ?_
            refine n_icmp_le (tgt := 86) hx hb dX0_firstInput_52 (by decide) (by omega) (by omega) (fun c_52 => ?_) (fun c_52 => ?_)
            · skip
              refine lv_iinc (v := nI (i + 1)) (lv' := [(4, .int (nI (i + 1))), (6, .int (nI ((sb * 3) + i))), (5, .int (nI ((sa * 3) + i))), (0, .ref h0), (1, .int (nI sa)), (2, .int (nI sb)), (3, .int (nI ln))]) hx hb dX0_firstInput_86 hl (k := 6) rfl (nI_inc1 _) (by decide) rfl (fun ls hl => ?_)
              refine lv_goto (tgt := 3) hx hb dX0_firstInput_89 (by decide) ?_
              exact ih_3 (i + 1) (by omega) (by omega) (lt_s hinv (decide_eq_false (fun h => by rcases h with ⟨-, h⟩ | ⟨h, -⟩; exact h c_44; omega))) H locs hP hD hS ls (lv_sub hl [3, 4, 5, 6, 0] rfl)
            · skip
              refine lv_aload_n hx hb dX0_firstInput_55 rfl (lv_at hl 2 rfl) ?_
              refine lv_aload_n hx hb dX0_firstInput_56 rfl (lv_at hl 2 rfl) ?_
              refine va_get (D := D) (ci := 0) (v := .ref qn) (C := RX0) (T := TX0) (N := 7) hx hb hts in_X0 hown hK hP 0 rfl rfl 0 (by decide) (hts _ q24) (fun _ h9 => h9) rfl dX0_firstInput_57 ?_
              refine lv_iload hx hb dX0_firstInput_60 (lv_at hl 1 rfl) ?_
              refine n_iald (g := nx) (i := (sa * 3) + i) hx hb hK hP 1 0 rfl rfl (by omega) (by decide) dX0_firstInput_62 ?_
              have hn_62 := hnx ((sa * 3) + i)
              refine lv_aload_n hx hb dX0_firstInput_63 rfl (lv_at hl 2 rfl) ?_
              refine va_get (D := D) (ci := 0) (v := .ref qn) (C := RX0) (T := TX0) (N := 7) hx hb hts in_X0 hown hK hP 0 rfl rfl 0 (by decide) (hts _ q24) (fun _ h9 => h9) rfl dX0_firstInput_64 ?_
              refine lv_iload hx hb dX0_firstInput_67 (lv_at hl 0 rfl) ?_
              refine n_iald (g := nx) (i := (sb * 3) + i) hx hb hK hP 1 0 rfl rfl (by omega) (by decide) dX0_firstInput_69 ?_
              have hn_69 := hnx ((sb * 3) + i)
              refine cx_V (As := [.int (nI (nx ((sa * 3) + i))), .int (nI (nx ((sb * 3) + i)))]) (rest := []) (q0 := 0) (ci := 0) (C := RX0) (T := TX0) (N := 7) ⟨hx, hb, hml, hown, hts⟩ (mX0_parting l D dA h0 qn qo qg ql H.size nx ou rd ro gr le wl (nx ((sa * 3) + i)) (nx ((sb * 3) + i)) (by omega) (by omega) (Nat.le_trans hpr.2.1 (by decide)) (pm_pr_gr hpr)) (cwV 2 hts (lw_V q74 q76 qs3 q14 q77) rfl rfl rfl (by decide +kernel) ⟨Nat.le_of_ble_eq_true rfl, Nat.le_of_ble_eq_true rfl⟩) hK hP hD hS hA rfl rfl rfl rfl hl.1 (Nat.le_of_ble_eq_true rfl) dX0_firstInput_70 rfl rfl ⟨Nat.zero_le _, Nat.zero_le _⟩ (fun rv uv H locs hw hP hD hS => ?_)
              obtain ⟨rfl, rfl⟩ := hw
              rw [pm_pt_ds hnx hpr (a := nx ((sa * 3) + i)) (b := nx ((sb * 3) + i)) (by omega) (by omega)]
              have hds_0 := pm_ds_le hnx hpr (a := nx ((sa * 3) + i)) (b := nx ((sb * 3) + i)) (by omega) (by omega)
              refine lv_istore (lv' := [(7, .int (nI (pm_ds nx ou (nx ((sa * 3) + i)) (nx ((sb * 3) + i))))), (6, .int (nI ((sb * 3) + i))), (5, .int (nI ((sa * 3) + i))), (0, .ref h0), (1, .int (nI sa)), (2, .int (nI sb)), (3, .int (nI ln)), (4, .int (nI i))]) hx hb dX0_firstInput_73 hl (by decide) rfl (fun ls hl => ?_)
              refine lv_iload hx hb dX0_firstInput_75 (lv_at hl 0 rfl) ?_
              refine lv_iload_n hx hb dX0_firstInput_77 rfl (lv_at hl 6 rfl) ?_
              refine lv_iconst (v := nI 1) hx hb dX0_firstInput_78 (by decide) ?_
              refine n_isub hx hb (by omega) dX0_firstInput_79 ?_
              refine n_icmp_ne (tgt := 86) hx hb dX0_firstInput_80 (by decide) (by omega) (by omega) (fun c_80 => ?_) (fun c_80 => ?_)
              · skip
                refine lv_iinc (v := nI (i + 1)) (lv' := [(4, .int (nI (i + 1))), (7, .int (nI (pm_ds nx ou (nx ((sa * 3) + i)) (nx ((sb * 3) + i))))), (6, .int (nI ((sb * 3) + i))), (5, .int (nI ((sa * 3) + i))), (0, .ref h0), (1, .int (nI sa)), (2, .int (nI sb)), (3, .int (nI ln))]) hx hb dX0_firstInput_86 hl (k := 7) rfl (nI_inc1 _) (by decide) rfl (fun ls hl => ?_)
                refine lv_goto (tgt := 3) hx hb dX0_firstInput_89 (by decide) ?_
                exact ih_3 (i + 1) (by omega) (by omega) (lt_s hinv (decide_eq_false (fun h => by rcases h with ⟨h, -⟩ | ⟨-, h⟩; omega; exact c_80 h))) H locs hP hD hS ls (lv_sub hl [4, 5, 6, 7, 0] rfl)
              · skip
                refine lv_iload hx hb dX0_firstInput_83 (lv_at hl 7 rfl) ?_
                exact cx_iret hQ hx hb hr hlocks hK (nx, ou, rd, ro, gr, le, wl) hP hD hS dX0_firstInput_85 ⟨by rw [pm_fi_of (by omega) (decide_eq_true (Or.inr ⟨c_52, c_80⟩)) hinv], rfl⟩
          · skip
            refine lv_iload hx hb dX0_firstInput_47 (lv_at hl 6 rfl) ?_
            exact cx_iret hQ hx hb hr hlocks hK (nx, ou, rd, ro, gr, le, wl) hP hD hS dX0_firstInput_49 ⟨by rw [pm_fi_of (by omega) (decide_eq_true (Or.inl ⟨c_27, c_44⟩)) hinv], rfl⟩
  exact loop_3 4 0 (by omega) (by omega) (fun j hj => absurd hj (Nat.not_lt_zero j)) _ _ hP hD hS ls (lv_sub hl [1, 2, 3, 4, 0] rfl)

abbrev rmX0_findWord : Room := { frames := 3, cells := 0, slots := 0, locals := 74 }
set_option maxHeartbeats 400000 in
set_option maxRecDepth 100000 in
theorem mX0_findWord (l : Launch) (D : va_G) (dA : ClassId) (h0 qn qo qg ql sz : Nat) (nx : Nat → Nat) (ou : Nat → Int32) (rd ro : Nat) (gr le : Nat → Nat) (wl : Nat) (sa sb : Nat) (hsa : sa < 16) (hsb : sb < 16) (hpr : pm_pr nx ou ro gr) (hnx : ∀ i, nx i < 16) : cM l yX0_findWord (ws_ yX0_findWord cX0_findWord 7 none) rmX0_findWord D [(dA, .int)] [.ref h0, .int (nI sa), .int (nI sb)] (xwf h0 qn qo qg ql dA (nx, ou, rd, ro, gr, le, wl)) sz (cQv D [(dA, .int)] (xwf h0 qn qo qg ql dA) (fun u => ∃ (le1 : Nat → Nat), u = (nx, ou, rd, ro, gr, le1, pm_ds nx ou sa sb) ∧ ∀ k, k < pm_ds nx ou sa sb → le1 k = (pm_ws nx ou (pm_ds nx ou sa sb) sa sb).getD k 0)) := by
  refine cM_start (by decide) (Nat.le_of_ble_eq_true rfl) ?_
  intro p e s m args below meth c A ls Q hx hb hr hlocks hml hown hin hts hA hK hP hD hS hl hQ
  have hown : s.vm.findClass RX0 = some m.cls := hown
  have hl : lv_has ls 7 [(0, .ref h0), (1, .int (nI sa)), (2, .int (nI sb))] := hl
  have hro := hpr.2.1
  refine lv_iload_n hx hb dX0_findWord_0 rfl (lv_at hl 1 rfl) ?_
  refine lv_istore_n (lv' := [(3, .int (nI sa)), (0, .ref h0), (1, .int (nI sa)), (2, .int (nI sb))]) hx hb dX0_findWord_1 rfl hl (by decide) rfl (fun ls hl => ?_)
  refine lv_iload_n hx hb dX0_findWord_2 rfl (lv_at hl 3 rfl) ?_
  refine lv_istore (lv' := [(4, .int (nI sb)), (3, .int (nI sa)), (0, .ref h0), (1, .int (nI sa)), (2, .int (nI sb))]) hx hb dX0_findWord_3 hl (by decide) rfl (fun ls hl => ?_)
  refine lv_aload_n hx hb dX0_findWord_5 rfl (lv_at hl 2 rfl) ?_
  refine lv_aload_n hx hb dX0_findWord_6 rfl (lv_at hl 2 rfl) ?_
  refine lv_iload_n hx hb dX0_findWord_7 rfl (lv_at hl 3 rfl) ?_
  refine lv_iload_n hx hb dX0_findWord_8 rfl (lv_at hl 4 rfl) ?_
  refine cx_V (As := [.int (nI sa), .int (nI sb)]) (rest := [.ref h0]) (q0 := 0) (ci := 0) (C := RX0) (T := TX0) (N := 7) ⟨hx, hb, hml, hown, hts⟩ (mX0_parting l D dA h0 qn qo qg ql s.heap.size nx ou rd ro gr le wl sa sb (by omega) (by omega) (Nat.le_trans hpr.2.1 (by decide)) (pm_pr_gr hpr)) (cwV 2 hts (lw_V q74 q76 qs3 q14 q77) rfl rfl rfl (by decide +kernel) ⟨Nat.le_of_ble_eq_true rfl, Nat.le_of_ble_eq_true rfl⟩) hK hP hD hS hA rfl rfl rfl rfl hl.1 (Nat.le_of_ble_eq_true rfl) dX0_findWord_9 rfl rfl ⟨Nat.zero_le _, Nat.zero_le _⟩ (fun rv uv H locs hw hP hD hS => ?_)
  obtain ⟨rfl, rfl⟩ := hw
  rw [pm_pt_ds hnx hpr (a := sa) (b := sb) (by omega) (by omega)]
  have hds_0 := pm_ds_le hnx hpr (a := sa) (b := sb) (by omega) (by omega)
  generalize hL : pm_ds nx ou sa sb = L at hds_0 ⊢
  refine va_put (D := D) (ci := 0) (v := .int (nI L)) (ty := .int) (C := RX0) (T := TX0) (N := 7) hx hb hts in_X0 tyX0 tyX0_ok nmX0 hown hK hP hD hS 0 rfl rfl 6 (by decide) (hts _ q30) (fun _ h9 => h9) rfl (by decide +kernel) rfl rfl (Nat.le_of_ble_eq_true rfl) dX0_findWord_12 (fun H locs hP hD hS => ?_)
  have hP : va_P D vwCl (xwf h0 qn qo qg ql dA (nx, ou, rd, ro, gr, le, L)) H := hP
  have hD : va_D A (xwf h0 qn qo qg ql dA (nx, ou, rd, ro, gr, le, L)) := hD
  refine lv_iconst (v := nI 0) hx hb dX0_findWord_15 (by decide) ?_
  refine lv_istore (lv' := [(5, .int (nI 0)), (4, .int (nI sb)), (3, .int (nI sa)), (0, .ref h0), (1, .int (nI sa)), (2, .int (nI sb))]) hx hb dX0_findWord_16 hl (by decide) rfl (fun ls hl => ?_)
  have loop_18 : ∀ (n : Nat) (k : Nat) (x : Nat) (y : Nat) (lex : Nat → Nat), k ≤ L → L + 1 ≤ k + n → x < 16 → y < 16 → (pm_ws nx ou L sa sb).drop k = pm_ws nx ou (L - k) x y → (∀ j, j < k → lex j = (pm_ws nx ou L sa sb).getD j 0) → ∀ (H : Heap) (locs : List Loc), va_P D vwCl (xwf h0 qn qo qg ql dA (nx, ou, rd, ro, gr, lex, L)) H → va_D A (xwf h0 qn qo qg ql dA (nx, ou, rd, ro, gr, lex, L)) → va_S A s.heap H locs → ∀ (ls : Array Slot), lv_has ls 7 [(0, .ref h0), (1, .int (nI sa)), (2, .int (nI sb)), (3, .int (nI x)), (4, .int (nI y)), (5, .int (nI k))] → W p l e rmX0_findWord s m args below meth c H locs 0 0 Q (F0 m 18 ls []) := by
    intro n
    induction n with
    | zero =>
      intro k x y lex hk hf hx16 hy16 hdr hle
      exact absurd hf (by omega)
    | succ n ih_18 =>
      intro k x y lex hk hf hx16 hy16 hdr hle H locs hP hD hS ls hl
      refine lv_iload hx hb dX0_findWord_18 (lv_at hl 5 rfl) ?_
      refine lv_aload_n hx hb dX0_findWord_20 rfl (lv_at hl 0 rfl) ?_
      refine va_get (D := D) (ci := 0) (v := .int (nI L)) (C := RX0) (T := TX0) (N := 7) hx hb hts in_X0 hown hK hP 0 rfl rfl 6 (by decide) (hts _ q30) (fun _ h9 => h9) rfl dX0_findWord_21 ?_
      refine n_icmp_ge (tgt := 84) hx hb dX0_findWord_24 (by decide) (by omega) (by omega) (fun c_24 => ?_) (fun c_24 => ?_)
      · skip
        exact cx_vret hQ hx hb hr hlocks hK (nx, ou, rd, ro, gr, lex, L) hP hD hS dX0_findWord_84 ⟨lex, by rw [hL], by rw [hL]; exact fun j hj => hle j (by omega)⟩
      · skip
        refine lv_aload_n hx hb dX0_findWord_27 rfl (lv_at hl 0 rfl) ?_
        refine lv_iload_n hx hb dX0_findWord_28 rfl (lv_at hl 3 rfl) ?_
        refine lv_iload hx hb dX0_findWord_29 (lv_at hl 4 rfl) ?_
        refine lv_aload_n hx hb dX0_findWord_31 rfl (lv_at hl 0 rfl) ?_
        refine va_get (D := D) (ci := 0) (v := .int (nI L)) (C := RX0) (T := TX0) (N := 7) hx hb hts in_X0 hown hK hP 0 rfl rfl 6 (by decide) (hts _ q30) (fun _ h9 => h9) rfl dX0_findWord_32 ?_
        refine lv_iload hx hb dX0_findWord_35 (lv_at hl 5 rfl) ?_
        refine n_isub hx hb (by omega) dX0_findWord_37 ?_
        refine cx_V (As := [.int (nI x), .int (nI y), .int (nI (L - k))]) (rest := []) (q0 := 0) (ci := 0) (C := RX0) (T := TX0) (N := 7) ⟨hx, hb, hml, hown, hts⟩ (mX0_firstInput l D dA h0 qn qo qg ql H.size nx ou rd ro gr lex L x y (L - k) (by omega) (by omega) (by omega) (by omega) hpr hnx) (cwV 3 hts (lw_V q94 q96 qs6 q14 q97) rfl rfl rfl (by decide +kernel) ⟨Nat.le_of_ble_eq_true rfl, Nat.le_of_ble_eq_true rfl⟩) hK hP hD hS hA rfl rfl rfl rfl hl.1 (Nat.le_of_ble_eq_true rfl) dX0_findWord_38 rfl rfl ⟨Nat.zero_le _, Nat.zero_le _⟩ (fun rv uv H locs hw hP hD hS => ?_)
        obtain ⟨rfl, rfl⟩ := hw
        have hfi := pm_fi_lt nx ou x y (L - k)
        refine lv_istore (lv' := [(6, .int (nI (pm_fi nx ou x y (L - k)))), (0, .ref h0), (1, .int (nI sa)), (2, .int (nI sb)), (3, .int (nI x)), (4, .int (nI y)), (5, .int (nI k))]) hx hb dX0_findWord_41 hl (by decide) rfl (fun ls hl => ?_)
        refine lv_aload_n hx hb dX0_findWord_43 rfl (lv_at hl 1 rfl) ?_
        refine va_get (D := D) (ci := 0) (v := .ref ql) (C := RX0) (T := TX0) (N := 7) hx hb hts in_X0 hown hK hP 0 rfl rfl 5 (by decide) (hts _ q29) (fun _ h9 => h9) rfl dX0_findWord_44 ?_
        refine lv_iload hx hb dX0_findWord_47 (lv_at hl 6 rfl) ?_
        refine lv_iload hx hb dX0_findWord_49 (lv_at hl 0 rfl) ?_
        refine n_iast (g := lex) hx hb hK hP hD hS 4 0 rfl rfl (by omega) (by decide) dX0_findWord_51 (fun H locs hP hD hS => ?_)
        have hP : va_P D vwCl (xwf h0 qn qo qg ql dA (nx, ou, rd, ro, gr, pm_up lex k (pm_fi nx ou x y (L - k)), L)) H := hP
        have hD : va_D A (xwf h0 qn qo qg ql dA (nx, ou, rd, ro, gr, pm_up lex k (pm_fi nx ou x y (L - k)), L)) := hD
        refine lv_aload_n hx hb dX0_findWord_52 rfl (lv_at hl 1 rfl) ?_
        refine va_get (D := D) (ci := 0) (v := .ref qn) (C := RX0) (T := TX0) (N := 7) hx hb hts in_X0 hown hK hP 0 rfl rfl 0 (by decide) (hts _ q24) (fun _ h9 => h9) rfl dX0_findWord_53 ?_
        refine lv_iload_n hx hb dX0_findWord_56 rfl (lv_at hl 4 rfl) ?_
        refine lv_iconst (v := nI 3) hx hb dX0_findWord_57 (by decide) ?_
        refine n_imul hx hb dX0_findWord_58 ?_
        refine lv_iload hx hb dX0_findWord_59 (lv_at hl 0 rfl) ?_
        refine n_iadd hx hb dX0_findWord_61 ?_
        refine n_iald (g := nx) (i := (x * 3) + (pm_fi nx ou x y (L - k))) hx hb hK hP 1 0 rfl rfl (by omega) (by decide) dX0_findWord_62 ?_
        refine lv_istore_n (lv' := [(3, .int (nI (nx ((x * 3) + (pm_fi nx ou x y (L - k)))))), (6, .int (nI (pm_fi nx ou x y (L - k)))), (0, .ref h0), (1, .int (nI sa)), (2, .int (nI sb)), (4, .int (nI y)), (5, .int (nI k))]) hx hb dX0_findWord_63 rfl hl (by decide) rfl (fun ls hl => ?_)
        refine lv_aload_n hx hb dX0_findWord_64 rfl (lv_at hl 2 rfl) ?_
        refine va_get (D := D) (ci := 0) (v := .ref qn) (C := RX0) (T := TX0) (N := 7) hx hb hts in_X0 hown hK hP 0 rfl rfl 0 (by decide) (hts _ q24) (fun _ h9 => h9) rfl dX0_findWord_65 ?_
        refine lv_iload hx hb dX0_findWord_68 (lv_at hl 5 rfl) ?_
        refine lv_iconst (v := nI 3) hx hb dX0_findWord_70 (by decide) ?_
        refine n_imul hx hb dX0_findWord_71 ?_
        refine lv_iload hx hb dX0_findWord_72 (lv_at hl 1 rfl) ?_
        refine n_iadd hx hb dX0_findWord_74 ?_
        refine n_iald (g := nx) (i := (y * 3) + (pm_fi nx ou x y (L - k))) hx hb hK hP 1 0 rfl rfl (by omega) (by decide) dX0_findWord_75 ?_
        refine lv_istore (lv' := [(4, .int (nI (nx ((y * 3) + (pm_fi nx ou x y (L - k)))))), (3, .int (nI (nx ((x * 3) + (pm_fi nx ou x y (L - k)))))), (6, .int (nI (pm_fi nx ou x y (L - k)))), (0, .ref h0), (1, .int (nI sa)), (2, .int (nI sb)), (5, .int (nI k))]) hx hb dX0_findWord_76 hl (by decide) rfl (fun ls hl => ?_)
        refine lv_iinc (v := nI (k + 1)) (lv' := [(5, .int (nI (k + 1))), (4, .int (nI (nx ((y * 3) + (pm_fi nx ou x y (L - k)))))), (3, .int (nI (nx ((x * 3) + (pm_fi nx ou x y (L - k)))))), (6, .int (nI (pm_fi nx ou x y (L - k)))), (0, .ref h0), (1, .int (nI sa)), (2, .int (nI sb))]) hx hb dX0_findWord_78 hl (k := 6) rfl (nI_inc1 _) (by decide) rfl (fun ls hl => ?_)
        refine lv_goto (tgt := 18) hx hb dX0_findWord_81 (by decide) ?_
        have hst := pm_ws_step hdr c_24
        exact ih_18 (k + 1) (nx (x * 3 + pm_fi nx ou x y (L - k))) (nx (y * 3 + pm_fi nx ou x y (L - k))) (pm_up lex k (pm_fi nx ou x y (L - k))) (by omega) (by omega) (hnx _) (hnx _) hst.2 (lt_s (fun j hj => by rw [pm_up_n (by omega)]; exact hle j hj) (by rw [pm_up_s, hst.1])) H locs hP hD hS ls (lv_sub hl [4, 5, 6, 2, 1, 0] rfl)
  exact loop_18 (L + 1) 0 sa sb le (by omega) (by omega) hsa hsb rfl (fun j hj => absurd hj (Nat.not_lt_zero j)) _ _ hP hD hS ls (lv_sub hl [3, 4, 5, 2, 1, 0] rfl)
end
section
/-! ===== MachineTwins: the questions ===== -/
theorem pm_xp_mk {nx : Nat → Nat} {ou : Nat → Int32} {rd ro : Nat} {gr le : Nat → Nat} {wl : Nat} (h : pm_xv nx ou rd ro gr) : pm_xp nx ou (nx, ou, rd, ro, gr, le, wl) := ⟨rd, ro, gr, le, wl, rfl, h⟩
theorem pm_xp_pr {nx : Nat → Nat} {ou : Nat → Int32} {ro : Nat} {gr le : Nat → Nat} {wl : Nat} (h : pm_pr nx ou ro gr) : pm_xp nx ou (nx, ou, 1, ro, gr, le, wl) := pm_xp_mk (Or.inr ⟨rfl, h⟩)
section NR2
variable {p : Program} {l : Launch} {e : Env} {R : Room} {s : State} {m : MethodId} {args : Array Value} {below : List Frame} {meth : Method} {c : Code} {H : Heap} {locs : List Loc} {cells slots : Nat} {Q : State → Prop}
variable {cc : ByteArray} {pc : Nat} {ls : Array Slot} {rest : List Value}
theorem b_icmp_ne1 (hexec : p.tables.exec = Jvm.exec) (hb : c.code = cc) {x : Bool} {off : Int} {tgt : Nat} (hdg : decode cc pc = .ok (.if_icmp .ne off, 3)) (ht : (pc : Int) + off = (tgt : Int)) (kt : x = false → W p l e R s m args below meth c H locs cells slots Q (F0 m tgt ls rest)) (kf : x = true → W p l e R s m args below meth c H locs cells slots Q (F0 m (pc + 3) ls rest)) : W p l e R s m args below meth c H locs cells slots Q (F0 m pc ls (.int (nI 1) :: .int (bI x) :: rest)) :=
  lv_icmp_ne hexec hb hdg ht (fun h => kt (by cases x; rfl; exact absurd rfl h)) (fun h => kf (by cases x; exact absurd h (by decide); rfl))
end NR2
theorem pm_in_a {w : Int32} {k q : Nat} (h : q = (w >>> (nI (2 * k) &&& 31)).toBitVec.toNat % 4) (hq : q ≠ 3) : pm_in w k = q := by
  unfold pm_in
  rw [← h, if_neg hq]
theorem pm_in_b {w : Int32} {k q : Nat} (h : q = (w >>> (nI (2 * k) &&& 31)).toBitVec.toNat % 4) (hq : q = 3) : pm_in w k = 0 := by
  unfold pm_in
  rw [← h, if_pos hq]

abbrev rmX0_alike : Room := { frames := 3, cells := 0, slots := 0, locals := 71 }
set_option maxHeartbeats 400000 in
set_option maxRecDepth 100000 in
theorem mX0_alike (l : Launch) (D : va_G) (dA : ClassId) (h0 qn qo qg ql sz : Nat) (nx : Nat → Nat) (ou : Nat → Int32) (rd ro : Nat) (gr le : Nat → Nat) (wl : Nat) (x y : Int32) (hv : pm_xv nx ou rd ro gr) (hnx : ∀ i, nx i < 16) : cM l yX0_alike (ws_ yX0_alike cX0_alike 4 (some .boolean)) rmX0_alike D [(dA, .int)] [.ref h0, .int x, .int y] (xwf h0 qn qo qg ql dA (nx, ou, rd, ro, gr, le, wl)) sz (cQi D [(dA, .int)] (xwf h0 qn qo qg ql dA) (fun v u => v = bI (pm_alS nx ou x y) ∧ pm_xp nx ou u)) := by
  refine cM_start (by decide) (Nat.le_of_ble_eq_true rfl) ?_
  intro p e s m args below meth c A ls Q hx hb hr hlocks hml hown hin hts hA hK hP hD hS hl hQ
  have hown : s.vm.findClass RX0 = some m.cls := hown
  have hl : lv_has ls 4 [(0, .ref h0), (1, .int x), (2, .int y)] := hl
  refine lv_iload_n hx hb dX0_alike_0 rfl (lv_at hl 1 rfl) ?_
  refine cx_S (As := [.int x]) (rest := []) ⟨hx, hb, hml, hown, hts⟩ (mX0_bad l D s.heap.size x) (va_cwS 1 hts (lw_S q51 q52 q14 q53) rfl rfl rfl (by decide +kernel) ⟨Nat.le_of_ble_eq_true rfl, Nat.le_of_ble_eq_true rfl⟩) hK hP hD hS hA rfl rfl hl.1 (Nat.le_of_ble_eq_true rfl) dX0_alike_1 rfl rfl ⟨Nat.zero_le _, Nat.zero_le _⟩ (fun rv H locs hw hP hD hS => ?_)
  have hw : rv = bI (pm_bad x) := hw
  subst hw
  refine b_if_ne (tgt := 14) hx hb dX0_alike_4 (by decide) (fun c_4 => ?_) (fun c_4 => ?_)
  · skip
    refine lv_iconst (v := nI 0) hx hb dX0_alike_14 (by decide) ?_
    exact cx_zret hQ hx hb hr hlocks hK (nx, ou, rd, ro, gr, le, wl) hP hD hS dX0_alike_15 rfl ⟨by rw [pm_al_1 (Or.inl c_4)]; rfl, pm_xp_mk hv⟩
  · skip
    refine lv_iload_n hx hb dX0_alike_7 rfl (lv_at hl 2 rfl) ?_
    refine cx_S (As := [.int y]) (rest := []) ⟨hx, hb, hml, hown, hts⟩ (mX0_bad l D H.size y) (va_cwS 1 hts (lw_S q51 q52 q14 q53) rfl rfl rfl (by decide +kernel) ⟨Nat.le_of_ble_eq_true rfl, Nat.le_of_ble_eq_true rfl⟩) hK hP hD hS hA rfl rfl hl.1 (Nat.le_of_ble_eq_true rfl) dX0_alike_8 rfl rfl ⟨Nat.zero_le _, Nat.zero_le _⟩ (fun rv H locs hw hP hD hS => ?_)
    have hw : rv = bI (pm_bad y) := hw
    subst hw
    refine b_if_eq (tgt := 16) hx hb dX0_alike_11 (by decide) (fun c_11 => ?_) (fun c_11 => ?_)
    · skip
      obtain ⟨ja, hja, rfl⟩ := pm_bad_n c_4
      obtain ⟨jb, hjb, rfl⟩ := pm_bad_n c_11
      refine lv_aload_n hx hb dX0_alike_16 rfl (lv_at hl 0 rfl) ?_
      refine cx_Vv (As := []) (rest := []) (q0 := 0) (ci := 0) (C := RX0) (T := TX0) (N := 7) ⟨hx, hb, hml, hown, hts⟩ (mX0_prepare l D dA h0 qn qo qg ql H.size nx ou rd ro gr le wl hv hnx) (cwV 0 hts (lw_V q62 q64 qs0 q14 q65) rfl rfl rfl (by decide +kernel) ⟨Nat.le_of_ble_eq_true rfl, Nat.le_of_ble_eq_true rfl⟩) hK hP hD hS hA rfl rfl rfl rfl hl.1 (Nat.le_of_ble_eq_true rfl) dX0_alike_17 rfl rfl ⟨Nat.zero_le _, Nat.zero_le _⟩ (fun uv H locs hw hP hD hS => ?_)
      obtain ⟨ro1, gr1, rfl, hpr⟩ := hw
      have hro := hpr.2.1
      refine lv_aload_n hx hb dX0_alike_20 rfl (lv_at hl 0 rfl) ?_
      refine lv_iload_n hx hb dX0_alike_21 rfl (lv_at hl 1 rfl) ?_
      refine lv_iload_n hx hb dX0_alike_22 rfl (lv_at hl 2 rfl) ?_
      refine cx_V (As := [.int (nI ja), .int (nI jb)]) (rest := []) (q0 := 0) (ci := 0) (C := RX0) (T := TX0) (N := 7) ⟨hx, hb, hml, hown, hts⟩ (mX0_parting l D dA h0 qn qo qg ql H.size nx ou 1 ro1 gr1 le wl ja jb (by omega) (by omega) (Nat.le_trans hpr.2.1 (by decide)) (pm_pr_gr hpr)) (cwV 2 hts (lw_V q74 q76 qs3 q14 q77) rfl rfl rfl (by decide +kernel) ⟨Nat.le_of_ble_eq_true rfl, Nat.le_of_ble_eq_true rfl⟩) hK hP hD hS hA rfl rfl rfl rfl hl.1 (Nat.le_of_ble_eq_true rfl) dX0_alike_23 rfl rfl ⟨Nat.zero_le _, Nat.zero_le _⟩ (fun rv uv H locs hw hP hD hS => ?_)
      obtain ⟨rfl, rfl⟩ := hw
      rw [pm_pt_ds hnx hpr (a := ja) (b := jb) (by omega) (by omega)]
      have hds_0 := pm_ds_le hnx hpr (a := ja) (b := jb) (by omega) (by omega)
      refine lv_istore_n (lv' := [(3, .int (nI (pm_ds nx ou ja jb))), (0, .ref h0), (1, .int (nI ja)), (2, .int (nI jb))]) hx hb dX0_alike_26 rfl hl (by decide) rfl (fun ls hl => ?_)
      refine lv_iload_n hx hb dX0_alike_27 rfl (lv_at hl 0 rfl) ?_
      refine n_if_ne (tgt := 35) hx hb dX0_alike_28 (by decide) (by omega) (fun c_28 => ?_) (fun c_28 => ?_)
      · skip
        refine lv_iconst (v := nI 0) hx hb dX0_alike_35 (by decide) ?_
        exact cx_zret hQ hx hb hr hlocks hK (nx, ou, 1, ro1, gr1, le, wl) hP hD hS dX0_alike_36 rfl ⟨by rw [pm_al_2 hja hjb, decide_eq_false c_28]; rfl, pm_xp_pr hpr⟩
      · skip
        refine lv_iconst (v := nI 1) hx hb dX0_alike_31 (by decide) ?_
        refine lv_goto (tgt := 36) hx hb dX0_alike_32 (by decide) ?_
        exact cx_zret hQ hx hb hr hlocks hK (nx, ou, 1, ro1, gr1, le, wl) hP hD hS dX0_alike_36 rfl ⟨by rw [pm_al_2 hja hjb, decide_eq_true c_28]; rfl, pm_xp_pr hpr⟩
    · skip
      refine lv_iconst (v := nI 0) hx hb dX0_alike_14 (by decide) ?_
      exact cx_zret hQ hx hb hr hlocks hK (nx, ou, rd, ro, gr, le, wl) hP hD hS dX0_alike_15 rfl ⟨by rw [pm_al_1 (Or.inr c_11)]; rfl, pm_xp_mk hv⟩

abbrev rmX0_distance : Room := { frames := 3, cells := 0, slots := 0, locals := 71 }
set_option maxHeartbeats 400000 in
set_option maxRecDepth 100000 in
theorem mX0_distance (l : Launch) (D : va_G) (dA : ClassId) (h0 qn qo qg ql sz : Nat) (nx : Nat → Nat) (ou : Nat → Int32) (rd ro : Nat) (gr le : Nat → Nat) (wl : Nat) (x y : Int32) (hv : pm_xv nx ou rd ro gr) (hnx : ∀ i, nx i < 16) : cM l yX0_distance (ws_ yX0_distance cX0_distance 4 (some .int)) rmX0_distance D [(dA, .int)] [.ref h0, .int x, .int y] (xwf h0 qn qo qg ql dA (nx, ou, rd, ro, gr, le, wl)) sz (cQi D [(dA, .int)] (xwf h0 qn qo qg ql dA) (fun v u => v = pm_diS nx ou x y ∧ pm_xp nx ou u)) := by
  refine cM_start (by decide) (Nat.le_of_ble_eq_true rfl) ?_
  intro p e s m args below meth c A ls Q hx hb hr hlocks hml hown hin hts hA hK hP hD hS hl hQ
  have hown : s.vm.findClass RX0 = some m.cls := hown
  have hl : lv_has ls 4 [(0, .ref h0), (1, .int x), (2, .int y)] := hl
  refine lv_iload_n hx hb dX0_distance_0 rfl (lv_at hl 1 rfl) ?_
  refine cx_S (As := [.int x]) (rest := []) ⟨hx, hb, hml, hown, hts⟩ (mX0_bad l D s.heap.size x) (va_cwS 1 hts (lw_S q51 q52 q14 q53) rfl rfl rfl (by decide +kernel) ⟨Nat.le_of_ble_eq_true rfl, Nat.le_of_ble_eq_true rfl⟩) hK hP hD hS hA rfl rfl hl.1 (Nat.le_of_ble_eq_true rfl) dX0_distance_1 rfl rfl ⟨Nat.zero_le _, Nat.zero_le _⟩ (fun rv H locs hw hP hD hS => ?_)
  have hw : rv = bI (pm_bad x) := hw
  subst hw
  refine b_if_ne (tgt := 14) hx hb dX0_distance_4 (by decide) (fun c_4 => ?_) (fun c_4 => ?_)
  · skip
    refine lv_iconst (v := -1) hx hb dX0_distance_14 (by decide) ?_
    exact cx_iret hQ hx hb hr hlocks hK (nx, ou, rd, ro, gr, le, wl) hP hD hS dX0_distance_15 ⟨by rw [pm_di_1 (Or.inl c_4)], pm_xp_mk hv⟩
  · skip
    refine lv_iload_n hx hb dX0_distance_7 rfl (lv_at hl 2 rfl) ?_
    refine cx_S (As := [.int y]) (rest := []) ⟨hx, hb, hml, hown, hts⟩ (mX0_bad l D H.size y) (va_cwS 1 hts (lw_S q51 q52 q14 q53) rfl rfl rfl (by decide +kernel) ⟨Nat.le_of_ble_eq_true rfl, Nat.le_of_ble_eq_true rfl⟩) hK hP hD hS hA rfl rfl hl.1 (Nat.le_of_ble_eq_true rfl) dX0_distance_8 rfl rfl ⟨Nat.zero_le _, Nat.zero_le _⟩ (fun rv H locs hw hP hD hS => ?_)
    have hw : rv = bI (pm_bad y) := hw
    subst hw
    refine b_if_eq (tgt := 16) hx hb dX0_distance_11 (by decide) (fun c_11 => ?_) (fun c_11 => ?_)
    · skip
      obtain ⟨ja, hja, rfl⟩ := pm_bad_n c_4
      obtain ⟨jb, hjb, rfl⟩ := pm_bad_n c_11
      refine lv_aload_n hx hb dX0_distance_16 rfl (lv_at hl 0 rfl) ?_
      refine cx_Vv (As := []) (rest := []) (q0 := 0) (ci := 0) (C := RX0) (T := TX0) (N := 7) ⟨hx, hb, hml, hown, hts⟩ (mX0_prepare l D dA h0 qn qo qg ql H.size nx ou rd ro gr le wl hv hnx) (cwV 0 hts (lw_V q62 q64 qs0 q14 q65) rfl rfl rfl (by decide +kernel) ⟨Nat.le_of_ble_eq_true rfl, Nat.le_of_ble_eq_true rfl⟩) hK hP hD hS hA rfl rfl rfl rfl hl.1 (Nat.le_of_ble_eq_true rfl) dX0_distance_17 rfl rfl ⟨Nat.zero_le _, Nat.zero_le _⟩ (fun uv H locs hw hP hD hS => ?_)
      obtain ⟨ro1, gr1, rfl, hpr⟩ := hw
      have hro := hpr.2.1
      refine lv_aload_n hx hb dX0_distance_20 rfl (lv_at hl 0 rfl) ?_
      refine lv_iload_n hx hb dX0_distance_21 rfl (lv_at hl 1 rfl) ?_
      refine lv_iload_n hx hb dX0_distance_22 rfl (lv_at hl 2 rfl) ?_
      refine cx_V (As := [.int (nI ja), .int (nI jb)]) (rest := []) (q0 := 0) (ci := 0) (C := RX0) (T := TX0) (N := 7) ⟨hx, hb, hml, hown, hts⟩ (mX0_parting l D dA h0 qn qo qg ql H.size nx ou 1 ro1 gr1 le wl ja jb (by omega) (by omega) (Nat.le_trans hpr.2.1 (by decide)) (pm_pr_gr hpr)) (cwV 2 hts (lw_V q74 q76 qs3 q14 q77) rfl rfl rfl (by decide +kernel) ⟨Nat.le_of_ble_eq_true rfl, Nat.le_of_ble_eq_true rfl⟩) hK hP hD hS hA rfl rfl rfl rfl hl.1 (Nat.le_of_ble_eq_true rfl) dX0_distance_23 rfl rfl ⟨Nat.zero_le _, Nat.zero_le _⟩ (fun rv uv H locs hw hP hD hS => ?_)
      obtain ⟨rfl, rfl⟩ := hw
      rw [pm_pt_ds hnx hpr (a := ja) (b := jb) (by omega) (by omega)]
      have hds_0 := pm_ds_le hnx hpr (a := ja) (b := jb) (by omega) (by omega)
      refine lv_istore_n (lv' := [(3, .int (nI (pm_ds nx ou ja jb))), (0, .ref h0), (1, .int (nI ja)), (2, .int (nI jb))]) hx hb dX0_distance_26 rfl hl (by decide) rfl (fun ls hl => ?_)
      refine lv_iload_n hx hb dX0_distance_27 rfl (lv_at hl 0 rfl) ?_
      refine n_if_ne (tgt := 36) hx hb dX0_distance_28 (by decide) (by omega) (fun c_28 => ?_) (fun c_28 => ?_)
      · skip
        refine lv_iload_n hx hb dX0_distance_36 rfl (lv_at hl 0 rfl) ?_
        exact cx_iret hQ hx hb hr hlocks hK (nx, ou, 1, ro1, gr1, le, wl) hP hD hS dX0_distance_37 ⟨by rw [pm_di_2 hja hjb, if_neg c_28], pm_xp_pr hpr⟩
      · skip
        refine lv_bipush (v := -4) hx hb dX0_distance_31 (by decide) ?_
        refine lv_goto (tgt := 37) hx hb dX0_distance_33 (by decide) ?_
        exact cx_iret hQ hx hb hr hlocks hK (nx, ou, 1, ro1, gr1, le, wl) hP hD hS dX0_distance_37 ⟨by rw [pm_di_2 hja hjb, if_pos c_28], pm_xp_pr hpr⟩
    · skip
      refine lv_iconst (v := -1) hx hb dX0_distance_14 (by decide) ?_
      exact cx_iret hQ hx hb hr hlocks hK (nx, ou, rd, ro, gr, le, wl) hP hD hS dX0_distance_15 ⟨by rw [pm_di_1 (Or.inr c_11)], pm_xp_mk hv⟩

abbrev rmX0_teller : Room := { frames := 4, cells := 0, slots := 0, locals := 100 }
set_option maxHeartbeats 400000 in
set_option maxRecDepth 100000 in
theorem mX0_teller (l : Launch) (D : va_G) (dA : ClassId) (h0 qn qo qg ql sz : Nat) (nx : Nat → Nat) (ou : Nat → Int32) (rd ro : Nat) (gr le : Nat → Nat) (wl : Nat) (x y z : Int32) (hv : pm_xv nx ou rd ro gr) (hnx : ∀ i, nx i < 16) : cM l yX0_teller (ws_ yX0_teller cX0_teller 4 (some .int)) rmX0_teller D [(dA, .int)] [.ref h0, .int x, .int y, .int z] (xwf h0 qn qo qg ql dA (nx, ou, rd, ro, gr, le, wl)) sz (cQi D [(dA, .int)] (xwf h0 qn qo qg ql dA) (fun v u => v = pm_teS nx ou x y z ∧ pm_xp nx ou u)) := by
  refine cM_start (by decide) (Nat.le_of_ble_eq_true rfl) ?_
  intro p e s m args below meth c A ls Q hx hb hr hlocks hml hown hin hts hA hK hP hD hS hl hQ
  have hown : s.vm.findClass RX0 = some m.cls := hown
  have hl : lv_has ls 4 [(0, .ref h0), (1, .int x), (2, .int y), (3, .int z)] := hl
  refine lv_iload_n hx hb dX0_teller_0 rfl (lv_at hl 1 rfl) ?_
  refine cx_S (As := [.int x]) (rest := []) ⟨hx, hb, hml, hown, hts⟩ (mX0_bad l D s.heap.size x) (va_cwS 1 hts (lw_S q51 q52 q14 q53) rfl rfl rfl (by decide +kernel) ⟨Nat.le_of_ble_eq_true rfl, Nat.le_of_ble_eq_true rfl⟩) hK hP hD hS hA rfl rfl hl.1 (Nat.le_of_ble_eq_true rfl) dX0_teller_1 rfl rfl ⟨Nat.zero_le _, Nat.zero_le _⟩ (fun rv H locs hw hP hD hS => ?_)
  have hw : rv = bI (pm_bad x) := hw
  subst hw
  refine b_if_ne (tgt := 14) hx hb dX0_teller_4 (by decide) (fun c_4 => ?_) (fun c_4 => ?_)
  · skip
    refine lv_iconst (v := -1) hx hb dX0_teller_14 (by decide) ?_
    exact cx_iret hQ hx hb hr hlocks hK (nx, ou, rd, ro, gr, le, wl) hP hD hS dX0_teller_15 ⟨by rw [pm_te_1 (Or.inl c_4)], pm_xp_mk hv⟩
  · skip
    refine lv_iload_n hx hb dX0_teller_7 rfl (lv_at hl 2 rfl) ?_
    refine cx_S (As := [.int y]) (rest := []) ⟨hx, hb, hml, hown, hts⟩ (mX0_bad l D H.size y) (va_cwS 1 hts (lw_S q51 q52 q14 q53) rfl rfl rfl (by decide +kernel) ⟨Nat.le_of_ble_eq_true rfl, Nat.le_of_ble_eq_true rfl⟩) hK hP hD hS hA rfl rfl hl.1 (Nat.le_of_ble_eq_true rfl) dX0_teller_8 rfl rfl ⟨Nat.zero_le _, Nat.zero_le _⟩ (fun rv H locs hw hP hD hS => ?_)
    have hw : rv = bI (pm_bad y) := hw
    subst hw
    refine b_if_eq (tgt := 16) hx hb dX0_teller_11 (by decide) (fun c_11 => ?_) (fun c_11 => ?_)
    · skip
      obtain ⟨ja, hja, rfl⟩ := pm_bad_n c_4
      obtain ⟨jb, hjb, rfl⟩ := pm_bad_n c_11
      refine lv_aload_n hx hb dX0_teller_16 rfl (lv_at hl 0 rfl) ?_
      refine cx_Vv (As := []) (rest := []) (q0 := 0) (ci := 0) (C := RX0) (T := TX0) (N := 7) ⟨hx, hb, hml, hown, hts⟩ (mX0_prepare l D dA h0 qn qo qg ql H.size nx ou rd ro gr le wl hv hnx) (cwV 0 hts (lw_V q62 q64 qs0 q14 q65) rfl rfl rfl (by decide +kernel) ⟨Nat.le_of_ble_eq_true rfl, Nat.le_of_ble_eq_true rfl⟩) hK hP hD hS hA rfl rfl rfl rfl hl.1 (Nat.le_of_ble_eq_true rfl) dX0_teller_17 rfl rfl ⟨Nat.zero_le _, Nat.zero_le _⟩ (fun uv H locs hw hP hD hS => ?_)
      obtain ⟨ro1, gr1, rfl, hpr⟩ := hw
      have hro := hpr.2.1
      refine lv_aload_n hx hb dX0_teller_20 rfl (lv_at hl 0 rfl) ?_
      refine lv_iload_n hx hb dX0_teller_21 rfl (lv_at hl 1 rfl) ?_
      refine lv_iload_n hx hb dX0_teller_22 rfl (lv_at hl 2 rfl) ?_
      refine cx_Vv (As := [.int (nI ja), .int (nI jb)]) (rest := []) (q0 := 0) (ci := 0) (C := RX0) (T := TX0) (N := 7) ⟨hx, hb, hml, hown, hts⟩ (mX0_findWord l D dA h0 qn qo qg ql H.size nx ou 1 ro1 gr1 le wl ja jb hja hjb hpr hnx) (cwV 2 hts (lw_V q90 q92 qs5 q14 q93) rfl rfl rfl (by decide +kernel) ⟨Nat.le_of_ble_eq_true rfl, Nat.le_of_ble_eq_true rfl⟩) hK hP hD hS hA rfl rfl rfl rfl hl.1 (Nat.le_of_ble_eq_true rfl) dX0_teller_23 rfl rfl ⟨Nat.zero_le _, Nat.zero_le _⟩ (fun uv H locs hw hP hD hS => ?_)
      obtain ⟨le1, rfl, hle⟩ := hw
      have hdd := pm_ds_le hnx hpr hja hjb
      obtain ⟨L, hL⟩ : ∃ L, L = pm_ds nx ou ja jb := ⟨_, rfl⟩
      rw [← hL] at hle hdd hP hD
      refine lv_iload_n hx hb dX0_teller_26 rfl (lv_at hl 3 rfl) ?_
      refine lv_if_lt (tgt := 38) hx hb dX0_teller_27 (by decide) (fun c_27 => ?_) (fun c_27 => ?_)
      · skip
        refine lv_bipush (v := -4) hx hb dX0_teller_38 (by decide) ?_
        refine lv_goto (tgt := 49) hx hb dX0_teller_40 (by decide) ?_
        exact cx_iret hQ hx hb hr hlocks hK (nx, ou, 1, ro1, gr1, le1, L) hP hD hS dX0_teller_49 ⟨by rw [pm_te_2 hja hjb (Or.inl c_27)], pm_xp_pr hpr⟩
      · skip
        refine lv_iload_n hx hb dX0_teller_30 rfl (lv_at hl 3 rfl) ?_
        refine lv_aload_n hx hb dX0_teller_31 rfl (lv_at hl 0 rfl) ?_
        refine va_get (D := D) (ci := 0) (v := .int (nI L)) (C := RX0) (T := TX0) (N := 7) hx hb hts in_X0 hown hK hP 0 rfl rfl 6 (by decide) (hts _ q30) (fun _ h9 => h9) rfl dX0_teller_32 ?_
        refine lv_icmp_lt (tgt := 43) hx hb dX0_teller_35 (by decide) (fun c_35 => ?_) (fun c_35 => ?_)
        · skip
          obtain ⟨jz, hjz, rfl⟩ := pm_n_ix (by omega) c_27 c_35
          refine lv_aload_n hx hb dX0_teller_43 rfl (lv_at hl 0 rfl) ?_
          refine va_get (D := D) (ci := 0) (v := .ref ql) (C := RX0) (T := TX0) (N := 7) hx hb hts in_X0 hown hK hP 0 rfl rfl 5 (by decide) (hts _ q29) (fun _ h9 => h9) rfl dX0_teller_44 ?_
          refine lv_iload_n hx hb dX0_teller_47 rfl (lv_at hl 3 rfl) ?_
          refine n_iald (g := le1) (i := jz) hx hb hK hP 4 0 rfl rfl (by omega) (by decide) dX0_teller_48 ?_
          exact cx_iret hQ hx hb hr hlocks hK (nx, ou, 1, ro1, gr1, le1, L) hP hD hS dX0_teller_49 ⟨by rw [pm_te_3 hja hjb (by rw [← hL]; exact hjz) (by rw [← hL]; omega), ← hL, hle jz hjz], pm_xp_pr hpr⟩
        · skip
          refine lv_bipush (v := -4) hx hb dX0_teller_38 (by decide) ?_
          refine lv_goto (tgt := 49) hx hb dX0_teller_40 (by decide) ?_
          rw [hL] at c_35
          exact cx_iret hQ hx hb hr hlocks hK (nx, ou, 1, ro1, gr1, le1, L) hP hD hS dX0_teller_49 ⟨by rw [pm_te_2 hja hjb (Or.inr c_35)], pm_xp_pr hpr⟩
    · skip
      refine lv_iconst (v := -1) hx hb dX0_teller_14 (by decide) ?_
      exact cx_iret hQ hx hb hr hlocks hK (nx, ou, rd, ro, gr, le, wl) hP hD hS dX0_teller_15 ⟨by rw [pm_te_1 (Or.inr c_11)], pm_xp_mk hv⟩

abbrev rmX0_kind : Room := { frames := 3, cells := 0, slots := 0, locals := 71 }
set_option maxHeartbeats 400000 in
set_option maxRecDepth 100000 in
theorem mX0_kind (l : Launch) (D : va_G) (dA : ClassId) (h0 qn qo qg ql sz : Nat) (nx : Nat → Nat) (ou : Nat → Int32) (rd ro : Nat) (gr le : Nat → Nat) (wl : Nat) (x : Int32) (hv : pm_xv nx ou rd ro gr) (hnx : ∀ i, nx i < 16) : cM l yX0_kind (ws_ yX0_kind cX0_kind 2 (some .int)) rmX0_kind D [(dA, .int)] [.ref h0, .int x] (xwf h0 qn qo qg ql dA (nx, ou, rd, ro, gr, le, wl)) sz (cQi D [(dA, .int)] (xwf h0 qn qo qg ql dA) (fun v u => v = pm_kiS nx ou x ∧ pm_xp nx ou u)) := by
  refine cM_start (by decide) (Nat.le_of_ble_eq_true rfl) ?_
  intro p e s m args below meth c A ls Q hx hb hr hlocks hml hown hin hts hA hK hP hD hS hl hQ
  have hown : s.vm.findClass RX0 = some m.cls := hown
  have hl : lv_has ls 2 [(0, .ref h0), (1, .int x)] := hl
  refine lv_iload_n hx hb dX0_kind_0 rfl (lv_at hl 1 rfl) ?_
  refine cx_S (As := [.int x]) (rest := []) ⟨hx, hb, hml, hown, hts⟩ (mX0_bad l D s.heap.size x) (va_cwS 1 hts (lw_S q51 q52 q14 q53) rfl rfl rfl (by decide +kernel) ⟨Nat.le_of_ble_eq_true rfl, Nat.le_of_ble_eq_true rfl⟩) hK hP hD hS hA rfl rfl hl.1 (Nat.le_of_ble_eq_true rfl) dX0_kind_1 rfl rfl ⟨Nat.zero_le _, Nat.zero_le _⟩ (fun rv H locs hw hP hD hS => ?_)
  have hw : rv = bI (pm_bad x) := hw
  subst hw
  refine b_if_eq (tgt := 9) hx hb dX0_kind_4 (by decide) (fun c_4 => ?_) (fun c_4 => ?_)
  · skip
    obtain ⟨ja, hja, rfl⟩ := pm_bad_n c_4
    refine lv_aload_n hx hb dX0_kind_9 rfl (lv_at hl 0 rfl) ?_
    refine cx_Vv (As := []) (rest := []) (q0 := 0) (ci := 0) (C := RX0) (T := TX0) (N := 7) ⟨hx, hb, hml, hown, hts⟩ (mX0_prepare l D dA h0 qn qo qg ql H.size nx ou rd ro gr le wl hv hnx) (cwV 0 hts (lw_V q62 q64 qs0 q14 q65) rfl rfl rfl (by decide +kernel) ⟨Nat.le_of_ble_eq_true rfl, Nat.le_of_ble_eq_true rfl⟩) hK hP hD hS hA rfl rfl rfl rfl hl.1 (Nat.le_of_ble_eq_true rfl) dX0_kind_10 rfl rfl ⟨Nat.zero_le _, Nat.zero_le _⟩ (fun uv H locs hw hP hD hS => ?_)
    obtain ⟨ro1, gr1, rfl, hpr⟩ := hw
    have hro := hpr.2.1
    refine lv_aload_n hx hb dX0_kind_13 rfl (lv_at hl 0 rfl) ?_
    refine lv_aload_n hx hb dX0_kind_14 rfl (lv_at hl 0 rfl) ?_
    refine va_get (D := D) (ci := 0) (v := .int (nI ro1)) (C := RX0) (T := TX0) (N := 7) hx hb hts in_X0 hown hK hP 0 rfl rfl 3 (by decide) (hts _ q27) (fun _ h9 => h9) rfl dX0_kind_15 ?_
    refine lv_iload_n hx hb dX0_kind_18 rfl (lv_at hl 1 rfl) ?_
    refine cx_V (As := [.int (nI ro1), .int (nI ja)]) (rest := []) (q0 := 0) (ci := 0) (C := RX0) (T := TX0) (N := 7) ⟨hx, hb, hml, hown, hts⟩ (mX0_groupOf l D dA h0 qn qo qg ql H.size nx ou 1 ro1 gr1 le wl ro1 ja (by omega)) (cwV 2 hts (lw_V q78 q80 qs4 q14 q81) rfl rfl rfl (by decide +kernel) ⟨Nat.le_of_ble_eq_true rfl, Nat.le_of_ble_eq_true rfl⟩) hK hP hD hS hA rfl rfl rfl rfl hl.1 (Nat.le_of_ble_eq_true rfl) dX0_kind_19 rfl rfl ⟨Nat.zero_le _, Nat.zero_le _⟩ (fun rv uv H locs hw hP hD hS => ?_)
    obtain ⟨rfl, rfl⟩ := hw
    exact cx_iret hQ hx hb hr hlocks hK (nx, ou, 1, ro1, gr1, le, wl) hP hD hS dX0_kind_22 ⟨by rw [pm_kd_g hnx hpr hja, pm_ki_2 hja], pm_xp_pr hpr⟩
  · skip
    refine lv_iconst (v := -1) hx hb dX0_kind_7 (by decide) ?_
    exact cx_iret hQ hx hb hr hlocks hK (nx, ou, rd, ro, gr, le, wl) hP hD hS dX0_kind_8 ⟨by rw [pm_ki_1 c_4], pm_xp_mk hv⟩

abbrev rmX0_kinds : Room := { frames := 3, cells := 0, slots := 0, locals := 71 }
set_option maxHeartbeats 400000 in
set_option maxRecDepth 100000 in
theorem mX0_kinds (l : Launch) (D : va_G) (dA : ClassId) (h0 qn qo qg ql sz : Nat) (nx : Nat → Nat) (ou : Nat → Int32) (rd ro : Nat) (gr le : Nat → Nat) (wl : Nat) (hv : pm_xv nx ou rd ro gr) (hnx : ∀ i, nx i < 16) : cM l yX0_kinds (ws_ yX0_kinds cX0_kinds 4 (some .int)) rmX0_kinds D [(dA, .int)] [.ref h0] (xwf h0 qn qo qg ql dA (nx, ou, rd, ro, gr, le, wl)) sz (cQi D [(dA, .int)] (xwf h0 qn qo qg ql dA) (fun v u => v = nI (pm_ksS nx ou 16) ∧ pm_xp nx ou u)) := by
  refine cM_start (by decide) (Nat.le_of_ble_eq_true rfl) ?_
  intro p e s m args below meth c A ls Q hx hb hr hlocks hml hown hin hts hA hK hP hD hS hl hQ
  have hown : s.vm.findClass RX0 = some m.cls := hown
  have hl : lv_has ls 4 [(0, .ref h0)] := hl
  refine lv_aload_n hx hb dX0_kinds_0 rfl (lv_at hl 0 rfl) ?_
  refine cx_Vv (As := []) (rest := []) (q0 := 0) (ci := 0) (C := RX0) (T := TX0) (N := 7) ⟨hx, hb, hml, hown, hts⟩ (mX0_prepare l D dA h0 qn qo qg ql s.heap.size nx ou rd ro gr le wl hv hnx) (cwV 0 hts (lw_V q62 q64 qs0 q14 q65) rfl rfl rfl (by decide +kernel) ⟨Nat.le_of_ble_eq_true rfl, Nat.le_of_ble_eq_true rfl⟩) hK hP hD hS hA rfl rfl rfl rfl hl.1 (Nat.le_of_ble_eq_true rfl) dX0_kinds_1 rfl rfl ⟨Nat.zero_le _, Nat.zero_le _⟩ (fun uv H locs hw hP hD hS => ?_)
  obtain ⟨ro1, gr1, rfl, hpr⟩ := hw
  have hro := hpr.2.1
  refine lv_iconst (v := nI 0) hx hb dX0_kinds_4 (by decide) ?_
  refine lv_istore_n (lv' := [(1, .int (nI 0)), (0, .ref h0)]) hx hb dX0_kinds_5 rfl hl (by decide) rfl (fun ls hl => ?_)
  refine lv_iconst (v := nI 0) hx hb dX0_kinds_6 (by decide) ?_
  refine lv_istore_n (lv' := [(2, .int (nI 0)), (1, .int (nI 0)), (0, .ref h0)]) hx hb dX0_kinds_7 rfl hl (by decide) rfl (fun ls hl => ?_)
  have loop_8 : ∀ (n : Nat) (z : Nat) (cn : Nat), z ≤ 16 → 16 + 1 ≤ z + n → cn = pm_ksS nx ou z → ∀ (H : Heap) (locs : List Loc), va_P D vwCl (xwf h0 qn qo qg ql dA (nx, ou, 1, ro1, gr1, le, wl)) H → va_D A (xwf h0 qn qo qg ql dA (nx, ou, 1, ro1, gr1, le, wl)) → va_S A s.heap H locs → ∀ (ls : Array Slot), lv_has ls 4 [(0, .ref h0), (1, .int (nI cn)), (2, .int (nI z))] → W p l e rmX0_kinds s m args below meth c H locs 0 0 Q (F0 m 8 ls []) := by
    intro n
    induction n with
    | zero =>
      intro z cn hz hf hcn
      exact absurd hf (by omega)
    | succ n ih_8 =>
      intro z cn hz hf hcn H locs hP hD hS ls hl
      refine lv_iload_n hx hb dX0_kinds_8 rfl (lv_at hl 2 rfl) ?_
      refine lv_bipush (v := nI 16) hx hb dX0_kinds_9 (by decide) ?_
      refine n_icmp_ge (tgt := 38) hx hb dX0_kinds_11 (by decide) (by omega) (by omega) (fun c_11 => ?_) (fun c_11 => ?_)
      · skip
        refine lv_iload_n hx hb dX0_kinds_38 rfl (lv_at hl 1 rfl) ?_
        exact cx_iret hQ hx hb hr hlocks hK (nx, ou, 1, ro1, gr1, le, wl) hP hD hS dX0_kinds_39 ⟨by rw [hcn, show z = 16 by omega], pm_xp_pr hpr⟩
      · skip
        refine lv_aload_n hx hb dX0_kinds_14 rfl (lv_at hl 0 rfl) ?_
        refine lv_aload_n hx hb dX0_kinds_15 rfl (lv_at hl 0 rfl) ?_
        refine va_get (D := D) (ci := 0) (v := .int (nI ro1)) (C := RX0) (T := TX0) (N := 7) hx hb hts in_X0 hown hK hP 0 rfl rfl 3 (by decide) (hts _ q27) (fun _ h9 => h9) rfl dX0_kinds_16 ?_
        refine lv_iload_n hx hb dX0_kinds_19 rfl (lv_at hl 2 rfl) ?_
        refine cx_V (As := [.int (nI ro1), .int (nI z)]) (rest := []) (q0 := 0) (ci := 0) (C := RX0) (T := TX0) (N := 7) ⟨hx, hb, hml, hown, hts⟩ (mX0_groupOf l D dA h0 qn qo qg ql H.size nx ou 1 ro1 gr1 le wl ro1 z (by omega)) (cwV 2 hts (lw_V q78 q80 qs4 q14 q81) rfl rfl rfl (by decide +kernel) ⟨Nat.le_of_ble_eq_true rfl, Nat.le_of_ble_eq_true rfl⟩) hK hP hD hS hA rfl rfl rfl rfl hl.1 (Nat.le_of_ble_eq_true rfl) dX0_kinds_20 rfl rfl ⟨Nat.zero_le _, Nat.zero_le _⟩ (fun rv uv H locs hw hP hD hS => ?_)
        obtain ⟨rfl, rfl⟩ := hw
        rw [pm_kd_g hnx hpr (show z < 16 by omega)]
        have hkd := pm_kd_lt (nx := nx) (ou := ou) (s := z)
        refine lv_istore_n (lv' := [(3, .int (nI (pm_kd nx ou z))), (0, .ref h0), (1, .int (nI cn)), (2, .int (nI z))]) hx hb dX0_kinds_23 rfl hl (by decide) rfl (fun ls hl => ?_)
        refine lv_iload_n hx hb dX0_kinds_24 rfl (lv_at hl 0 rfl) ?_
        refine lv_iload_n hx hb dX0_kinds_25 rfl (lv_at hl 3 rfl) ?_
        refine n_icmp_ne (tgt := 32) hx hb dX0_kinds_26 (by decide) (by omega) (by omega) (fun c_26 => ?_) (fun c_26 => ?_)
        · skip
          refine lv_iinc (v := nI (z + 1)) (lv' := [(2, .int (nI (z + 1))), (3, .int (nI (pm_kd nx ou z))), (0, .ref h0), (1, .int (nI cn))]) hx hb dX0_kinds_32 hl (k := 3) rfl (nI_inc1 _) (by decide) rfl (fun ls hl => ?_)
          refine lv_goto (tgt := 8) hx hb dX0_kinds_35 (by decide) ?_
          exact ih_8 (z + 1) cn (by omega) (by omega) (by rw [pm_ks_s, if_neg c_26]; exact hcn) H locs hP hD hS ls (lv_sub hl [2, 3, 0] rfl)
        · skip
          refine lv_iinc (v := nI (cn + 1)) (lv' := [(1, .int (nI (cn + 1))), (3, .int (nI (pm_kd nx ou z))), (0, .ref h0), (2, .int (nI z))]) hx hb dX0_kinds_29 hl (k := 2) rfl (nI_inc1 _) (by decide) rfl (fun ls hl => ?_)
          refine lv_iinc (v := nI (z + 1)) (lv' := [(2, .int (nI (z + 1))), (1, .int (nI (cn + 1))), (3, .int (nI (pm_kd nx ou z))), (0, .ref h0)]) hx hb dX0_kinds_32 hl (k := 3) rfl (nI_inc1 _) (by decide) rfl (fun ls hl => ?_)
          refine lv_goto (tgt := 8) hx hb dX0_kinds_35 (by decide) ?_
          exact ih_8 (z + 1) (cn + 1) (by omega) (by omega) (by rw [pm_ks_s, if_pos c_26, hcn]) H locs hP hD hS ls (lv_sub hl [3, 1, 0] rfl)
  exact loop_8 17 0 0 (by omega) (by omega) rfl _ _ hP hD hS ls (lv_sub hl [2, 1, 0] rfl)

abbrev rmX0_depth : Room := { frames := 3, cells := 0, slots := 0, locals := 71 }
set_option maxHeartbeats 400000 in
set_option maxRecDepth 100000 in
theorem mX0_depth (l : Launch) (D : va_G) (dA : ClassId) (h0 qn qo qg ql sz : Nat) (nx : Nat → Nat) (ou : Nat → Int32) (rd ro : Nat) (gr le : Nat → Nat) (wl : Nat) (hv : pm_xv nx ou rd ro gr) (hnx : ∀ i, nx i < 16) : cM l yX0_depth (ws_ yX0_depth cX0_depth 1 (some .int)) rmX0_depth D [(dA, .int)] [.ref h0] (xwf h0 qn qo qg ql dA (nx, ou, rd, ro, gr, le, wl)) sz (cQi D [(dA, .int)] (xwf h0 qn qo qg ql dA) (fun v u => v = nI (pm_mx nx ou 256) ∧ pm_xp nx ou u)) := by
  refine cM_start (by decide) (Nat.le_of_ble_eq_true rfl) ?_
  intro p e s m args below meth c A ls Q hx hb hr hlocks hml hown hin hts hA hK hP hD hS hl hQ
  have hown : s.vm.findClass RX0 = some m.cls := hown
  have hl : lv_has ls 1 [(0, .ref h0)] := hl
  refine lv_aload_n hx hb dX0_depth_0 rfl (lv_at hl 0 rfl) ?_
  refine cx_Vv (As := []) (rest := []) (q0 := 0) (ci := 0) (C := RX0) (T := TX0) (N := 7) ⟨hx, hb, hml, hown, hts⟩ (mX0_prepare l D dA h0 qn qo qg ql s.heap.size nx ou rd ro gr le wl hv hnx) (cwV 0 hts (lw_V q62 q64 qs0 q14 q65) rfl rfl rfl (by decide +kernel) ⟨Nat.le_of_ble_eq_true rfl, Nat.le_of_ble_eq_true rfl⟩) hK hP hD hS hA rfl rfl rfl rfl hl.1 (Nat.le_of_ble_eq_true rfl) dX0_depth_1 rfl rfl ⟨Nat.zero_le _, Nat.zero_le _⟩ (fun uv H locs hw hP hD hS => ?_)
  obtain ⟨ro1, gr1, rfl, hpr⟩ := hw
  have hro := hpr.2.1
  refine lv_aload_n hx hb dX0_depth_4 rfl (lv_at hl 0 rfl) ?_
  refine va_get (D := D) (ci := 0) (v := .int (nI ro1)) (C := RX0) (T := TX0) (N := 7) hx hb hts in_X0 hown hK hP 0 rfl rfl 3 (by decide) (hts _ q27) (fun _ h9 => h9) rfl dX0_depth_5 ?_
  exact cx_iret hQ hx hb hr hlocks hK (nx, ou, 1, ro1, gr1, le, wl) hP hD hS dX0_depth_8 ⟨by rw [pm_depth hnx hpr], pm_xp_pr hpr⟩

abbrev rmX0_reach : Room := { frames := 0, cells := 0, slots := 0, locals := 0 }
set_option maxHeartbeats 400000 in
set_option maxRecDepth 100000 in
theorem mX0_reach (l : Launch) (D : va_G) (dA : ClassId) (h0 qn qo qg ql sz : Nat) (nx : Nat → Nat) (ou : Nat → Int32) (rd ro : Nat) (gr le : Nat → Nat) (wl : Nat) (sa : Nat) (hsa : sa < 16) (hnx : ∀ i, nx i < 16) : cM l yX0_reach (ws_ yX0_reach cX0_reach 6 (some .int)) rmX0_reach D [(dA, .int)] [.ref h0, .int (nI sa)] (xwf h0 qn qo qg ql dA (nx, ou, rd, ro, gr, le, wl)) sz (cQi D [(dA, .int)] (xwf h0 qn qo qg ql dA) (fun v u => ∃ mm, v = nI mm ∧ pm_rm nx sa mm ∧ u = (nx, ou, rd, ro, gr, le, wl))) := by
  refine cM_start (by decide) (Nat.le_of_ble_eq_true rfl) ?_
  intro p e s m args below meth c A ls Q hx hb hr hlocks hml hown hin hts hA hK hP hD hS hl hQ
  have hown : s.vm.findClass RX0 = some m.cls := hown
  have hl : lv_has ls 6 [(0, .ref h0), (1, .int (nI sa))] := hl
  refine lv_iconst (v := nI 1) hx hb dX0_reach_0 (by decide) ?_
  refine lv_iload_n hx hb dX0_reach_1 rfl (lv_at hl 1 rfl) ?_
  refine n_ishl1 (y := sa) hx hb (by omega) dX0_reach_2 ?_
  refine lv_istore_n (lv' := [(2, .int (nI (2 ^ sa))), (0, .ref h0), (1, .int (nI sa))]) hx hb dX0_reach_3 rfl hl (by decide) rfl (fun ls hl => ?_)
  refine lv_iconst (v := nI 0) hx hb dX0_reach_4 (by decide) ?_
  refine lv_istore_n (lv' := [(3, .int (nI 0)), (2, .int (nI (2 ^ sa))), (0, .ref h0), (1, .int (nI sa))]) hx hb dX0_reach_5 rfl hl (by decide) rfl (fun ls hl => ?_)
  refine lv_iconst (v := nI 0) hx hb dX0_reach_6 (by decide) ?_
  refine lv_istore (lv' := [(4, .int (nI 0)), (3, .int (nI 0)), (2, .int (nI (2 ^ sa))), (0, .ref h0), (1, .int (nI sa))]) hx hb dX0_reach_7 hl (by decide) rfl (fun ls hl => ?_)
  have loop_9 : ∀ (n : Nat) (k : Nat) (mm : Nat) (pp : Nat), k ≤ 16 → 16 + 1 ≤ k + n → pp < 65536 → pm_xo nx sa pp mm k → ∀ (ls : Array Slot), lv_has ls 6 [(0, .ref h0), (1, .int (nI sa)), (2, .int (nI mm)), (3, .int (nI pp)), (4, .int (nI k))] → W p l e rmX0_reach s m args below meth c s.heap [] 0 0 Q (F0 m 9 ls []) := by
    intro n
    induction n with
    | zero =>
      intro k mm pp hk hf hpp hxo
      exact absurd hf (by omega)
    | succ n ih_9 =>
      intro k mm pp hk hf hpp hxo ls hl
      have hmm := hxo.1
      refine lv_iload hx hb dX0_reach_9 (lv_at hl 4 rfl) ?_
      refine lv_bipush (v := nI 16) hx hb dX0_reach_11 (by decide) ?_
      refine n_icmp_ge (tgt := 69) hx hb dX0_reach_13 (by decide) (by omega) (by omega) (fun c_13 => ?_) (fun c_13 => ?_)
      · skip
        refine lv_iload_n hx hb dX0_reach_69 rfl (lv_at hl 2 rfl) ?_
        exact cx_iret hQ hx hb hr hlocks hK (nx, ou, rd, ro, gr, le, wl) hP hD hS dX0_reach_70 ⟨mm, rfl, pm_xo_x hxo (Or.inr c_13), rfl⟩
      · skip
        refine lv_iload_n hx hb dX0_reach_16 rfl (lv_at hl 2 rfl) ?_
        refine lv_iload_n hx hb dX0_reach_17 rfl (lv_at hl 3 rfl) ?_
        refine n_icmp_eq (tgt := 69) hx hb dX0_reach_18 (by decide) (by omega) (by omega) (fun c_18 => ?_) (fun c_18 => ?_)
        · skip
          refine lv_iload_n hx hb dX0_reach_69 rfl (lv_at hl 2 rfl) ?_
          exact cx_iret hQ hx hb hr hlocks hK (nx, ou, rd, ro, gr, le, wl) hP hD hS dX0_reach_70 ⟨mm, rfl, pm_xo_x hxo (Or.inl c_18), rfl⟩
        · skip
          refine lv_iload_n hx hb dX0_reach_21 rfl (lv_at hl 2 rfl) ?_
          refine lv_istore_n (lv' := [(3, .int (nI mm)), (0, .ref h0), (1, .int (nI sa)), (2, .int (nI mm)), (4, .int (nI k))]) hx hb dX0_reach_22 rfl hl (by decide) rfl (fun ls hl => ?_)
          refine lv_iconst (v := nI 0) hx hb dX0_reach_23 (by decide) ?_
          refine lv_istore (lv' := [(5, .int (nI 0)), (3, .int (nI mm)), (0, .ref h0), (1, .int (nI sa)), (2, .int (nI mm)), (4, .int (nI k))]) hx hb dX0_reach_24 hl (by decide) rfl (fun ls hl => ?_)
          have loop_26 : ∀ (n : Nat) (i : Nat) (m2 : Nat), i ≤ 48 → 48 + 1 ≤ i + n → pm_xi nx sa mm m2 i → ∀ (ls : Array Slot), lv_has ls 6 [(0, .ref h0), (1, .int (nI sa)), (2, .int (nI m2)), (3, .int (nI mm)), (4, .int (nI k)), (5, .int (nI i))] → W p l e rmX0_reach s m args below meth c s.heap [] 0 0 Q (F0 m 26 ls []) := by
            intro n
            induction n with
            | zero =>
              intro i m2 hi hfi hxi
              exact absurd hfi (by omega)
            | succ n ih_26 =>
              intro i m2 hi hfi hxi ls hl
              refine lv_iload hx hb dX0_reach_26 (lv_at hl 5 rfl) ?_
              refine lv_bipush (v := nI 48) hx hb dX0_reach_28 (by decide) ?_
              refine n_icmp_ge (tgt := 63) hx hb dX0_reach_30 (by decide) (by omega) (by omega) (fun c_30 => ?_) (fun c_30 => ?_)
              · skip
                refine lv_iinc (v := nI (k + 1)) (lv' := [(4, .int (nI (k + 1))), (0, .ref h0), (1, .int (nI sa)), (2, .int (nI m2)), (3, .int (nI mm)), (5, .int (nI i))]) hx hb dX0_reach_63 hl (k := 4) rfl (nI_inc1 _) (by decide) rfl (fun ls hl => ?_)
                refine lv_goto (tgt := 9) hx hb dX0_reach_66 (by decide) ?_
                have hxi := hxi
                rw [show i = 48 by omega] at hxi
                exact ih_9 (k + 1) m2 mm (by omega) (by omega) hmm (pm_xo_s hxo c_18 hxi) ls (lv_sub hl [1, 2, 3, 4, 0] rfl)
              · skip
                refine lv_iload_n hx hb dX0_reach_33 rfl (lv_at hl 3 rfl) ?_
                refine lv_iload hx hb dX0_reach_34 (lv_at hl 5 rfl) ?_
                refine lv_iconst (v := nI 3) hx hb dX0_reach_36 (by decide) ?_
                refine n_idiv hx hb (by omega) (by omega) (by omega) dX0_reach_37 ?_
                refine lv_ishr hx hb dX0_reach_38 ?_
                refine lv_iconst (v := nI 1) hx hb dX0_reach_39 (by decide) ?_
                refine lv_iand hx hb dX0_reach_40 ?_
                refine n_top _ (bI (mm.testBit (i / 3))) (pm_tb (by omega) (by omega)) ?_
                refine lv_iconst (v := nI 1) hx hb dX0_reach_41 (by decide) ?_
                refine b_icmp_ne1 (tgt := 57) hx hb dX0_reach_42 (by decide) (fun c_42 => ?_) (fun c_42 => ?_)
                · skip
                  refine lv_iinc (v := nI (i + 1)) (lv' := [(5, .int (nI (i + 1))), (0, .ref h0), (1, .int (nI sa)), (2, .int (nI m2)), (3, .int (nI mm)), (4, .int (nI k))]) hx hb dX0_reach_57 hl (k := 5) rfl (nI_inc1 _) (by decide) rfl (fun ls hl => ?_)
                  refine lv_goto (tgt := 26) hx hb dX0_reach_60 (by decide) ?_
                  exact ih_26 (i + 1) m2 (by omega) (by omega) (pm_xi_no hxi c_42) ls (lv_sub hl [1, 2, 3, 4, 5, 0] rfl)
                · skip
                  refine lv_iload_n hx hb dX0_reach_45 rfl (lv_at hl 2 rfl) ?_
                  refine lv_iconst (v := nI 1) hx hb dX0_reach_46 (by decide) ?_
                  refine lv_aload_n hx hb dX0_reach_47 rfl (lv_at hl 0 rfl) ?_
                  refine va_get (D := D) (ci := 0) (v := .ref qn) (C := RX0) (T := TX0) (N := 7) hx hb hts in_X0 hown hK hP 0 rfl rfl 0 (by decide) (hts _ q24) (fun _ h9 => h9) rfl dX0_reach_48 ?_
                  refine lv_iload hx hb dX0_reach_51 (lv_at hl 5 rfl) ?_
                  refine n_iald (g := nx) (i := i) hx hb hK hP 1 0 rfl rfl (by omega) (by decide) dX0_reach_53 ?_
                  have hn_53 := hnx i
                  refine n_ishl1 (y := nx i) hx hb (by omega) dX0_reach_54 ?_
                  refine n_ior hx hb dX0_reach_55 ?_
                  refine lv_istore_n (lv' := [(2, .int (nI (m2 ||| (2 ^ (nx i))))), (0, .ref h0), (1, .int (nI sa)), (3, .int (nI mm)), (4, .int (nI k)), (5, .int (nI i))]) hx hb dX0_reach_56 rfl hl (by decide) rfl (fun ls hl => ?_)
                  refine lv_iinc (v := nI (i + 1)) (lv' := [(5, .int (nI (i + 1))), (2, .int (nI (m2 ||| (2 ^ (nx i))))), (0, .ref h0), (1, .int (nI sa)), (3, .int (nI mm)), (4, .int (nI k))]) hx hb dX0_reach_57 hl (k := 5) rfl (nI_inc1 _) (by decide) rfl (fun ls hl => ?_)
                  refine lv_goto (tgt := 26) hx hb dX0_reach_60 (by decide) ?_
                  exact ih_26 (i + 1) (m2 ||| 2 ^ nx i) (by omega) (by omega) (pm_xi_or hnx hxi (hxo.2.2.1 _ c_42)) ls (lv_sub hl [2, 3, 1, 4, 5, 0] rfl)
          exact loop_26 49 0 mm (by omega) (by omega) (pm_xi_0 hmm hxo.2.2.1) ls (lv_sub hl [2, 3, 4, 1, 5, 0] rfl)
  exact loop_9 17 0 (2 ^ sa) 0 (by omega) (by omega) (by omega) (pm_xo_0 hsa) ls (lv_sub hl [3, 4, 2, 1, 0] rfl)

abbrev rmX0_reachableKinds : Room := { frames := 3, cells := 0, slots := 0, locals := 71 }
set_option maxHeartbeats 400000 in
set_option maxRecDepth 100000 in
theorem mX0_reachableKinds (l : Launch) (D : va_G) (dA : ClassId) (h0 qn qo qg ql sz : Nat) (nx : Nat → Nat) (ou : Nat → Int32) (rd ro : Nat) (gr le : Nat → Nat) (wl : Nat) (x : Int32) (hv : pm_xv nx ou rd ro gr) (hnx : ∀ i, nx i < 16) : cM l yX0_reachableKinds (ws_ yX0_reachableKinds cX0_reachableKinds 6 (some .int)) rmX0_reachableKinds D [(dA, .int)] [.ref h0, .int x] (xwf h0 qn qo qg ql dA (nx, ou, rd, ro, gr, le, wl)) sz (cQi D [(dA, .int)] (xwf h0 qn qo qg ql dA) (fun v u => pm_rkS nx ou x v ∧ pm_xp nx ou u)) := by
  refine cM_start (by decide) (Nat.le_of_ble_eq_true rfl) ?_
  intro p e s m args below meth c A ls Q hx hb hr hlocks hml hown hin hts hA hK hP hD hS hl hQ
  have hown : s.vm.findClass RX0 = some m.cls := hown
  have hl : lv_has ls 6 [(0, .ref h0), (1, .int x)] := hl
  refine lv_iload_n hx hb dX0_reachableKinds_0 rfl (lv_at hl 1 rfl) ?_
  refine cx_S (As := [.int x]) (rest := []) ⟨hx, hb, hml, hown, hts⟩ (mX0_bad l D s.heap.size x) (va_cwS 1 hts (lw_S q51 q52 q14 q53) rfl rfl rfl (by decide +kernel) ⟨Nat.le_of_ble_eq_true rfl, Nat.le_of_ble_eq_true rfl⟩) hK hP hD hS hA rfl rfl hl.1 (Nat.le_of_ble_eq_true rfl) dX0_reachableKinds_1 rfl rfl ⟨Nat.zero_le _, Nat.zero_le _⟩ (fun rv H locs hw hP hD hS => ?_)
  have hw : rv = bI (pm_bad x) := hw
  subst hw
  refine b_if_eq (tgt := 9) hx hb dX0_reachableKinds_4 (by decide) (fun c_4 => ?_) (fun c_4 => ?_)
  · skip
    obtain ⟨ja, hja, rfl⟩ := pm_bad_n c_4
    refine lv_aload_n hx hb dX0_reachableKinds_9 rfl (lv_at hl 0 rfl) ?_
    refine cx_Vv (As := []) (rest := []) (q0 := 0) (ci := 0) (C := RX0) (T := TX0) (N := 7) ⟨hx, hb, hml, hown, hts⟩ (mX0_prepare l D dA h0 qn qo qg ql H.size nx ou rd ro gr le wl hv hnx) (cwV 0 hts (lw_V q62 q64 qs0 q14 q65) rfl rfl rfl (by decide +kernel) ⟨Nat.le_of_ble_eq_true rfl, Nat.le_of_ble_eq_true rfl⟩) hK hP hD hS hA rfl rfl rfl rfl hl.1 (Nat.le_of_ble_eq_true rfl) dX0_reachableKinds_10 rfl rfl ⟨Nat.zero_le _, Nat.zero_le _⟩ (fun uv H locs hw hP hD hS => ?_)
    obtain ⟨ro1, gr1, rfl, hpr⟩ := hw
    have hro := hpr.2.1
    refine lv_aload_n hx hb dX0_reachableKinds_13 rfl (lv_at hl 0 rfl) ?_
    refine lv_iload_n hx hb dX0_reachableKinds_14 rfl (lv_at hl 1 rfl) ?_
    refine cx_V (As := [.int (nI ja)]) (rest := []) (q0 := 0) (ci := 0) (C := RX0) (T := TX0) (N := 7) ⟨hx, hb, hml, hown, hts⟩ (mX0_reach l D dA h0 qn qo qg ql H.size nx ou 1 ro1 gr1 le wl ja (by omega) hnx) (cwV 1 hts (lw_V q110 q112 qs7 q14 q113) rfl rfl rfl (by decide +kernel) ⟨Nat.le_of_ble_eq_true rfl, Nat.le_of_ble_eq_true rfl⟩) hK hP hD hS hA rfl rfl rfl rfl hl.1 (Nat.le_of_ble_eq_true rfl) dX0_reachableKinds_15 rfl rfl ⟨Nat.zero_le _, Nat.zero_le _⟩ (fun rv uv H locs hw hP hD hS => ?_)
    obtain ⟨mm, rfl, hrm, rfl⟩ := hw
    have hmm := hrm.1
    refine lv_istore_n (lv' := [(2, .int (nI mm)), (0, .ref h0), (1, .int (nI ja))]) hx hb dX0_reachableKinds_18 rfl hl (by decide) rfl (fun ls hl => ?_)
    refine lv_iconst (v := nI 0) hx hb dX0_reachableKinds_19 (by decide) ?_
    refine lv_istore_n (lv' := [(3, .int (nI 0)), (2, .int (nI mm)), (0, .ref h0), (1, .int (nI ja))]) hx hb dX0_reachableKinds_20 rfl hl (by decide) rfl (fun ls hl => ?_)
    refine lv_iconst (v := nI 0) hx hb dX0_reachableKinds_21 (by decide) ?_
    refine lv_istore (lv' := [(4, .int (nI 0)), (3, .int (nI 0)), (2, .int (nI mm)), (0, .ref h0), (1, .int (nI ja))]) hx hb dX0_reachableKinds_22 hl (by decide) rfl (fun ls hl => ?_)
    have loop_24 : ∀ (n : Nat) (z : Nat) (g : Nat), z ≤ 16 → 16 + 1 ≤ z + n → g = pm_gm (pm_kd nx ou) mm z → ∀ (H : Heap) (locs : List Loc), va_P D vwCl (xwf h0 qn qo qg ql dA (nx, ou, 1, ro1, gr1, le, wl)) H → va_D A (xwf h0 qn qo qg ql dA (nx, ou, 1, ro1, gr1, le, wl)) → va_S A s.heap H locs → ∀ (ls : Array Slot), lv_has ls 6 [(0, .ref h0), (1, .int (nI ja)), (2, .int (nI mm)), (3, .int (nI g)), (4, .int (nI z))] → W p l e rmX0_reachableKinds s m args below meth c H locs 0 0 Q (F0 m 24 ls []) := by
      intro n
      induction n with
      | zero =>
        intro z g hz hf hg
        exact absurd hf (by omega)
      | succ n ih_24 =>
        intro z g hz hf hg H locs hP hD hS ls hl
        refine lv_iload hx hb dX0_reachableKinds_24 (lv_at hl 4 rfl) ?_
        refine lv_bipush (v := nI 16) hx hb dX0_reachableKinds_26 (by decide) ?_
        refine n_icmp_ge (tgt := 62) hx hb dX0_reachableKinds_28 (by decide) (by omega) (by omega) (fun c_28 => ?_) (fun c_28 => ?_)
        · skip
          refine lv_iconst (v := nI 0) hx hb dX0_reachableKinds_62 (by decide) ?_
          refine lv_istore (lv' := [(4, .int (nI 0)), (0, .ref h0), (1, .int (nI ja)), (2, .int (nI mm)), (3, .int (nI g))]) hx hb dX0_reachableKinds_63 hl (by decide) rfl (fun ls hl => ?_)
          refine lv_iconst (v := nI 0) hx hb dX0_reachableKinds_65 (by decide) ?_
          refine lv_istore (lv' := [(5, .int (nI 0)), (4, .int (nI 0)), (0, .ref h0), (1, .int (nI ja)), (2, .int (nI mm)), (3, .int (nI g))]) hx hb dX0_reachableKinds_66 hl (by decide) rfl (fun ls hl => ?_)
          have hg16 : g = pm_gm (pm_kd nx ou) mm 16 := by rw [hg, show z = 16 by omega]
          have hglt : g < 65536 := by rw [hg16]; exact pm_gm_lt (fun s hs => Nat.lt_of_le_of_lt pm_kd_lt hs) mm 16 (by omega)
          have loop_68 : ∀ (n : Nat) (q : Nat) (cn : Nat), q ≤ 16 → 16 + 1 ≤ q + n → cn = pm_pc g q → ∀ (ls : Array Slot), lv_has ls 6 [(0, .ref h0), (1, .int (nI ja)), (2, .int (nI mm)), (3, .int (nI g)), (4, .int (nI cn)), (5, .int (nI q))] → W p l e rmX0_reachableKinds s m args below meth c H locs 0 0 Q (F0 m 68 ls []) := by
            intro n
            induction n with
            | zero =>
              intro q cn hq hfq hcn
              exact absurd hfq (by omega)
            | succ n ih_68 =>
              intro q cn hq hfq hcn ls hl
              refine lv_iload hx hb dX0_reachableKinds_68 (lv_at hl 5 rfl) ?_
              refine lv_bipush (v := nI 16) hx hb dX0_reachableKinds_70 (by decide) ?_
              refine n_icmp_ge (tgt := 92) hx hb dX0_reachableKinds_72 (by decide) (by omega) (by omega) (fun c_72 => ?_) (fun c_72 => ?_)
              · skip
                refine lv_iload hx hb dX0_reachableKinds_92 (lv_at hl 4 rfl) ?_
                exact cx_iret hQ hx hb hr hlocks hK (nx, ou, 1, ro1, gr1, le, wl) hP hD hS dX0_reachableKinds_94 ⟨Or.inr ⟨ja, mm, hja, rfl, hrm, by rw [hcn, show q = 16 by omega, hg16]⟩, pm_xp_pr hpr⟩
              · skip
                refine lv_iload hx hb dX0_reachableKinds_75 (lv_at hl 4 rfl) ?_
                refine lv_iload_n hx hb dX0_reachableKinds_77 rfl (lv_at hl 3 rfl) ?_
                refine lv_iload hx hb dX0_reachableKinds_78 (lv_at hl 5 rfl) ?_
                refine lv_ishr hx hb dX0_reachableKinds_80 ?_
                refine lv_iconst (v := nI 1) hx hb dX0_reachableKinds_81 (by decide) ?_
                refine lv_iand hx hb dX0_reachableKinds_82 ?_
                refine n_top _ (bI (g.testBit q)) (pm_tb (by omega) (by omega)) ?_
                refine n_iadd hx hb dX0_reachableKinds_83 ?_
                refine lv_istore (lv' := [(4, .int (nI (cn + ((g.testBit q).toNat)))), (0, .ref h0), (1, .int (nI ja)), (2, .int (nI mm)), (3, .int (nI g)), (5, .int (nI q))]) hx hb dX0_reachableKinds_84 hl (by decide) rfl (fun ls hl => ?_)
                refine lv_iinc (v := nI (q + 1)) (lv' := [(5, .int (nI (q + 1))), (4, .int (nI (cn + ((g.testBit q).toNat)))), (0, .ref h0), (1, .int (nI ja)), (2, .int (nI mm)), (3, .int (nI g))]) hx hb dX0_reachableKinds_86 hl (k := 5) rfl (nI_inc1 _) (by decide) rfl (fun ls hl => ?_)
                refine lv_goto (tgt := 68) hx hb dX0_reachableKinds_89 (by decide) ?_
                exact ih_68 (q + 1) (cn + (g.testBit q).toNat) (by omega) (by omega) (by rw [pm_pc_s, hcn]) ls (lv_sub hl [2, 3, 4, 5, 1, 0] rfl)
          exact loop_68 17 0 0 (by omega) (by omega) rfl ls (lv_sub hl [2, 3, 4, 5, 1, 0] rfl)
        · skip
          refine lv_iload_n hx hb dX0_reachableKinds_31 rfl (lv_at hl 2 rfl) ?_
          refine lv_iload hx hb dX0_reachableKinds_32 (lv_at hl 4 rfl) ?_
          refine lv_ishr hx hb dX0_reachableKinds_34 ?_
          refine lv_iconst (v := nI 1) hx hb dX0_reachableKinds_35 (by decide) ?_
          refine lv_iand hx hb dX0_reachableKinds_36 ?_
          refine n_top _ (bI (mm.testBit z)) (pm_tb (by omega) (by omega)) ?_
          refine lv_iconst (v := nI 1) hx hb dX0_reachableKinds_37 (by decide) ?_
          refine b_icmp_ne1 (tgt := 56) hx hb dX0_reachableKinds_38 (by decide) (fun c_38 => ?_) (fun c_38 => ?_)
          · skip
            refine lv_iinc (v := nI (z + 1)) (lv' := [(4, .int (nI (z + 1))), (0, .ref h0), (1, .int (nI ja)), (2, .int (nI mm)), (3, .int (nI g))]) hx hb dX0_reachableKinds_56 hl (k := 4) rfl (nI_inc1 _) (by decide) rfl (fun ls hl => ?_)
            refine lv_goto (tgt := 24) hx hb dX0_reachableKinds_59 (by decide) ?_
            exact ih_24 (z + 1) g (by omega) (by omega) (by rw [pm_gm_n c_38]; exact hg) H locs hP hD hS ls (lv_sub hl [1, 2, 3, 4, 0] rfl)
          · skip
            refine lv_iload_n hx hb dX0_reachableKinds_41 rfl (lv_at hl 3 rfl) ?_
            refine lv_iconst (v := nI 1) hx hb dX0_reachableKinds_42 (by decide) ?_
            refine lv_aload_n hx hb dX0_reachableKinds_43 rfl (lv_at hl 0 rfl) ?_
            refine lv_aload_n hx hb dX0_reachableKinds_44 rfl (lv_at hl 0 rfl) ?_
            refine va_get (D := D) (ci := 0) (v := .int (nI ro1)) (C := RX0) (T := TX0) (N := 7) hx hb hts in_X0 hown hK hP 0 rfl rfl 3 (by decide) (hts _ q27) (fun _ h9 => h9) rfl dX0_reachableKinds_45 ?_
            refine lv_iload hx hb dX0_reachableKinds_48 (lv_at hl 4 rfl) ?_
            refine cx_V (As := [.int (nI ro1), .int (nI z)]) (rest := [.int (nI 1), .int (nI g)]) (q0 := 0) (ci := 0) (C := RX0) (T := TX0) (N := 7) ⟨hx, hb, hml, hown, hts⟩ (mX0_groupOf l D dA h0 qn qo qg ql H.size nx ou 1 ro1 gr1 le wl ro1 z (by omega)) (cwV 2 hts (lw_V q78 q80 qs4 q14 q81) rfl rfl rfl (by decide +kernel) ⟨Nat.le_of_ble_eq_true rfl, Nat.le_of_ble_eq_true rfl⟩) hK hP hD hS hA rfl rfl rfl rfl hl.1 (Nat.le_of_ble_eq_true rfl) dX0_reachableKinds_50 rfl rfl ⟨Nat.zero_le _, Nat.zero_le _⟩ (fun rv uv H locs hw hP hD hS => ?_)
            obtain ⟨rfl, rfl⟩ := hw
            rw [pm_kd_g hnx hpr (show z < 16 by omega)]
            have hkd := pm_kd_lt (nx := nx) (ou := ou) (s := z)
            refine n_ishl1 (y := pm_kd nx ou z) hx hb (by omega) dX0_reachableKinds_53 ?_
            refine n_ior hx hb dX0_reachableKinds_54 ?_
            refine lv_istore_n (lv' := [(3, .int (nI (g ||| (2 ^ (pm_kd nx ou z))))), (0, .ref h0), (1, .int (nI ja)), (2, .int (nI mm)), (4, .int (nI z))]) hx hb dX0_reachableKinds_55 rfl hl (by decide) rfl (fun ls hl => ?_)
            refine lv_iinc (v := nI (z + 1)) (lv' := [(4, .int (nI (z + 1))), (3, .int (nI (g ||| (2 ^ (pm_kd nx ou z))))), (0, .ref h0), (1, .int (nI ja)), (2, .int (nI mm))]) hx hb dX0_reachableKinds_56 hl (k := 4) rfl (nI_inc1 _) (by decide) rfl (fun ls hl => ?_)
            refine lv_goto (tgt := 24) hx hb dX0_reachableKinds_59 (by decide) ?_
            exact ih_24 (z + 1) (g ||| 2 ^ pm_kd nx ou z) (by omega) (by omega) (by rw [pm_gm_y c_38, ← hg]) H locs hP hD hS ls (lv_sub hl [2, 3, 4, 1, 0] rfl)
    exact loop_24 17 0 0 (by omega) (by omega) rfl _ _ hP hD hS ls (lv_sub hl [3, 4, 2, 1, 0] rfl)
  · skip
    refine lv_iconst (v := -1) hx hb dX0_reachableKinds_7 (by decide) ?_
    exact cx_iret hQ hx hb hr hlocks hK (nx, ou, rd, ro, gr, le, wl) hP hD hS dX0_reachableKinds_8 ⟨Or.inl ⟨c_4, rfl⟩, pm_xp_mk hv⟩

abbrev rmX0_run : Room := { frames := 1, cells := 0, slots := 0, locals := 20 }
set_option maxHeartbeats 400000 in
set_option maxRecDepth 100000 in
theorem mX0_run (l : Launch) (D : va_G) (dA : ClassId) (h0 qn qo qg ql sz : Nat) (nx : Nat → Nat) (ou : Nat → Int32) (rd ro : Nat) (gr le : Nat → Nat) (wl : Nat) (x ww nn : Int32) (hnx : ∀ i, nx i < 16) : cM l yX0_run (ws_ yX0_run cX0_run 7 (some .int)) rmX0_run D [(dA, .int)] [.ref h0, .int x, .int ww, .int nn] (xwf h0 qn qo qg ql dA (nx, ou, rd, ro, gr, le, wl)) sz (cQi D [(dA, .int)] (xwf h0 qn qo qg ql dA) (fun v u => v = pm_ruS nx x ww nn ∧ u = (nx, ou, rd, ro, gr, le, wl))) := by
  refine cM_start (by decide) (Nat.le_of_ble_eq_true rfl) ?_
  intro p e s m args below meth c A ls Q hx hb hr hlocks hml hown hin hts hA hK hP hD hS hl hQ
  have hown : s.vm.findClass RX0 = some m.cls := hown
  have hl : lv_has ls 7 [(0, .ref h0), (1, .int x), (2, .int ww), (3, .int nn)] := hl
  refine lv_iload_n hx hb dX0_run_0 rfl (lv_at hl 1 rfl) ?_
  refine cx_S (As := [.int x]) (rest := []) ⟨hx, hb, hml, hown, hts⟩ (mX0_bad l D s.heap.size x) (va_cwS 1 hts (lw_S q51 q52 q14 q53) rfl rfl rfl (by decide +kernel) ⟨Nat.le_of_ble_eq_true rfl, Nat.le_of_ble_eq_true rfl⟩) hK hP hD hS hA rfl rfl hl.1 (Nat.le_of_ble_eq_true rfl) dX0_run_1 rfl rfl ⟨Nat.zero_le _, Nat.zero_le _⟩ (fun rv H locs hw hP hD hS => ?_)
  have hw : rv = bI (pm_bad x) := hw
  subst hw
  refine b_if_eq (tgt := 9) hx hb dX0_run_4 (by decide) (fun c_4 => ?_) (fun c_4 => ?_)
  · skip
    refine lv_iload_n hx hb dX0_run_9 rfl (lv_at hl 3 rfl) ?_
    refine lv_if_lt (tgt := 19) hx hb dX0_run_10 (by decide) (fun c_10 => ?_) (fun c_10 => ?_)
    · skip
      refine lv_bipush (v := -2) hx hb dX0_run_19 (by decide) ?_
      exact cx_iret hQ hx hb hr hlocks hK (nx, ou, rd, ro, gr, le, wl) hP hD hS dX0_run_21 ⟨by rw [pm_ru_2 c_4 (Or.inl c_10)], rfl⟩
    · skip
      refine lv_iload_n hx hb dX0_run_13 rfl (lv_at hl 3 rfl) ?_
      refine lv_bipush (v := nI 10) hx hb dX0_run_14 (by decide) ?_
      refine lv_icmp_le (tgt := 22) hx hb dX0_run_16 (by decide) (fun c_16 => ?_) (fun c_16 => ?_)
      · skip
        obtain ⟨ja, hja, rfl⟩ := pm_bad_n c_4
        obtain ⟨jn, hjn, rfl⟩ := pm_ten c_10 c_16
        refine lv_iload_n hx hb dX0_run_22 rfl (lv_at hl 1 rfl) ?_
        refine lv_istore (lv' := [(4, .int (nI ja)), (0, .ref h0), (1, .int (nI ja)), (2, .int ww), (3, .int (nI jn))]) hx hb dX0_run_23 hl (by decide) rfl (fun ls hl => ?_)
        refine lv_iconst (v := nI 0) hx hb dX0_run_25 (by decide) ?_
        refine lv_istore (lv' := [(5, .int (nI 0)), (4, .int (nI ja)), (0, .ref h0), (1, .int (nI ja)), (2, .int ww), (3, .int (nI jn))]) hx hb dX0_run_26 hl (by decide) rfl (fun ls hl => ?_)
        have loop_28 : ∀ (n : Nat) (k : Nat) (sv : Nat), k ≤ jn → jn + 1 ≤ k + n → sv = pm_rn nx ww ja k → ∀ (H : Heap) (locs : List Loc), va_P D vwCl (xwf h0 qn qo qg ql dA (nx, ou, rd, ro, gr, le, wl)) H → va_D A (xwf h0 qn qo qg ql dA (nx, ou, rd, ro, gr, le, wl)) → va_S A s.heap H locs → ∀ (ls : Array Slot), lv_has ls 7 [(0, .ref h0), (1, .int (nI ja)), (2, .int ww), (3, .int (nI jn)), (4, .int (nI sv)), (5, .int (nI k))] → W p l e rmX0_run s m args below meth c H locs 0 0 Q (F0 m 28 ls []) := by
          intro n
          induction n with
          | zero =>
            intro k sv hk hf hs
            exact absurd hf (by omega)
          | succ n ih_28 =>
            intro k sv hk hf hs H locs hP hD hS ls hl
            have hsv : sv < 16 := by rw [hs]; exact pm_rn_lt hnx hja k
            refine lv_iload hx hb dX0_run_28 (lv_at hl 5 rfl) ?_
            refine lv_iload_n hx hb dX0_run_30 rfl (lv_at hl 3 rfl) ?_
            refine n_icmp_ge (tgt := 73) hx hb dX0_run_31 (by decide) (by omega) (by omega) (fun c_31 => ?_) (fun c_31 => ?_)
            · skip
              refine lv_iload hx hb dX0_run_73 (lv_at hl 4 rfl) ?_
              exact cx_iret hQ hx hb hr hlocks hK (nx, ou, rd, ro, gr, le, wl) hP hD hS dX0_run_75 ⟨by rw [pm_ru_3 hja hjn, hs, show k = jn by omega], rfl⟩
            · skip
              refine lv_iload_n hx hb dX0_run_34 rfl (lv_at hl 2 rfl) ?_
              refine lv_iconst (v := nI 2) hx hb dX0_run_35 (by decide) ?_
              refine lv_iload hx hb dX0_run_36 (lv_at hl 5 rfl) ?_
              refine n_imul hx hb dX0_run_38 ?_
              refine lv_ishr hx hb dX0_run_39 ?_
              refine lv_iconst (v := nI 3) hx hb dX0_run_40 (by decide) ?_
              refine lv_iand hx hb dX0_run_41 ?_
              obtain ⟨qq, hqq⟩ : ∃ qq, qq = (ww >>> (nI (2 * k) &&& 31)).toBitVec.toNat % 4 := ⟨_, rfl⟩
              have hq4 : qq < 4 := by rw [hqq]; exact Nat.mod_lt _ (by decide)
              refine n_top _ (nI qq) (by rw [hqq]; exact pk_and _ 2 (by decide)) ?_
              refine lv_istore (lv' := [(6, .int (nI qq)), (0, .ref h0), (1, .int (nI ja)), (2, .int ww), (3, .int (nI jn)), (4, .int (nI sv)), (5, .int (nI k))]) hx hb dX0_run_42 hl (by decide) rfl (fun ls hl => ?_)
              refine lv_iload hx hb dX0_run_44 (lv_at hl 0 rfl) ?_
              refine lv_iconst (v := nI 3) hx hb dX0_run_46 (by decide) ?_
              refine n_icmp_ne (tgt := 53) hx hb dX0_run_47 (by decide) (by omega) (by omega) (fun c_47 => ?_) (fun c_47 => ?_)
              · skip
                refine lv_aload_n hx hb dX0_run_53 rfl (lv_at hl 1 rfl) ?_
                refine va_get (D := D) (ci := 0) (v := .ref qn) (C := RX0) (T := TX0) (N := 7) hx hb hts in_X0 hown hK hP 0 rfl rfl 0 (by decide) (hts _ q24) (fun _ h9 => h9) rfl dX0_run_54 ?_
                refine lv_iload hx hb dX0_run_57 (lv_at hl 5 rfl) ?_
                refine lv_iconst (v := nI 3) hx hb dX0_run_59 (by decide) ?_
                refine n_imul hx hb dX0_run_60 ?_
                refine lv_iload hx hb dX0_run_61 (lv_at hl 0 rfl) ?_
                refine n_iadd hx hb dX0_run_63 ?_
                refine n_iald (g := nx) (i := (sv * 3) + qq) hx hb hK hP 1 0 rfl rfl (by omega) (by decide) dX0_run_64 ?_
                have hn_64 := hnx ((sv * 3) + qq)
                refine lv_istore (lv' := [(4, .int (nI (nx ((sv * 3) + qq)))), (6, .int (nI qq)), (0, .ref h0), (1, .int (nI ja)), (2, .int ww), (3, .int (nI jn)), (5, .int (nI k))]) hx hb dX0_run_65 hl (by decide) rfl (fun ls hl => ?_)
                refine lv_iinc (v := nI (k + 1)) (lv' := [(5, .int (nI (k + 1))), (4, .int (nI (nx ((sv * 3) + qq)))), (6, .int (nI qq)), (0, .ref h0), (1, .int (nI ja)), (2, .int ww), (3, .int (nI jn))]) hx hb dX0_run_67 hl (k := 6) rfl (nI_inc1 _) (by decide) rfl (fun ls hl => ?_)
                refine lv_goto (tgt := 28) hx hb dX0_run_70 (by decide) ?_
                exact ih_28 (k + 1) (nx (sv * 3 + qq)) (by omega) (by omega) (show nx (sv * 3 + qq) = nx (pm_rn nx ww ja k * 3 + pm_in ww k) by rw [← hs, pm_in_a hqq c_47]) H locs hP hD hS ls (lv_sub hl [3, 4, 5, 6, 1, 0] rfl)
              · skip
                refine lv_iconst (v := nI 0) hx hb dX0_run_50 (by decide) ?_
                refine lv_istore (lv' := [(6, .int (nI 0)), (0, .ref h0), (1, .int (nI ja)), (2, .int ww), (3, .int (nI jn)), (4, .int (nI sv)), (5, .int (nI k))]) hx hb dX0_run_51 hl (by decide) rfl (fun ls hl => ?_)
                refine lv_aload_n hx hb dX0_run_53 rfl (lv_at hl 1 rfl) ?_
                refine va_get (D := D) (ci := 0) (v := .ref qn) (C := RX0) (T := TX0) (N := 7) hx hb hts in_X0 hown hK hP 0 rfl rfl 0 (by decide) (hts _ q24) (fun _ h9 => h9) rfl dX0_run_54 ?_
                refine lv_iload hx hb dX0_run_57 (lv_at hl 5 rfl) ?_
                refine lv_iconst (v := nI 3) hx hb dX0_run_59 (by decide) ?_
                refine n_imul hx hb dX0_run_60 ?_
                refine lv_iload hx hb dX0_run_61 (lv_at hl 0 rfl) ?_
                refine n_iadd hx hb dX0_run_63 ?_
                refine n_iald (g := nx) (i := (sv * 3) + 0) hx hb hK hP 1 0 rfl rfl (by omega) (by decide) dX0_run_64 ?_
                have hn_64 := hnx ((sv * 3) + 0)
                refine lv_istore (lv' := [(4, .int (nI (nx ((sv * 3) + 0)))), (6, .int (nI 0)), (0, .ref h0), (1, .int (nI ja)), (2, .int ww), (3, .int (nI jn)), (5, .int (nI k))]) hx hb dX0_run_65 hl (by decide) rfl (fun ls hl => ?_)
                refine lv_iinc (v := nI (k + 1)) (lv' := [(5, .int (nI (k + 1))), (4, .int (nI (nx ((sv * 3) + 0)))), (6, .int (nI 0)), (0, .ref h0), (1, .int (nI ja)), (2, .int ww), (3, .int (nI jn))]) hx hb dX0_run_67 hl (k := 6) rfl (nI_inc1 _) (by decide) rfl (fun ls hl => ?_)
                refine lv_goto (tgt := 28) hx hb dX0_run_70 (by decide) ?_
                exact ih_28 (k + 1) (nx (sv * 3 + 0)) (by omega) (by omega) (show nx (sv * 3 + 0) = nx (pm_rn nx ww ja k * 3 + pm_in ww k) by rw [← hs, pm_in_b hqq c_47]) H locs hP hD hS ls (lv_sub hl [3, 4, 5, 6, 1, 0] rfl)
        exact loop_28 (jn + 1) 0 ja (by omega) (by omega) rfl _ _ hP hD hS ls (lv_sub hl [2, 3, 4, 5, 1, 0] rfl)
      · skip
        refine lv_bipush (v := -2) hx hb dX0_run_19 (by decide) ?_
        exact cx_iret hQ hx hb hr hlocks hK (nx, ou, rd, ro, gr, le, wl) hP hD hS dX0_run_21 ⟨by rw [pm_ru_2 c_4 (Or.inr c_16)], rfl⟩
  · skip
    refine lv_iconst (v := -1) hx hb dX0_run_7 (by decide) ?_
    exact cx_iret hQ hx hb hr hlocks hK (nx, ou, rd, ro, gr, le, wl) hP hD hS dX0_run_8 ⟨by rw [pm_ru_1 c_4], rfl⟩

abbrev rmX0_transition : Room := { frames := 1, cells := 0, slots := 0, locals := 20 }
set_option maxHeartbeats 400000 in
set_option maxRecDepth 100000 in
theorem mX0_transition (l : Launch) (D : va_G) (dA : ClassId) (h0 qn qo qg ql sz : Nat) (nx : Nat → Nat) (ou : Nat → Int32) (rd ro : Nat) (gr le : Nat → Nat) (wl : Nat) (x y t : Int32) : cM l yX0_transition (ws_ yX0_transition cX0_transition 6 (some .int)) rmX0_transition D [(dA, .int)] [.ref h0, .int x, .int y, .int t] (xwf h0 qn qo qg ql dA (nx, ou, rd, ro, gr, le, wl)) sz (cQi D [(dA, .int)] (xwf h0 qn qo qg ql dA) (fun v u => v = pm_trR nx ou x y ∧ ∃ rd1, u = (pm_trN nx x y t, pm_trO ou x y t, rd1, ro, gr, le, wl) ∧ (rd1 = 0 ∨ (rd1 = rd ∧ pm_trN nx x y t = nx ∧ pm_trO ou x y t = ou)))) := by
  refine cM_start (by decide) (Nat.le_of_ble_eq_true rfl) ?_
  intro p e s m args below meth c A ls Q hx hb hr hlocks hml hown hin hts hA hK hP hD hS hl hQ
  have hown : s.vm.findClass RX0 = some m.cls := hown
  have hl : lv_has ls 6 [(0, .ref h0), (1, .int x), (2, .int y), (3, .int t)] := hl
  refine lv_iload_n hx hb dX0_transition_0 rfl (lv_at hl 1 rfl) ?_
  refine cx_S (As := [.int x]) (rest := []) ⟨hx, hb, hml, hown, hts⟩ (mX0_bad l D s.heap.size x) (va_cwS 1 hts (lw_S q51 q52 q14 q53) rfl rfl rfl (by decide +kernel) ⟨Nat.le_of_ble_eq_true rfl, Nat.le_of_ble_eq_true rfl⟩) hK hP hD hS hA rfl rfl hl.1 (Nat.le_of_ble_eq_true rfl) dX0_transition_1 rfl rfl ⟨Nat.zero_le _, Nat.zero_le _⟩ (fun rv H locs hw hP hD hS => ?_)
  have hw : rv = bI (pm_bad x) := hw
  subst hw
  refine b_if_eq (tgt := 9) hx hb dX0_transition_4 (by decide) (fun c_4 => ?_) (fun c_4 => ?_)
  · skip
    refine lv_iload_n hx hb dX0_transition_9 rfl (lv_at hl 2 rfl) ?_
    refine lv_if_lt (tgt := 18) hx hb dX0_transition_10 (by decide) (fun c_10 => ?_) (fun c_10 => ?_)
    · skip
      refine lv_bipush (v := -2) hx hb dX0_transition_18 (by decide) ?_
      have hq := pm_tr_2 (nx := nx) (ou := ou) (t := t) c_4 (decide_eq_true (Or.inl c_10))
      exact cx_iret hQ hx hb hr hlocks hK (nx, ou, rd, ro, gr, le, wl) hP hD hS dX0_transition_20 ⟨by rw [hq.1], rd, by rw [hq.2.1, hq.2.2], Or.inr ⟨rfl, hq.2.1, hq.2.2⟩⟩
    · skip
      refine lv_iload_n hx hb dX0_transition_13 rfl (lv_at hl 2 rfl) ?_
      refine lv_iconst (v := nI 3) hx hb dX0_transition_14 (by decide) ?_
      refine lv_icmp_lt (tgt := 21) hx hb dX0_transition_15 (by decide) (fun c_15 => ?_) (fun c_15 => ?_)
      · skip
        obtain ⟨ja, hja, rfl⟩ := pm_bad_n c_4
        obtain ⟨jb, hjb, rfl⟩ := pm_n_ix (n := 3) (by decide) c_10 c_15
        refine lv_iload_n hx hb dX0_transition_21 rfl (lv_at hl 1 rfl) ?_
        refine lv_iconst (v := nI 3) hx hb dX0_transition_22 (by decide) ?_
        refine n_imul hx hb dX0_transition_23 ?_
        refine lv_iload_n hx hb dX0_transition_24 rfl (lv_at hl 2 rfl) ?_
        refine n_iadd hx hb dX0_transition_25 ?_
        refine lv_istore (lv' := [(4, .int (nI ((ja * 3) + jb))), (0, .ref h0), (1, .int (nI ja)), (2, .int (nI jb)), (3, .int t)]) hx hb dX0_transition_26 hl (by decide) rfl (fun ls hl => ?_)
        refine lv_aload_n hx hb dX0_transition_28 rfl (lv_at hl 1 rfl) ?_
        refine va_get (D := D) (ci := 0) (v := .ref qn) (C := RX0) (T := TX0) (N := 7) hx hb hts in_X0 hown hK hP 0 rfl rfl 0 (by decide) (hts _ q24) (fun _ h9 => h9) rfl dX0_transition_29 ?_
        refine lv_iload hx hb dX0_transition_32 (lv_at hl 0 rfl) ?_
        refine n_iald (g := nx) (i := (ja * 3) + jb) hx hb hK hP 1 0 rfl rfl (by omega) (by decide) dX0_transition_34 ?_
        refine lv_bipush (v := nI 16) hx hb dX0_transition_35 (by decide) ?_
        refine lv_aload_n hx hb dX0_transition_37 rfl (lv_at hl 1 rfl) ?_
        refine va_get (D := D) (ci := 0) (v := .ref qo) (C := RX0) (T := TX0) (N := 7) hx hb hts in_X0 hown hK hP 0 rfl rfl 1 (by decide) (hts _ q25) (fun _ h9 => h9) rfl dX0_transition_38 ?_
        refine lv_iload hx hb dX0_transition_41 (lv_at hl 0 rfl) ?_
        refine n_iald0 (f := ou) (i := (ja * 3) + jb) hx hb hK hP 2 0 rfl rfl (by omega) (by decide) dX0_transition_43 ?_
        refine lv_imul hx hb dX0_transition_44 ?_
        refine lv_iadd hx hb dX0_transition_45 ?_
        refine lv_istore (lv' := [(5, .int ((nI (nx ((ja * 3) + jb))) + ((nI 16) * (ou ((ja * 3) + jb))))), (4, .int (nI ((ja * 3) + jb))), (0, .ref h0), (1, .int (nI ja)), (2, .int (nI jb)), (3, .int t)]) hx hb dX0_transition_46 hl (by decide) rfl (fun ls hl => ?_)
        refine lv_aload_n hx hb dX0_transition_48 rfl (lv_at hl 2 rfl) ?_
        refine va_get (D := D) (ci := 0) (v := .ref qn) (C := RX0) (T := TX0) (N := 7) hx hb hts in_X0 hown hK hP 0 rfl rfl 0 (by decide) (hts _ q24) (fun _ h9 => h9) rfl dX0_transition_49 ?_
        refine lv_iload hx hb dX0_transition_52 (lv_at hl 1 rfl) ?_
        refine lv_iload_n hx hb dX0_transition_54 rfl (lv_at hl 5 rfl) ?_
        refine lv_bipush (v := nI 15) hx hb dX0_transition_55 (by decide) ?_
        refine lv_iand hx hb dX0_transition_57 ?_
        refine n_top _ (nI ((t).toBitVec.toNat % 16)) (pk_and _ 4 (by decide)) ?_
        refine n_iast (g := nx) hx hb hK hP hD hS 1 0 rfl rfl (by omega) (by decide) dX0_transition_58 (fun H locs hP hD hS => ?_)
        have hP : va_P D vwCl (xwf h0 qn qo qg ql dA (pm_up nx ((ja * 3) + jb) ((t).toBitVec.toNat % 16), ou, rd, ro, gr, le, wl)) H := hP
        have hD : va_D A (xwf h0 qn qo qg ql dA (pm_up nx ((ja * 3) + jb) ((t).toBitVec.toNat % 16), ou, rd, ro, gr, le, wl)) := hD
        refine lv_aload_n hx hb dX0_transition_59 rfl (lv_at hl 2 rfl) ?_
        refine va_get (D := D) (ci := 0) (v := .ref qo) (C := RX0) (T := TX0) (N := 7) hx hb hts in_X0 hown hK hP 0 rfl rfl 1 (by decide) (hts _ q25) (fun _ h9 => h9) rfl dX0_transition_60 ?_
        refine lv_iload hx hb dX0_transition_63 (lv_at hl 1 rfl) ?_
        refine lv_iload_n hx hb dX0_transition_65 rfl (lv_at hl 5 rfl) ?_
        refine lv_iconst (v := nI 4) hx hb dX0_transition_66 (by decide) ?_
        refine lv_ishr hx hb dX0_transition_67 ?_
        refine lv_bipush (v := nI 7) hx hb dX0_transition_68 (by decide) ?_
        refine lv_iand hx hb dX0_transition_70 ?_
        refine n_iast0 (f := ou) hx hb hK hP hD hS 2 0 rfl rfl (by omega) (by decide) dX0_transition_71 (fun H locs hP hD hS => ?_)
        have hP : va_P D vwCl (xwf h0 qn qo qg ql dA (pm_up nx ((ja * 3) + jb) ((t).toBitVec.toNat % 16), upd ou ((ja * 3) + jb) (((t >>> (nI 4 &&& 31)) &&& nI 7)), rd, ro, gr, le, wl)) H := hP
        have hD : va_D A (xwf h0 qn qo qg ql dA (pm_up nx ((ja * 3) + jb) ((t).toBitVec.toNat % 16), upd ou ((ja * 3) + jb) (((t >>> (nI 4 &&& 31)) &&& nI 7)), rd, ro, gr, le, wl)) := hD
        refine lv_aload_n hx hb dX0_transition_72 rfl (lv_at hl 2 rfl) ?_
        refine lv_iconst (v := nI 0) hx hb dX0_transition_73 (by decide) ?_
        refine va_put (D := D) (ci := 0) (v := .int (nI 0)) (ty := .boolean) (C := RX0) (T := TX0) (N := 7) hx hb hts in_X0 tyX0 tyX0_ok nmX0 hown hK hP hD hS 0 rfl rfl 2 (by decide) (hts _ q26) (fun _ h9 => h9) rfl (by decide +kernel) rfl rfl (Nat.le_of_ble_eq_true rfl) dX0_transition_74 (fun H locs hP hD hS => ?_)
        have hP : va_P D vwCl (xwf h0 qn qo qg ql dA (pm_up nx ((ja * 3) + jb) ((t).toBitVec.toNat % 16), upd ou ((ja * 3) + jb) (((t >>> (nI 4 &&& 31)) &&& nI 7)), 0, ro, gr, le, wl)) H := hP
        have hD : va_D A (xwf h0 qn qo qg ql dA (pm_up nx ((ja * 3) + jb) ((t).toBitVec.toNat % 16), upd ou ((ja * 3) + jb) (((t >>> (nI 4 &&& 31)) &&& nI 7)), 0, ro, gr, le, wl)) := hD
        refine lv_iload hx hb dX0_transition_77 (lv_at hl 0 rfl) ?_
        have hq := pm_tr_3 (nx := nx) (ou := ou) (t := t) hja hjb
        exact cx_iret hQ hx hb hr hlocks hK (pm_up nx ((ja * 3) + jb) ((t).toBitVec.toNat % 16), upd ou ((ja * 3) + jb) (((t >>> (nI 4 &&& 31)) &&& nI 7)), 0, ro, gr, le, wl) hP hD hS dX0_transition_79 ⟨by rw [hq.1], 0, by rw [hq.2.1, hq.2.2], Or.inl rfl⟩
      · skip
        refine lv_bipush (v := -2) hx hb dX0_transition_18 (by decide) ?_
        have hq := pm_tr_2 (nx := nx) (ou := ou) (t := t) c_4 (decide_eq_true (Or.inr c_15))
        exact cx_iret hQ hx hb hr hlocks hK (nx, ou, rd, ro, gr, le, wl) hP hD hS dX0_transition_20 ⟨by rw [hq.1], rd, by rw [hq.2.1, hq.2.2], Or.inr ⟨rfl, hq.2.1, hq.2.2⟩⟩
  · skip
    refine lv_iconst (v := -1) hx hb dX0_transition_7 (by decide) ?_
    have hq := pm_tr_1 (nx := nx) (ou := ou) (y := y) (t := t) c_4
    exact cx_iret hQ hx hb hr hlocks hK (nx, ou, rd, ro, gr, le, wl) hP hD hS dX0_transition_8 ⟨by rw [hq.1], rd, by rw [hq.2.1, hq.2.2], Or.inr ⟨rfl, hq.2.1, hq.2.2⟩⟩

abbrev rmX0_exchange : Room := { frames := 1, cells := 0, slots := 0, locals := 20 }
set_option maxHeartbeats 400000 in
set_option maxRecDepth 100000 in
theorem mX0_exchange (l : Launch) (D : va_G) (dA : ClassId) (h0 qn qo qg ql sz : Nat) (nx : Nat → Nat) (ou : Nat → Int32) (rd ro : Nat) (gr le : Nat → Nat) (wl : Nat) (x y t : Int32) : cM l yX0_exchange (ws_ yX0_exchange cX0_exchange 5 (some .int)) rmX0_exchange D [(dA, .int)] [.ref h0, .int x, .int y, .int t] (xwf h0 qn qo qg ql dA (nx, ou, rd, ro, gr, le, wl)) sz (cQi D [(dA, .int)] (xwf h0 qn qo qg ql dA) (fun v u => v = pm_exR x y t ∧ ∃ rd1, u = (nx, pm_exO ou x y t, rd1, ro, gr, le, wl) ∧ (rd1 = 0 ∨ (rd1 = rd ∧ pm_exO ou x y t = ou)))) := by
  refine cM_start (by decide) (Nat.le_of_ble_eq_true rfl) ?_
  intro p e s m args below meth c A ls Q hx hb hr hlocks hml hown hin hts hA hK hP hD hS hl hQ
  have hown : s.vm.findClass RX0 = some m.cls := hown
  have hl : lv_has ls 5 [(0, .ref h0), (1, .int x), (2, .int y), (3, .int t)] := hl
  refine lv_iload_n hx hb dX0_exchange_0 rfl (lv_at hl 1 rfl) ?_
  refine cx_S (As := [.int x]) (rest := []) ⟨hx, hb, hml, hown, hts⟩ (mX0_bad l D s.heap.size x) (va_cwS 1 hts (lw_S q51 q52 q14 q53) rfl rfl rfl (by decide +kernel) ⟨Nat.le_of_ble_eq_true rfl, Nat.le_of_ble_eq_true rfl⟩) hK hP hD hS hA rfl rfl hl.1 (Nat.le_of_ble_eq_true rfl) dX0_exchange_1 rfl rfl ⟨Nat.zero_le _, Nat.zero_le _⟩ (fun rv H locs hw hP hD hS => ?_)
  have hw : rv = bI (pm_bad x) := hw
  subst hw
  refine b_if_ne (tgt := 14) hx hb dX0_exchange_4 (by decide) (fun c_4 => ?_) (fun c_4 => ?_)
  · skip
    refine lv_iconst (v := -1) hx hb dX0_exchange_14 (by decide) ?_
    have hq := pm_ex_1 (ou := ou) (b := y) (x := t) (Or.inl c_4)
    exact cx_iret hQ hx hb hr hlocks hK (nx, ou, rd, ro, gr, le, wl) hP hD hS dX0_exchange_15 ⟨by rw [hq.1], rd, by rw [hq.2], Or.inr ⟨rfl, hq.2⟩⟩
  · skip
    refine lv_iload_n hx hb dX0_exchange_7 rfl (lv_at hl 2 rfl) ?_
    refine cx_S (As := [.int y]) (rest := []) ⟨hx, hb, hml, hown, hts⟩ (mX0_bad l D H.size y) (va_cwS 1 hts (lw_S q51 q52 q14 q53) rfl rfl rfl (by decide +kernel) ⟨Nat.le_of_ble_eq_true rfl, Nat.le_of_ble_eq_true rfl⟩) hK hP hD hS hA rfl rfl hl.1 (Nat.le_of_ble_eq_true rfl) dX0_exchange_8 rfl rfl ⟨Nat.zero_le _, Nat.zero_le _⟩ (fun rv H locs hw hP hD hS => ?_)
    have hw : rv = bI (pm_bad y) := hw
    subst hw
    refine b_if_eq (tgt := 16) hx hb dX0_exchange_11 (by decide) (fun c_11 => ?_) (fun c_11 => ?_)
    · skip
      refine lv_iload_n hx hb dX0_exchange_16 rfl (lv_at hl 3 rfl) ?_
      refine lv_if_lt (tgt := 25) hx hb dX0_exchange_17 (by decide) (fun c_17 => ?_) (fun c_17 => ?_)
      · skip
        refine lv_bipush (v := -2) hx hb dX0_exchange_25 (by decide) ?_
        have hq := pm_ex_2 (ou := ou) c_4 c_11 (decide_eq_true (Or.inl c_17))
        exact cx_iret hQ hx hb hr hlocks hK (nx, ou, rd, ro, gr, le, wl) hP hD hS dX0_exchange_27 ⟨by rw [hq.1], rd, by rw [hq.2], Or.inr ⟨rfl, hq.2⟩⟩
      · skip
        refine lv_iload_n hx hb dX0_exchange_20 rfl (lv_at hl 3 rfl) ?_
        refine lv_iconst (v := nI 3) hx hb dX0_exchange_21 (by decide) ?_
        refine lv_icmp_lt (tgt := 28) hx hb dX0_exchange_22 (by decide) (fun c_22 => ?_) (fun c_22 => ?_)
        · skip
          obtain ⟨ja, hja, rfl⟩ := pm_bad_n c_4
          obtain ⟨jb, hjb, rfl⟩ := pm_bad_n c_11
          obtain ⟨jc, hjc, rfl⟩ := pm_n_ix (n := 3) (by decide) c_17 c_22
          refine lv_aload_n hx hb dX0_exchange_28 rfl (lv_at hl 0 rfl) ?_
          refine va_get (D := D) (ci := 0) (v := .ref qo) (C := RX0) (T := TX0) (N := 7) hx hb hts in_X0 hown hK hP 0 rfl rfl 1 (by decide) (hts _ q25) (fun _ h9 => h9) rfl dX0_exchange_29 ?_
          refine lv_iload_n hx hb dX0_exchange_32 rfl (lv_at hl 1 rfl) ?_
          refine lv_iconst (v := nI 3) hx hb dX0_exchange_33 (by decide) ?_
          refine n_imul hx hb dX0_exchange_34 ?_
          refine lv_iload_n hx hb dX0_exchange_35 rfl (lv_at hl 3 rfl) ?_
          refine n_iadd hx hb dX0_exchange_36 ?_
          refine n_iald0 (f := ou) (i := (ja * 3) + jc) hx hb hK hP 2 0 rfl rfl (by omega) (by decide) dX0_exchange_37 ?_
          refine lv_istore (lv' := [(4, .int (ou ((ja * 3) + jc))), (0, .ref h0), (1, .int (nI ja)), (2, .int (nI jb)), (3, .int (nI jc))]) hx hb dX0_exchange_38 hl (by decide) rfl (fun ls hl => ?_)
          refine lv_aload_n hx hb dX0_exchange_40 rfl (lv_at hl 1 rfl) ?_
          refine va_get (D := D) (ci := 0) (v := .ref qo) (C := RX0) (T := TX0) (N := 7) hx hb hts in_X0 hown hK hP 0 rfl rfl 1 (by decide) (hts _ q25) (fun _ h9 => h9) rfl dX0_exchange_41 ?_
          refine lv_iload_n hx hb dX0_exchange_44 rfl (lv_at hl 2 rfl) ?_
          refine lv_iconst (v := nI 3) hx hb dX0_exchange_45 (by decide) ?_
          refine n_imul hx hb dX0_exchange_46 ?_
          refine lv_iload_n hx hb dX0_exchange_47 rfl (lv_at hl 4 rfl) ?_
          refine n_iadd hx hb dX0_exchange_48 ?_
          refine lv_aload_n hx hb dX0_exchange_49 rfl (lv_at hl 1 rfl) ?_
          refine va_get (D := D) (ci := 0) (v := .ref qo) (C := RX0) (T := TX0) (N := 7) hx hb hts in_X0 hown hK hP 0 rfl rfl 1 (by decide) (hts _ q25) (fun _ h9 => h9) rfl dX0_exchange_50 ?_
          refine lv_iload_n hx hb dX0_exchange_53 rfl (lv_at hl 3 rfl) ?_
          refine lv_iconst (v := nI 3) hx hb dX0_exchange_54 (by decide) ?_
          refine n_imul hx hb dX0_exchange_55 ?_
          refine lv_iload_n hx hb dX0_exchange_56 rfl (lv_at hl 4 rfl) ?_
          refine n_iadd hx hb dX0_exchange_57 ?_
          refine n_iald0 (f := ou) (i := (jb * 3) + jc) hx hb hK hP 2 0 rfl rfl (by omega) (by decide) dX0_exchange_58 ?_
          refine n_iast0 (f := ou) hx hb hK hP hD hS 2 0 rfl rfl (by omega) (by decide) dX0_exchange_59 (fun H locs hP hD hS => ?_)
          have hP : va_P D vwCl (xwf h0 qn qo qg ql dA (nx, upd ou ((ja * 3) + jc) ((ou ((jb * 3) + jc))), rd, ro, gr, le, wl)) H := hP
          have hD : va_D A (xwf h0 qn qo qg ql dA (nx, upd ou ((ja * 3) + jc) ((ou ((jb * 3) + jc))), rd, ro, gr, le, wl)) := hD
          refine lv_aload_n hx hb dX0_exchange_60 rfl (lv_at hl 1 rfl) ?_
          refine va_get (D := D) (ci := 0) (v := .ref qo) (C := RX0) (T := TX0) (N := 7) hx hb hts in_X0 hown hK hP 0 rfl rfl 1 (by decide) (hts _ q25) (fun _ h9 => h9) rfl dX0_exchange_61 ?_
          refine lv_iload_n hx hb dX0_exchange_64 rfl (lv_at hl 3 rfl) ?_
          refine lv_iconst (v := nI 3) hx hb dX0_exchange_65 (by decide) ?_
          refine n_imul hx hb dX0_exchange_66 ?_
          refine lv_iload_n hx hb dX0_exchange_67 rfl (lv_at hl 4 rfl) ?_
          refine n_iadd hx hb dX0_exchange_68 ?_
          refine lv_iload hx hb dX0_exchange_69 (lv_at hl 0 rfl) ?_
          refine n_iast0 (f := upd ou ((ja * 3) + jc) ((ou ((jb * 3) + jc)))) hx hb hK hP hD hS 2 0 rfl rfl (by omega) (by decide) dX0_exchange_71 (fun H locs hP hD hS => ?_)
          have hP : va_P D vwCl (xwf h0 qn qo qg ql dA (nx, upd (upd ou ((ja * 3) + jc) ((ou ((jb * 3) + jc)))) ((jb * 3) + jc) ((ou ((ja * 3) + jc))), rd, ro, gr, le, wl)) H := hP
          have hD : va_D A (xwf h0 qn qo qg ql dA (nx, upd (upd ou ((ja * 3) + jc) ((ou ((jb * 3) + jc)))) ((jb * 3) + jc) ((ou ((ja * 3) + jc))), rd, ro, gr, le, wl)) := hD
          refine lv_aload_n hx hb dX0_exchange_72 rfl (lv_at hl 1 rfl) ?_
          refine lv_iconst (v := nI 0) hx hb dX0_exchange_73 (by decide) ?_
          refine va_put (D := D) (ci := 0) (v := .int (nI 0)) (ty := .boolean) (C := RX0) (T := TX0) (N := 7) hx hb hts in_X0 tyX0 tyX0_ok nmX0 hown hK hP hD hS 0 rfl rfl 2 (by decide) (hts _ q26) (fun _ h9 => h9) rfl (by decide +kernel) rfl rfl (Nat.le_of_ble_eq_true rfl) dX0_exchange_74 (fun H locs hP hD hS => ?_)
          have hP : va_P D vwCl (xwf h0 qn qo qg ql dA (nx, upd (upd ou ((ja * 3) + jc) ((ou ((jb * 3) + jc)))) ((jb * 3) + jc) ((ou ((ja * 3) + jc))), 0, ro, gr, le, wl)) H := hP
          have hD : va_D A (xwf h0 qn qo qg ql dA (nx, upd (upd ou ((ja * 3) + jc) ((ou ((jb * 3) + jc)))) ((jb * 3) + jc) ((ou ((ja * 3) + jc))), 0, ro, gr, le, wl)) := hD
          refine lv_iconst (v := nI 0) hx hb dX0_exchange_77 (by decide) ?_
          have hq := pm_ex_3 (ou := ou) hja hjb hjc
          exact cx_iret hQ hx hb hr hlocks hK (nx, upd (upd ou ((ja * 3) + jc) ((ou ((jb * 3) + jc)))) ((jb * 3) + jc) ((ou ((ja * 3) + jc))), 0, ro, gr, le, wl) hP hD hS dX0_exchange_78 ⟨by rw [hq.1]; rfl, 0, by rw [hq.2], Or.inl rfl⟩
        · skip
          refine lv_bipush (v := -2) hx hb dX0_exchange_25 (by decide) ?_
          have hq := pm_ex_2 (ou := ou) c_4 c_11 (decide_eq_true (Or.inr c_22))
          exact cx_iret hQ hx hb hr hlocks hK (nx, ou, rd, ro, gr, le, wl) hP hD hS dX0_exchange_27 ⟨by rw [hq.1], rd, by rw [hq.2], Or.inr ⟨rfl, hq.2⟩⟩
    · skip
      refine lv_iconst (v := -1) hx hb dX0_exchange_14 (by decide) ?_
      have hq := pm_ex_1 (ou := ou) (a := x) (x := t) (Or.inr c_11)
      exact cx_iret hQ hx hb hr hlocks hK (nx, ou, rd, ro, gr, le, wl) hP hD hS dX0_exchange_15 ⟨by rw [hq.1], rd, by rw [hq.2], Or.inr ⟨rfl, hq.2⟩⟩
end
section
/-! ===== plain facts for the model's methods ===== -/
theorem pm_nb_t {b : Bool} (h : (!b) = true) : b = false := by cases b <;> first | rfl | cases h
theorem pm_nb_f {b : Bool} (h : (!b) = false) : b = true := by cases b <;> first | rfl | cases h
theorem pm_ds_16 (nx : Nat → Nat) (ou : Nat → Int32) (a b : Nat) : pm_ds nx ou a b ≤ 16 := by
  unfold pm_ds
  split <;> omega
def pm_mq (nx : Nat → Nat) (ou : Nat → Int32) (v : MS) : Prop := ∃ (pa : Nat → Nat) (fr : Nat → Int32) (bb kn : Nat → Nat) (pn : Nat) (wo : Nat → Nat), v = (nx, ou, pa, fr, bb, kn, pn, wo) ∧ ∀ z, kn z < 2
theorem pm_mq_mk {nx : Nat → Nat} {ou : Nat → Int32} {pa : Nat → Nat} {fr : Nat → Int32} {bb kn : Nat → Nat} {pn : Nat} {wo : Nat → Nat} (h : ∀ z, kn z < 2) : pm_mq nx ou (nx, ou, pa, fr, bb, kn, pn, wo) := ⟨pa, fr, bb, kn, pn, wo, rfl, h⟩
theorem pm_up_2 {kn : Nat → Nat} (h : ∀ z, kn z < 2) {p x : Nat} (hx : x < 2) : ∀ z, pm_up kn p x z < 2 := by
  intro z
  unfold pm_up
  split
  · exact hx
  · exact h z
theorem pm_dr {w r : List Nat} {k c : Nat} (h : w.drop k = c :: r) : w.getD k 0 = c ∧ w.drop (k + 1) = r := by
  constructor
  · have h1 : (w.drop k)[0]? = some c := by rw [h]; rfl
    rw [List.getElem?_drop] at h1
    rw [List.getD_eq_getElem?_getD]
    rw [show k + 0 = k from rfl] at h1
    rw [h1]
    rfl
  · have h2 : (w.drop k).drop 1 = w.drop (k + 1) := by rw [List.drop_drop]
    rw [← h2, h]
    rfl
theorem pm_sr0 {w : List Nat} {i : Nat} {wo : Nat → Nat} (hwo : ∀ j, j ≤ w.length → wo j = (i :: w.reverse).getD j 0) : ∀ t, t < w.length + 1 → wo (w.length + 1 - 1 - t) = (w ++ [i]).getD t 0 := by
  intro t ht
  have h3 : (w ++ [i]).length = w.length + 1 := by simp
  have e : i :: w.reverse = (w ++ [i]).reverse := by simp
  rw [hwo _ (by omega), e, List.getD_eq_getElem?_getD, List.getD_eq_getElem?_getD, List.getElem?_reverse (by rw [h3]; omega), h3]
  rw [show w.length + 1 - 1 - (w.length + 1 - 1 - t) = t by omega]
/-- what the search answers when it hits -/
theorem pm_sr {nx : Nat → Nat} {ou : Nat → Int32} (hn : ∀ i, nx i < 16) {w : List Nat} {i a b : Nat} {wo : Nat → Nat} (ha : a < 16) (hb : b < 16) (h : pm_sl nx ou (w ++ [i]) a b) (hwo : ∀ j, j ≤ w.reverse.length → wo j = (i :: w.reverse).getD j 0) : w.reverse.length + 1 = pm_ds nx ou a b ∧ ∀ t, t < pm_ds nx ou a b → wo (pm_ds nx ou a b - 1 - t) = (pm_ws nx ou (pm_ds nx ou a b) a b).getD t 0 := by
  have h3 : (w ++ [i]).length = w.length + 1 := by simp
  have h1 : pm_ds nx ou a b = w.length + 1 := (pm_sl_len hn ha hb h).trans h3
  have h2 : w ++ [i] = pm_ws nx ou (w.length + 1) a b := by
    have h4 := pm_sl_ws hn _ ha hb h
    rw [h3] at h4
    exact h4
  generalize pm_ds nx ou a b = L at h1 ⊢
  subst h1
  rw [← h2]
  rw [List.length_reverse] at hwo ⊢
  exact ⟨rfl, pm_sr0 hwo⟩
/-- one call of come -/
theorem pm_come {nx : Nat → Nat} {ou : Nat → Int32} {a b : Nat} {pa : Nat → Nat} {fr : Nat → Int32} {bb kn wo : Nat → Nat} {n k i pk : Nat} {wd : Nat → List Nat} {u : MS} (hn : ∀ i, nx i < 16) (h : pm_bf nx ou a b pa fr bb kn n (k * 3 + i) wd) (hk : k < n) (hi : i < 3) (hp : pa k = pk) (ho : ou (pk / 16 * 3 + i) = ou (pk % 16 * 3 + i)) (h2 : ∀ z, kn z < 2)
    (hw : (kn (nx (pk / 16 * 3 + i) * 16 + nx (pk % 16 * 3 + i)) ≠ 0 ∧ u = (nx, ou, pa, fr, bb, kn, n, wo)) ∨ (kn (nx (pk / 16 * 3 + i) * 16 + nx (pk % 16 * 3 + i)) = 0 ∧ u = (nx, ou, pm_up pa n (nx (pk / 16 * 3 + i) * 16 + nx (pk % 16 * 3 + i)), upd fr n (nI k), pm_up bb n i, pm_up kn (nx (pk / 16 * 3 + i) * 16 + nx (pk % 16 * 3 + i)) 1, n + 1, wo))) :
    ∃ (pa1 : Nat → Nat) (fr1 : Nat → Int32) (bb1 kn1 : Nat → Nat) (pn1 : Nat) (wd1 : Nat → List Nat), u = (nx, ou, pa1, fr1, bb1, kn1, pn1, wo) ∧ pm_bf nx ou a b pa1 fr1 bb1 kn1 pn1 (k * 3 + i + 1) wd1 ∧ k < pn1 ∧ pa1 k = pk ∧ ∀ z, kn1 z < 2 := by
  have e : nx (pk / 16 * 3 + i) * 16 + nx (pk % 16 * 3 + i) = pm_pp nx (pa k) i := by rw [hp]; rfl
  rw [e] at hw
  rw [← hp] at ho
  rcases hw with ⟨c1, c2⟩ | ⟨c1, c2⟩
  · exact ⟨pa, fr, bb, kn, n, wd, c2, pm_bf_old hn h hk hi ho c1, hk, hp, h2⟩
  · exact ⟨_, _, _, _, _, _, c2, pm_bf_new hn h hk hi ho c1, by omega, by rw [pm_up_n (by omega)]; exact hp, pm_up_2 h2 (by decide)⟩
theorem pm_mx_a {nx : Nat → Nat} {ou : Nat → Int32} {i mo : Nat} (h : mo = pm_mx nx ou i) (hl : i / 16 < i % 16) : pm_mx nx ou (i + 1) = if mo < pm_ds nx ou (i / 16) (i % 16) then pm_ds nx ou (i / 16) (i % 16) else mo := by
  rw [h]
  show (if pm_mx nx ou i < (if i / 16 < i % 16 then pm_ds nx ou (i / 16) (i % 16) else 0) then (if i / 16 < i % 16 then pm_ds nx ou (i / 16) (i % 16) else 0) else pm_mx nx ou i) = _
  rw [if_pos hl]
theorem pm_mx_b {nx : Nat → Nat} {ou : Nat → Int32} {i mo : Nat} (h : mo = pm_mx nx ou i) (hl : ¬ i / 16 < i % 16) : pm_mx nx ou (i + 1) = mo := by
  rw [h]
  show (if pm_mx nx ou i < (if i / 16 < i % 16 then pm_ds nx ou (i / 16) (i % 16) else 0) then (if i / 16 < i % 16 then pm_ds nx ou (i / 16) (i % 16) else 0) else pm_mx nx ou i) = _
  rw [if_neg hl, if_neg (Nat.not_lt_zero _)]
theorem pm_mx_16 (nx : Nat → Nat) (ou : Nat → Int32) : ∀ n, pm_mx nx ou n ≤ 16
  | 0 => Nat.zero_le _
  | n + 1 => by
    have h1 := pm_mx_16 nx ou n
    have h2 := pm_ds_16 nx ou (n / 16) (n % 16)
    unfold pm_mx
    split
    · split <;> omega
    · exact h1
end
section
/-! ===== MachineTwinsModel: isState, isInput, come, spell, search ===== -/
abbrev rmX1_isState : Room := { frames := 0, cells := 0, slots := 0, locals := 0 }
set_option maxHeartbeats 400000 in
set_option maxRecDepth 100000 in
theorem mX1_isState (l : Launch) (D : va_G) (sz : Nat) (h0 : Nat) (x : Int32) : cM l yX1_isState (ws_ yX1_isState cX1_isState 2 (some .boolean)) rmX1_isState D [] [.ref h0, .int x] [] sz (cQi D [] (fun _ : Unit => []) (fun v _ => v = bI (!pm_bad x))) := by
  refine cM_start (by decide) (Nat.le_of_ble_eq_true rfl) ?_
  intro p e s m args below meth c A ls Q hx hb hr hlocks hml hown hin hts hA hK hP hD hS hl hQ
  have hown : s.vm.findClass RX1 = some m.cls := hown
  have hl : lv_has ls 2 [(0, .ref h0), (1, .int x)] := hl
  refine lv_iload_n hx hb dX1_isState_0 rfl (lv_at hl 1 rfl) ?_
  refine lv_if_lt (tgt := 14) hx hb dX1_isState_1 (by decide) (fun c_1 => ?_) (fun c_1 => ?_)
  · skip
    refine lv_iconst (v := nI 0) hx hb dX1_isState_14 (by decide) ?_
    exact cx_zret hQ hx hb hr hlocks hK () hP hD hS dX1_isState_15 rfl (by rw [show pm_bad x = true from decide_eq_true (Or.inl c_1)]; rfl)
  · skip
    refine lv_iload_n hx hb dX1_isState_4 rfl (lv_at hl 1 rfl) ?_
    refine lv_bipush (v := nI 16) hx hb dX1_isState_5 (by decide) ?_
    refine lv_icmp_ge (tgt := 14) hx hb dX1_isState_7 (by decide) (fun c_7 => ?_) (fun c_7 => ?_)
    · skip
      refine lv_iconst (v := nI 0) hx hb dX1_isState_14 (by decide) ?_
      exact cx_zret hQ hx hb hr hlocks hK () hP hD hS dX1_isState_15 rfl (by rw [show pm_bad x = true from decide_eq_true (Or.inr (fun h => (fa_of_lt h).2.1 c_7))]; rfl)
    · skip
      refine lv_iconst (v := nI 1) hx hb dX1_isState_10 (by decide) ?_
      refine lv_goto (tgt := 15) hx hb dX1_isState_11 (by decide) ?_
      exact cx_zret hQ hx hb hr hlocks hK () hP hD hS dX1_isState_15 rfl (by rw [show pm_bad x = false from decide_eq_false (fun h => h.elim c_1 (fun h => h (fa_of_nle c_7)))]; rfl)

abbrev rmX1_isInput : Room := { frames := 0, cells := 0, slots := 0, locals := 0 }
set_option maxHeartbeats 400000 in
set_option maxRecDepth 100000 in
theorem mX1_isInput (l : Launch) (D : va_G) (sz : Nat) (h0 : Nat) (x : Int32) : cM l yX1_isInput (ws_ yX1_isInput cX1_isInput 2 (some .boolean)) rmX1_isInput D [] [.ref h0, .int x] [] sz (cQi D [] (fun _ : Unit => []) (fun v _ => v = bI (!pm_bi x))) := by
  refine cM_start (by decide) (Nat.le_of_ble_eq_true rfl) ?_
  intro p e s m args below meth c A ls Q hx hb hr hlocks hml hown hin hts hA hK hP hD hS hl hQ
  have hown : s.vm.findClass RX1 = some m.cls := hown
  have hl : lv_has ls 2 [(0, .ref h0), (1, .int x)] := hl
  refine lv_iload_n hx hb dX1_isInput_0 rfl (lv_at hl 1 rfl) ?_
  refine lv_if_lt (tgt := 13) hx hb dX1_isInput_1 (by decide) (fun c_1 => ?_) (fun c_1 => ?_)
  · skip
    refine lv_iconst (v := nI 0) hx hb dX1_isInput_13 (by decide) ?_
    exact cx_zret hQ hx hb hr hlocks hK () hP hD hS dX1_isInput_14 rfl (by rw [show pm_bi x = true from decide_eq_true (Or.inl c_1)]; rfl)
  · skip
    refine lv_iload_n hx hb dX1_isInput_4 rfl (lv_at hl 1 rfl) ?_
    refine lv_iconst (v := nI 3) hx hb dX1_isInput_5 (by decide) ?_
    refine lv_icmp_ge (tgt := 13) hx hb dX1_isInput_6 (by decide) (fun c_6 => ?_) (fun c_6 => ?_)
    · skip
      refine lv_iconst (v := nI 0) hx hb dX1_isInput_13 (by decide) ?_
      exact cx_zret hQ hx hb hr hlocks hK () hP hD hS dX1_isInput_14 rfl (by rw [show pm_bi x = true from decide_eq_true (Or.inr (fun h => (fa_of_lt h).2.1 c_6))]; rfl)
    · skip
      refine lv_iconst (v := nI 1) hx hb dX1_isInput_9 (by decide) ?_
      refine lv_goto (tgt := 14) hx hb dX1_isInput_10 (by decide) ?_
      exact cx_zret hQ hx hb hr hlocks hK () hP hD hS dX1_isInput_14 rfl (by rw [show pm_bi x = false from decide_eq_false (fun h => h.elim c_1 (fun h => h (fa_of_nle c_6)))]; rfl)

abbrev rmX1_come : Room := { frames := 0, cells := 0, slots := 0, locals := 0 }
set_option maxHeartbeats 400000 in
set_option maxRecDepth 100000 in
theorem mX1_come (l : Launch) (D : va_G) (dA dB : ClassId) (h0 qn qo qp qf qb qk qw sz : Nat) (nx : Nat → Nat) (ou : Nat → Int32) (pa : Nat → Nat) (fr : Nat → Int32) (bb kn : Nat → Nat) (pn : Nat) (wo : Nat → Nat) (cx cy : Nat) (cf : Int32) (ci : Nat) (hcx : cx < 16) (hcy : cy < 16) (hk2 : ∀ z, kn z < 2) (hroom : kn (cx * 16 + cy) = 0 → pn < 256) : cM l yX1_come (ws_ yX1_come cX1_come 5 none) rmX1_come D [(dA, .int), (dB, .boolean)] [.ref h0, .int (nI cx), .int (nI cy), .int cf, .int (nI ci)] (mwf h0 qn qo qp qf qb qk qw dA dB (nx, ou, pa, fr, bb, kn, pn, wo)) sz (cQv D [(dA, .int), (dB, .boolean)] (mwf h0 qn qo qp qf qb qk qw dA dB) (fun u => (kn (cx * 16 + cy) ≠ 0 ∧ u = (nx, ou, pa, fr, bb, kn, pn, wo)) ∨ (kn (cx * 16 + cy) = 0 ∧ u = (nx, ou, pm_up pa pn (cx * 16 + cy), upd fr pn cf, pm_up bb pn ci, pm_up kn (cx * 16 + cy) 1, pn + 1, wo)))) := by
  refine cM_start (by decide) (Nat.le_of_ble_eq_true rfl) ?_
  intro p e s m args below meth c A ls Q hx hb hr hlocks hml hown hin hts hA hK hP hD hS hl hQ
  have hown : s.vm.findClass RX1 = some m.cls := hown
  have hl : lv_has ls 5 [(0, .ref h0), (1, .int (nI cx)), (2, .int (nI cy)), (3, .int cf), (4, .int (nI ci))] := hl
  refine lv_aload_n hx hb dX1_come_0 rfl (lv_at hl 0 rfl) ?_
  refine va_get (D := D) (ci := 1) (v := .ref qk) (C := RX1) (T := TX1) (N := 8) hx hb hts in_X1 hown hK hP 0 rfl rfl 5 (by decide) (hts _ q133) (fun _ h9 => h9) rfl dX1_come_1 ?_
  refine lv_iload_n hx hb dX1_come_4 rfl (lv_at hl 1 rfl) ?_
  refine lv_bipush (v := nI 16) hx hb dX1_come_5 (by decide) ?_
  refine n_imul hx hb dX1_come_7 ?_
  refine lv_iload_n hx hb dX1_come_8 rfl (lv_at hl 2 rfl) ?_
  refine n_iadd hx hb dX1_come_9 ?_
  refine n_zald (g := kn) (i := (cx * 16) + cy) hx hb hK hP 6 1 rfl rfl (by omega) (by decide) dX1_come_10 ?_
  have hk11 := hk2 (cx * 16 + cy)
  refine n_if_eq (tgt := 15) hx hb dX1_come_11 (by decide) (by omega) (fun c_11 => ?_) (fun c_11 => ?_)
  · skip
    have hpn := hroom c_11
    refine lv_aload_n hx hb dX1_come_15 rfl (lv_at hl 0 rfl) ?_
    refine va_get (D := D) (ci := 1) (v := .ref qk) (C := RX1) (T := TX1) (N := 8) hx hb hts in_X1 hown hK hP 0 rfl rfl 5 (by decide) (hts _ q133) (fun _ h9 => h9) rfl dX1_come_16 ?_
    refine lv_iload_n hx hb dX1_come_19 rfl (lv_at hl 1 rfl) ?_
    refine lv_bipush (v := nI 16) hx hb dX1_come_20 (by decide) ?_
    refine n_imul hx hb dX1_come_22 ?_
    refine lv_iload_n hx hb dX1_come_23 rfl (lv_at hl 2 rfl) ?_
    refine n_iadd hx hb dX1_come_24 ?_
    refine lv_iconst (v := nI 1) hx hb dX1_come_25 (by decide) ?_
    refine n_zast (g := kn) hx hb hK hP hD hS 6 1 rfl rfl (x := 1) rfl (by omega) (by decide) dX1_come_26 (fun H locs hP hD hS => ?_)
    have hP : va_P D vwCl (mwf h0 qn qo qp qf qb qk qw dA dB (nx, ou, pa, fr, bb, pm_up kn ((cx * 16) + cy) 1, pn, wo)) H := hP
    have hD : va_D A (mwf h0 qn qo qp qf qb qk qw dA dB (nx, ou, pa, fr, bb, pm_up kn ((cx * 16) + cy) 1, pn, wo)) := hD
    refine lv_aload_n hx hb dX1_come_27 rfl (lv_at hl 0 rfl) ?_
    refine va_get (D := D) (ci := 1) (v := .ref qp) (C := RX1) (T := TX1) (N := 8) hx hb hts in_X1 hown hK hP 0 rfl rfl 2 (by decide) (hts _ q130) (fun _ h9 => h9) rfl dX1_come_28 ?_
    refine lv_aload_n hx hb dX1_come_31 rfl (lv_at hl 0 rfl) ?_
    refine va_get (D := D) (ci := 1) (v := .int (nI pn)) (C := RX1) (T := TX1) (N := 8) hx hb hts in_X1 hown hK hP 0 rfl rfl 6 (by decide) (hts _ q134) (fun _ h9 => h9) rfl dX1_come_32 ?_
    refine lv_iload_n hx hb dX1_come_35 rfl (lv_at hl 1 rfl) ?_
    refine lv_bipush (v := nI 16) hx hb dX1_come_36 (by decide) ?_
    refine n_imul hx hb dX1_come_38 ?_
    refine lv_iload_n hx hb dX1_come_39 rfl (lv_at hl 2 rfl) ?_
    refine n_iadd hx hb dX1_come_40 ?_
    refine n_iast (g := pa) hx hb hK hP hD hS 3 0 rfl rfl (by omega) (by decide) dX1_come_41 (fun H locs hP hD hS => ?_)
    have hP : va_P D vwCl (mwf h0 qn qo qp qf qb qk qw dA dB (nx, ou, pm_up pa pn ((cx * 16) + cy), fr, bb, pm_up kn ((cx * 16) + cy) 1, pn, wo)) H := hP
    have hD : va_D A (mwf h0 qn qo qp qf qb qk qw dA dB (nx, ou, pm_up pa pn ((cx * 16) + cy), fr, bb, pm_up kn ((cx * 16) + cy) 1, pn, wo)) := hD
    refine lv_aload_n hx hb dX1_come_42 rfl (lv_at hl 0 rfl) ?_
    refine va_get (D := D) (ci := 1) (v := .ref qf) (C := RX1) (T := TX1) (N := 8) hx hb hts in_X1 hown hK hP 0 rfl rfl 3 (by decide) (hts _ q131) (fun _ h9 => h9) rfl dX1_come_43 ?_
    refine lv_aload_n hx hb dX1_come_46 rfl (lv_at hl 0 rfl) ?_
    refine va_get (D := D) (ci := 1) (v := .int (nI pn)) (C := RX1) (T := TX1) (N := 8) hx hb hts in_X1 hown hK hP 0 rfl rfl 6 (by decide) (hts _ q134) (fun _ h9 => h9) rfl dX1_come_47 ?_
    refine lv_iload_n hx hb dX1_come_50 rfl (lv_at hl 3 rfl) ?_
    refine n_iast0 (f := fr) hx hb hK hP hD hS 4 0 rfl rfl (by omega) (by decide) dX1_come_51 (fun H locs hP hD hS => ?_)
    have hP : va_P D vwCl (mwf h0 qn qo qp qf qb qk qw dA dB (nx, ou, pm_up pa pn ((cx * 16) + cy), upd fr pn (cf), bb, pm_up kn ((cx * 16) + cy) 1, pn, wo)) H := hP
    have hD : va_D A (mwf h0 qn qo qp qf qb qk qw dA dB (nx, ou, pm_up pa pn ((cx * 16) + cy), upd fr pn (cf), bb, pm_up kn ((cx * 16) + cy) 1, pn, wo)) := hD
    refine lv_aload_n hx hb dX1_come_52 rfl (lv_at hl 0 rfl) ?_
    refine va_get (D := D) (ci := 1) (v := .ref qb) (C := RX1) (T := TX1) (N := 8) hx hb hts in_X1 hown hK hP 0 rfl rfl 4 (by decide) (hts _ q132) (fun _ h9 => h9) rfl dX1_come_53 ?_
    refine lv_aload_n hx hb dX1_come_56 rfl (lv_at hl 0 rfl) ?_
    refine va_get (D := D) (ci := 1) (v := .int (nI pn)) (C := RX1) (T := TX1) (N := 8) hx hb hts in_X1 hown hK hP 0 rfl rfl 6 (by decide) (hts _ q134) (fun _ h9 => h9) rfl dX1_come_57 ?_
    refine lv_iload hx hb dX1_come_60 (lv_at hl 4 rfl) ?_
    refine n_iast (g := bb) hx hb hK hP hD hS 5 0 rfl rfl (by omega) (by decide) dX1_come_62 (fun H locs hP hD hS => ?_)
    have hP : va_P D vwCl (mwf h0 qn qo qp qf qb qk qw dA dB (nx, ou, pm_up pa pn ((cx * 16) + cy), upd fr pn (cf), pm_up bb pn ci, pm_up kn ((cx * 16) + cy) 1, pn, wo)) H := hP
    have hD : va_D A (mwf h0 qn qo qp qf qb qk qw dA dB (nx, ou, pm_up pa pn ((cx * 16) + cy), upd fr pn (cf), pm_up bb pn ci, pm_up kn ((cx * 16) + cy) 1, pn, wo)) := hD
    refine lv_aload_n hx hb dX1_come_63 rfl (lv_at hl 0 rfl) ?_
    refine lv_dup hx hb dX1_come_64 rfl ?_
    refine va_get (D := D) (ci := 1) (v := .int (nI pn)) (C := RX1) (T := TX1) (N := 8) hx hb hts in_X1 hown hK hP 0 rfl rfl 6 (by decide) (hts _ q134) (fun _ h9 => h9) rfl dX1_come_65 ?_
    refine lv_iconst (v := nI 1) hx hb dX1_come_68 (by decide) ?_
    refine n_iadd hx hb dX1_come_69 ?_
    refine va_put (D := D) (ci := 1) (v := .int (nI (pn + 1))) (ty := .int) (C := RX1) (T := TX1) (N := 8) hx hb hts in_X1 tyX1 tyX1_ok nmX1 hown hK hP hD hS 0 rfl rfl 6 (by decide) (hts _ q134) (fun _ h9 => h9) rfl (by decide +kernel) rfl rfl (Nat.le_of_ble_eq_true rfl) dX1_come_70 (fun H locs hP hD hS => ?_)
    have hP : va_P D vwCl (mwf h0 qn qo qp qf qb qk qw dA dB (nx, ou, pm_up pa pn ((cx * 16) + cy), upd fr pn (cf), pm_up bb pn ci, pm_up kn ((cx * 16) + cy) 1, pn + 1, wo)) H := hP
    have hD : va_D A (mwf h0 qn qo qp qf qb qk qw dA dB (nx, ou, pm_up pa pn ((cx * 16) + cy), upd fr pn (cf), pm_up bb pn ci, pm_up kn ((cx * 16) + cy) 1, pn + 1, wo)) := hD
    exact cx_vret hQ hx hb hr hlocks hK (nx, ou, pm_up pa pn ((cx * 16) + cy), upd fr pn (cf), pm_up bb pn ci, pm_up kn ((cx * 16) + cy) 1, pn + 1, wo) hP hD hS dX1_come_73 (Or.inr ⟨c_11, rfl⟩)
  · skip
    exact cx_vret hQ hx hb hr hlocks hK (nx, ou, pa, fr, bb, kn, pn, wo) hP hD hS dX1_come_14 (Or.inl ⟨c_11, rfl⟩)

abbrev rmX1_spell : Room := { frames := 0, cells := 0, slots := 0, locals := 0 }
set_option maxHeartbeats 400000 in
set_option maxRecDepth 100000 in
theorem mX1_spell (l : Launch) (D : va_G) (dA dB : ClassId) (h0 qn qo qp qf qb qk qw sz : Nat) (nx : Nat → Nat) (ou : Nat → Int32) (pa : Nat → Nat) (fr : Nat → Int32) (bb kn : Nat → Nat) (pn : Nat) (wo : Nat → Nat) (k0 i0 : Nat) (w0 : List Nat) (hk0 : k0 < 256) (hw0 : w0.length ≤ 255) (hch0 : pm_ch fr bb w0 k0) : cM l yX1_spell (ws_ yX1_spell cX1_spell 5 (some .int)) rmX1_spell D [(dA, .int), (dB, .boolean)] [.ref h0, .int (nI k0), .int (nI i0)] (mwf h0 qn qo qp qf qb qk qw dA dB (nx, ou, pa, fr, bb, kn, pn, wo)) sz (cQi D [(dA, .int), (dB, .boolean)] (mwf h0 qn qo qp qf qb qk qw dA dB) (fun v u => v = nI (w0.length + 1) ∧ ∃ wo1 : Nat → Nat, u = (nx, ou, pa, fr, bb, kn, pn, wo1) ∧ ∀ j, j ≤ w0.length → wo1 j = (i0 :: w0).getD j 0)) := by
  refine cM_start (by decide) (Nat.le_of_ble_eq_true rfl) ?_
  intro p e s m args below meth c A ls Q hx hb hr hlocks hml hown hin hts hA hK hP hD hS hl hQ
  have hown : s.vm.findClass RX1 = some m.cls := hown
  have hl : lv_has ls 5 [(0, .ref h0), (1, .int (nI k0)), (2, .int (nI i0))] := hl
  refine lv_iconst (v := nI 1) hx hb dX1_spell_0 (by decide) ?_
  refine lv_istore_n (lv' := [(3, .int (nI 1)), (0, .ref h0), (1, .int (nI k0)), (2, .int (nI i0))]) hx hb dX1_spell_1 rfl hl (by decide) rfl (fun ls hl => ?_)
  refine lv_aload_n hx hb dX1_spell_2 rfl (lv_at hl 1 rfl) ?_
  refine va_get (D := D) (ci := 1) (v := .ref qw) (C := RX1) (T := TX1) (N := 8) hx hb hts in_X1 hown hK hP 0 rfl rfl 7 (by decide) (hts _ q135) (fun _ h9 => h9) rfl dX1_spell_3 ?_
  refine lv_iconst (v := nI 0) hx hb dX1_spell_6 (by decide) ?_
  refine lv_iload_n hx hb dX1_spell_7 rfl (lv_at hl 3 rfl) ?_
  refine n_iast (g := wo) hx hb hK hP hD hS 7 0 rfl rfl (by omega) (by decide) dX1_spell_8 (fun H locs hP hD hS => ?_)
  have hP : va_P D vwCl (mwf h0 qn qo qp qf qb qk qw dA dB (nx, ou, pa, fr, bb, kn, pn, pm_up wo 0 i0)) H := hP
  have hD : va_D A (mwf h0 qn qo qp qf qb qk qw dA dB (nx, ou, pa, fr, bb, kn, pn, pm_up wo 0 i0)) := hD
  refine lv_iload_n hx hb dX1_spell_9 rfl (lv_at hl 2 rfl) ?_
  refine lv_istore (lv' := [(4, .int (nI k0)), (3, .int (nI 1)), (0, .ref h0), (1, .int (nI k0)), (2, .int (nI i0))]) hx hb dX1_spell_10 hl (by decide) rfl (fun ls hl => ?_)
  have loop_12 : ∀ (n : Nat) (k : Nat) (ln : Nat) (wox : Nat → Nat) (wr : List Nat), k < 256 → wr.length + 1 ≤ n → pm_ch fr bb wr k → ln + wr.length = w0.length + 1 → (∀ j, j < ln → wox j = (i0 :: w0).getD j 0) → (i0 :: w0).drop ln = wr → ∀ (H : Heap) (locs : List Loc), va_P D vwCl (mwf h0 qn qo qp qf qb qk qw dA dB (nx, ou, pa, fr, bb, kn, pn, wox)) H → va_D A (mwf h0 qn qo qp qf qb qk qw dA dB (nx, ou, pa, fr, bb, kn, pn, wox)) → va_S A s.heap H locs → ∀ (ls : Array Slot), lv_has ls 5 [(0, .ref h0), (1, .int (nI k0)), (2, .int (nI i0)), (3, .int (nI ln)), (4, .int (nI k))] → W p l e rmX1_spell s m args below meth c H locs 0 0 Q (F0 m 12 ls []) := by
    intro n
    induction n with
    | zero =>
      intro k ln wox wr hk hf hch hln hwo hdr
      exact absurd hf (by omega)
    | succ n ih_12 =>
      intro k ln wox wr hk hf hch hln hwo hdr H locs hP hD hS ls hl
      refine lv_aload_n hx hb dX1_spell_12 rfl (lv_at hl 0 rfl) ?_
      refine va_get (D := D) (ci := 1) (v := .ref qf) (C := RX1) (T := TX1) (N := 8) hx hb hts in_X1 hown hK hP 0 rfl rfl 3 (by decide) (hts _ q131) (fun _ h9 => h9) rfl dX1_spell_13 ?_
      refine lv_iload hx hb dX1_spell_16 (lv_at hl 4 rfl) ?_
      refine n_iald0 (f := fr) (i := k) hx hb hK hP 4 0 rfl rfl (by omega) (by decide) dX1_spell_18 ?_
      refine lv_if_lt (tgt := 57) hx hb dX1_spell_19 (by decide) (fun c_19 => ?_) (fun c_19 => ?_)
      · skip
        have hwr : wr.length = 0 := by
          cases wr with
          | nil => rfl
          | cons c0 w1 =>
            obtain ⟨-, j, hj, hfj, -⟩ := hch
            rw [hfj] at c_19
            exact absurd c_19 (nI_pos (by omega))
        refine lv_iload_n hx hb dX1_spell_57 rfl (lv_at hl 3 rfl) ?_
        exact cx_iret hQ hx hb hr hlocks hK (nx, ou, pa, fr, bb, kn, pn, wox) hP hD hS dX1_spell_58 ⟨by rw [show ln = w0.length + 1 by omega], wox, rfl, fun j hj => hwo j (by omega)⟩
      · skip
        obtain ⟨c0, w1, hwr⟩ : ∃ c w, wr = c :: w := by
          cases wr with
          | nil => exact absurd hch c_19
          | cons c w => exact ⟨c, w, rfl⟩
        subst hwr
        obtain ⟨hbc, j, hj, hfj, hch1⟩ := hch
        rw [List.length_cons] at hln hf
        refine lv_iload_n hx hb dX1_spell_22 rfl (lv_at hl 3 rfl) ?_
        refine lv_sipush (v := nI 256) hx hb dX1_spell_23 (by decide) ?_
        refine n_icmp_ge (tgt := 57) hx hb dX1_spell_26 (by decide) (by omega) (by omega) (fun c_26 => ?_) (fun c_26 => ?_)
        · skip
          exact absurd c_26 (by omega)
        · skip
          refine lv_aload_n hx hb dX1_spell_29 rfl (lv_at hl 0 rfl) ?_
          refine va_get (D := D) (ci := 1) (v := .ref qw) (C := RX1) (T := TX1) (N := 8) hx hb hts in_X1 hown hK hP 0 rfl rfl 7 (by decide) (hts _ q135) (fun _ h9 => h9) rfl dX1_spell_30 ?_
          refine lv_iload_n hx hb dX1_spell_33 rfl (lv_at hl 3 rfl) ?_
          refine lv_aload_n hx hb dX1_spell_34 rfl (lv_at hl 0 rfl) ?_
          refine va_get (D := D) (ci := 1) (v := .ref qb) (C := RX1) (T := TX1) (N := 8) hx hb hts in_X1 hown hK hP 0 rfl rfl 4 (by decide) (hts _ q132) (fun _ h9 => h9) rfl dX1_spell_35 ?_
          refine lv_iload hx hb dX1_spell_38 (lv_at hl 4 rfl) ?_
          refine n_iald (g := bb) (i := k) hx hb hK hP 5 0 rfl rfl (by omega) (by decide) dX1_spell_40 ?_
          refine n_iast (g := wox) hx hb hK hP hD hS 7 0 rfl rfl (by omega) (by decide) dX1_spell_41 (fun H locs hP hD hS => ?_)
          have hP : va_P D vwCl (mwf h0 qn qo qp qf qb qk qw dA dB (nx, ou, pa, fr, bb, kn, pn, pm_up wox ln (bb k))) H := hP
          have hD : va_D A (mwf h0 qn qo qp qf qb qk qw dA dB (nx, ou, pa, fr, bb, kn, pn, pm_up wox ln (bb k))) := hD
          refine lv_iinc (v := nI (ln + 1)) (lv' := [(3, .int (nI (ln + 1))), (0, .ref h0), (1, .int (nI k0)), (2, .int (nI i0)), (4, .int (nI k))]) hx hb dX1_spell_42 hl (k := 3) rfl (nI_inc1 _) (by decide) rfl (fun ls hl => ?_)
          refine lv_aload_n hx hb dX1_spell_45 rfl (lv_at hl 1 rfl) ?_
          refine va_get (D := D) (ci := 1) (v := .ref qf) (C := RX1) (T := TX1) (N := 8) hx hb hts in_X1 hown hK hP 0 rfl rfl 3 (by decide) (hts _ q131) (fun _ h9 => h9) rfl dX1_spell_46 ?_
          refine lv_iload hx hb dX1_spell_49 (lv_at hl 4 rfl) ?_
          refine n_iald0 (f := fr) (i := k) hx hb hK hP 4 0 rfl rfl (by omega) (by decide) dX1_spell_51 ?_
          refine n_top _ (nI j) hfj ?_
          refine lv_istore (lv' := [(4, .int (nI j)), (3, .int (nI (ln + 1))), (0, .ref h0), (1, .int (nI k0)), (2, .int (nI i0))]) hx hb dX1_spell_52 hl (by decide) rfl (fun ls hl => ?_)
          refine lv_goto (tgt := 12) hx hb dX1_spell_54 (by decide) ?_
          have hd := pm_dr hdr
          exact ih_12 j (ln + 1) (pm_up wox ln (bb k)) w1 hj (by omega) hch1 (by omega) (lt_s (fun y hy => by rw [pm_up_n (by omega)]; exact hwo y hy) (by rw [pm_up_s, hd.1, hbc])) hd.2 H locs hP hD hS ls (lv_sub hl [2, 3, 4, 1, 0] rfl)
  exact loop_12 (w0.length + 1) k0 1 (pm_up wo 0 i0) w0 hk0 (by omega) hch0 (by omega) (fun j hj => by rw [show j = 0 by omega, pm_up_s]; rfl) rfl _ _ hP hD hS ls (lv_sub hl [2, 3, 4, 1, 0] rfl)

abbrev rmX1_search : Room := { frames := 1, cells := 0, slots := 0, locals := 24 }
set_option maxHeartbeats 400000 in
set_option maxRecDepth 100000 in
theorem mX1_search (l : Launch) (D : va_G) (dA dB : ClassId) (h0 qn qo qp qf qb qk qw sz : Nat) (nx : Nat → Nat) (ou : Nat → Int32) (pa : Nat → Nat) (fr : Nat → Int32) (bb kn : Nat → Nat) (pn : Nat) (wo : Nat → Nat) (sa sb : Nat) (hsa : sa < 16) (hsb : sb < 16) (hk2 : ∀ z, kn z < 2) (hnx : ∀ i, nx i < 16) : cM l yX1_search (ws_ yX1_search cX1_search 7 (some .int)) rmX1_search D [(dA, .int), (dB, .boolean)] [.ref h0, .int (nI sa), .int (nI sb)] (mwf h0 qn qo qp qf qb qk qw dA dB (nx, ou, pa, fr, bb, kn, pn, wo)) sz (cQi D [(dA, .int), (dB, .boolean)] (mwf h0 qn qo qp qf qb qk qw dA dB) (fun v u => v = nI (pm_ds nx ou sa sb) ∧ ∃ (pa1 : Nat → Nat) (fr1 : Nat → Int32) (bb1 kn1 : Nat → Nat) (pn1 : Nat) (wo1 : Nat → Nat), u = (nx, ou, pa1, fr1, bb1, kn1, pn1, wo1) ∧ (∀ z, kn1 z < 2) ∧ ∀ t, t < pm_ds nx ou sa sb → wo1 (pm_ds nx ou sa sb - 1 - t) = (pm_ws nx ou (pm_ds nx ou sa sb) sa sb).getD t 0)) := by
  refine cM_start (by decide) (Nat.le_of_ble_eq_true rfl) ?_
  intro p e s m args below meth c A ls Q hx hb hr hlocks hml hown hin hts hA hK hP hD hS hl hQ
  have hown : s.vm.findClass RX1 = some m.cls := hown
  have hl : lv_has ls 7 [(0, .ref h0), (1, .int (nI sa)), (2, .int (nI sb))] := hl
  refine lv_iconst (v := nI 0) hx hb dX1_search_0 (by decide) ?_
  refine lv_istore_n (lv' := [(3, .int (nI 0)), (0, .ref h0), (1, .int (nI sa)), (2, .int (nI sb))]) hx hb dX1_search_1 rfl hl (by decide) rfl (fun ls hl => ?_)
  have loop_2 : ∀ (n : Nat) (i : Nat) (knx : Nat → Nat), i ≤ 256 → 256 + 1 ≤ i + n → (∀ j, j < i → knx j = 0) → (∀ z, knx z < 2) → ∀ (H : Heap) (locs : List Loc), va_P D vwCl (mwf h0 qn qo qp qf qb qk qw dA dB (nx, ou, pa, fr, bb, knx, pn, wo)) H → va_D A (mwf h0 qn qo qp qf qb qk qw dA dB (nx, ou, pa, fr, bb, knx, pn, wo)) → va_S A s.heap H locs → ∀ (ls : Array Slot), lv_has ls 7 [(0, .ref h0), (1, .int (nI sa)), (2, .int (nI sb)), (3, .int (nI i))] → W p l e rmX1_search s m args below meth c H locs 0 0 Q (F0 m 2 ls []) := by
    intro n
    induction n with
    | zero =>
      intro i knx hi hf hz0 hk2x
      exact absurd hf (by omega)
    | succ n ih_2 =>
      intro i knx hi hf hz0 hk2x H locs hP hD hS ls hl
      refine lv_iload_n hx hb dX1_search_2 rfl (lv_at hl 3 rfl) ?_
      refine lv_sipush (v := nI 256) hx hb dX1_search_3 (by decide) ?_
      refine n_icmp_ge (tgt := 22) hx hb dX1_search_6 (by decide) (by omega) (by omega) (fun c_6 => ?_) (fun c_6 => ?_)
      · skip
        refine lv_aload_n hx hb dX1_search_22 rfl (lv_at hl 0 rfl) ?_
        refine lv_iconst (v := nI 0) hx hb dX1_search_23 (by decide) ?_
        refine va_put (D := D) (ci := 1) (v := .int (nI 0)) (ty := .int) (C := RX1) (T := TX1) (N := 8) hx hb hts in_X1 tyX1 tyX1_ok nmX1 hown hK hP hD hS 0 rfl rfl 6 (by decide) (hts _ q134) (fun _ h9 => h9) rfl (by decide +kernel) rfl rfl (Nat.le_of_ble_eq_true rfl) dX1_search_24 (fun H locs hP hD hS => ?_)
        have hP : va_P D vwCl (mwf h0 qn qo qp qf qb qk qw dA dB (nx, ou, pa, fr, bb, knx, 0, wo)) H := hP
        have hD : va_D A (mwf h0 qn qo qp qf qb qk qw dA dB (nx, ou, pa, fr, bb, knx, 0, wo)) := hD
        refine lv_aload_n hx hb dX1_search_27 rfl (lv_at hl 0 rfl) ?_
        refine lv_iload_n hx hb dX1_search_28 rfl (lv_at hl 1 rfl) ?_
        refine lv_iload_n hx hb dX1_search_29 rfl (lv_at hl 2 rfl) ?_
        refine lv_iconst (v := -1) hx hb dX1_search_30 (by decide) ?_
        refine lv_iconst (v := nI 0) hx hb dX1_search_31 (by decide) ?_
        refine cx_Vv (As := [.int (nI sa), .int (nI sb), .int ((-1)), .int (nI 0)]) (rest := []) (q0 := 0) (ci := 1) (C := RX1) (T := TX1) (N := 8) ⟨hx, hb, hml, hown, hts⟩ (mX1_come l D dA dB h0 qn qo qp qf qb qk qw H.size nx ou pa fr bb knx 0 wo sa sb (-1) 0 hsa hsb hk2x (fun _ => by omega)) (cwV 4 hts (lw_V q178 q180 qs11 q15 q181) rfl rfl rfl (by decide +kernel) ⟨Nat.le_of_ble_eq_true rfl, Nat.le_of_ble_eq_true rfl⟩) hK hP hD hS hA rfl rfl rfl rfl hl.1 (Nat.le_of_ble_eq_true rfl) dX1_search_32 rfl rfl ⟨Nat.zero_le _, Nat.zero_le _⟩ (fun uv H locs hw hP hD hS => ?_)
        have hw : uv = (nx, ou, pm_up pa 0 (sa * 16 + sb), upd fr 0 (-1), pm_up bb 0 0, pm_up knx (sa * 16 + sb) 1, 0 + 1, wo) := by rcases hw with ⟨hc, -⟩ | ⟨-, h⟩; exact absurd (hz0 _ (by omega)) hc; exact h
        subst hw
        have hbf0 := pm_bf_0 (nx := nx) (ou := ou) (pa := pa) (fr := fr) (bb := bb) hsa hsb (fun q hq => hz0 q (by omega)) (x := -1) (by decide) 0
        refine lv_iconst (v := nI 0) hx hb dX1_search_35 (by decide) ?_
        refine lv_istore_n (lv' := [(3, .int (nI 0)), (0, .ref h0), (1, .int (nI sa)), (2, .int (nI sb))]) hx hb dX1_search_36 rfl hl (by decide) rfl (fun ls hl => ?_)
        have loop_37 : ∀ (n : Nat) (k : Nat) (pax : Nat → Nat) (frx : Nat → Int32) (bbx : Nat → Nat) (knx : Nat → Nat) (pnx : Nat) (wd : Nat → List Nat), k ≤ 256 → 256 + 1 ≤ k + n → k ≤ pnx → pm_bf nx ou sa sb pax frx bbx knx pnx (k * 3) wd → (∀ z, knx z < 2) → ∀ (H : Heap) (locs : List Loc), va_P D vwCl (mwf h0 qn qo qp qf qb qk qw dA dB (nx, ou, pax, frx, bbx, knx, pnx, wo)) H → va_D A (mwf h0 qn qo qp qf qb qk qw dA dB (nx, ou, pax, frx, bbx, knx, pnx, wo)) → va_S A s.heap H locs → ∀ (ls : Array Slot), lv_has ls 7 [(0, .ref h0), (1, .int (nI sa)), (2, .int (nI sb)), (3, .int (nI k))] → W p l e rmX1_search s m args below meth c H locs 0 0 Q (F0 m 37 ls []) := by
          intro n
          induction n with
          | zero =>
            intro k pax frx bbx knx pnx wd hk hf hkp0 hbf hk2x
            exact absurd hf (by omega)
          | succ n ih_37 =>
            intro k pax frx bbx knx pnx wd hk hf hkp0 hbf hk2x H locs hP hD hS ls hl
            have hpn := pm_bf_n hbf
            refine lv_iload_n hx hb dX1_search_37 rfl (lv_at hl 3 rfl) ?_
            refine lv_aload_n hx hb dX1_search_38 rfl (lv_at hl 0 rfl) ?_
            refine va_get (D := D) (ci := 1) (v := .int (nI pnx)) (C := RX1) (T := TX1) (N := 8) hx hb hts in_X1 hown hK hP 0 rfl rfl 6 (by decide) (hts _ q134) (fun _ h9 => h9) rfl dX1_search_39 ?_
            refine n_icmp_ge (tgt := 150) hx hb dX1_search_42 (by decide) (by omega) (by omega) (fun c_42 => ?_) (fun c_42 => ?_)
            · skip
              refine lv_iconst (v := nI 0) hx hb dX1_search_150 (by decide) ?_
              have hd0 : pm_ds nx ou sa sb = 0 := by rw [show k = pnx by omega] at hbf; exact pm_bf_none hnx hsa hsb hbf
              exact cx_iret hQ hx hb hr hlocks hK (nx, ou, pax, frx, bbx, knx, pnx, wo) hP hD hS dX1_search_151 ⟨by rw [hd0], pax, frx, bbx, knx, pnx, wo, rfl, hk2x, fun t ht => absurd ht (by omega)⟩
            · skip
              have hpk9 := hbf.2.1 k c_42
              obtain ⟨pk, hpk0⟩ : ∃ pk, pk = pax k := ⟨_, rfl⟩
              rw [← hpk0] at hpk9
              refine lv_aload_n hx hb dX1_search_45 rfl (lv_at hl 0 rfl) ?_
              refine va_get (D := D) (ci := 1) (v := .ref qp) (C := RX1) (T := TX1) (N := 8) hx hb hts in_X1 hown hK hP 0 rfl rfl 2 (by decide) (hts _ q130) (fun _ h9 => h9) rfl dX1_search_46 ?_
              refine lv_iload_n hx hb dX1_search_49 rfl (lv_at hl 3 rfl) ?_
              refine n_iald (g := pax) (i := k) hx hb hK hP 3 0 rfl rfl (by omega) (by decide) dX1_search_50 ?_
              refine n_top _ (nI pk) (by rw [hpk0]) ?_
              refine lv_bipush (v := nI 16) hx hb dX1_search_51 (by decide) ?_
              refine n_idiv hx hb (by omega) (by omega) (by omega) dX1_search_53 ?_
              refine lv_iconst (v := nI 3) hx hb dX1_search_54 (by decide) ?_
              refine n_imul hx hb dX1_search_55 ?_
              refine lv_istore (lv' := [(4, .int (nI ((pk / 16) * 3))), (0, .ref h0), (1, .int (nI sa)), (2, .int (nI sb)), (3, .int (nI k))]) hx hb dX1_search_56 hl (by decide) rfl (fun ls hl => ?_)
              refine lv_aload_n hx hb dX1_search_58 rfl (lv_at hl 1 rfl) ?_
              refine va_get (D := D) (ci := 1) (v := .ref qp) (C := RX1) (T := TX1) (N := 8) hx hb hts in_X1 hown hK hP 0 rfl rfl 2 (by decide) (hts _ q130) (fun _ h9 => h9) rfl dX1_search_59 ?_
              refine lv_iload_n hx hb dX1_search_62 rfl (lv_at hl 4 rfl) ?_
              refine n_iald (g := pax) (i := k) hx hb hK hP 3 0 rfl rfl (by omega) (by decide) dX1_search_63 ?_
              refine n_top _ (nI pk) (by rw [hpk0]) ?_
              refine lv_bipush (v := nI 16) hx hb dX1_search_64 (by decide) ?_
              refine n_irem hx hb (by omega) (by omega) (by omega) dX1_search_66 ?_
              refine lv_iconst (v := nI 3) hx hb dX1_search_67 (by decide) ?_
              refine n_imul hx hb dX1_search_68 ?_
              refine lv_istore (lv' := [(5, .int (nI ((pk % 16) * 3))), (4, .int (nI ((pk / 16) * 3))), (0, .ref h0), (1, .int (nI sa)), (2, .int (nI sb)), (3, .int (nI k))]) hx hb dX1_search_69 hl (by decide) rfl (fun ls hl => ?_)
              refine lv_iconst (v := nI 0) hx hb dX1_search_71 (by decide) ?_
              refine lv_istore (lv' := [(6, .int (nI 0)), (5, .int (nI ((pk % 16) * 3))), (4, .int (nI ((pk / 16) * 3))), (0, .ref h0), (1, .int (nI sa)), (2, .int (nI sb)), (3, .int (nI k))]) hx hb dX1_search_72 hl (by decide) rfl (fun ls hl => ?_)
              have loop_74 : ∀ (n : Nat) (i : Nat) (pax : Nat → Nat) (frx : Nat → Int32) (bbx : Nat → Nat) (knx : Nat → Nat) (pnx : Nat) (wd : Nat → List Nat), i ≤ 3 → 3 + 1 ≤ i + n → k < pnx → pm_bf nx ou sa sb pax frx bbx knx pnx (k * 3 + i) wd → pax k = pk → (∀ z, knx z < 2) → ∀ (H : Heap) (locs : List Loc), va_P D vwCl (mwf h0 qn qo qp qf qb qk qw dA dB (nx, ou, pax, frx, bbx, knx, pnx, wo)) H → va_D A (mwf h0 qn qo qp qf qb qk qw dA dB (nx, ou, pax, frx, bbx, knx, pnx, wo)) → va_S A s.heap H locs → ∀ (ls : Array Slot), lv_has ls 7 [(0, .ref h0), (1, .int (nI sa)), (2, .int (nI sb)), (3, .int (nI k)), (4, .int (nI (pk / 16 * 3))), (5, .int (nI (pk % 16 * 3))), (6, .int (nI i))] → W p l e rmX1_search s m args below meth c H locs 0 0 Q (F0 m 74 ls []) := by
                intro n
                induction n with
                | zero =>
                  intro i pax frx bbx knx pnx wd hi hfi hkp hbf hpk hk2x
                  exact absurd hfi (by omega)
                | succ n ih_74 =>
                  intro i pax frx bbx knx pnx wd hi hfi hkp hbf hpk hk2x H locs hP hD hS ls hl
                  refine lv_iload hx hb dX1_search_74 (lv_at hl 6 rfl) ?_
                  refine lv_iconst (v := nI 3) hx hb dX1_search_76 (by decide) ?_
                  refine n_icmp_ge (tgt := 144) hx hb dX1_search_77 (by decide) (by omega) (by omega) (fun c_77 => ?_) (fun c_77 => ?_)
                  · skip
                    refine lv_iinc (v := nI (k + 1)) (lv' := [(3, .int (nI (k + 1))), (0, .ref h0), (1, .int (nI sa)), (2, .int (nI sb)), (4, .int (nI (pk / 16 * 3))), (5, .int (nI (pk % 16 * 3))), (6, .int (nI i))]) hx hb dX1_search_144 hl (k := 3) rfl (nI_inc1 _) (by decide) rfl (fun ls hl => ?_)
                    refine lv_goto (tgt := 37) hx hb dX1_search_147 (by decide) ?_
                    have hn256 := pm_bf_n hbf
                    have hbf := hbf
                    rw [show i = 3 by omega, show k * 3 + 3 = (k + 1) * 3 by omega] at hbf
                    exact ih_37 (k + 1) pax frx bbx knx pnx wd (by omega) (by omega) (by omega) hbf hk2x H locs hP hD hS ls (lv_sub hl [1, 2, 3, 0] rfl)
                  · skip
                    refine lv_aload_n hx hb dX1_search_80 rfl (lv_at hl 0 rfl) ?_
                    refine va_get (D := D) (ci := 1) (v := .ref qo) (C := RX1) (T := TX1) (N := 8) hx hb hts in_X1 hown hK hP 0 rfl rfl 1 (by decide) (hts _ q129) (fun _ h9 => h9) rfl dX1_search_81 ?_
                    refine lv_iload hx hb dX1_search_84 (lv_at hl 4 rfl) ?_
                    refine lv_iload hx hb dX1_search_86 (lv_at hl 6 rfl) ?_
                    refine n_iadd hx hb dX1_search_88 ?_
                    refine n_iald0 (f := ou) (i := (pk / 16 * 3) + i) hx hb hK hP 2 0 rfl rfl (by omega) (by decide) dX1_search_89 ?_
                    refine lv_aload_n hx hb dX1_search_90 rfl (lv_at hl 0 rfl) ?_
                    refine va_get (D := D) (ci := 1) (v := .ref qo) (C := RX1) (T := TX1) (N := 8) hx hb hts in_X1 hown hK hP 0 rfl rfl 1 (by decide) (hts _ q129) (fun _ h9 => h9) rfl dX1_search_91 ?_
                    refine lv_iload hx hb dX1_search_94 (lv_at hl 5 rfl) ?_
                    refine lv_iload hx hb dX1_search_96 (lv_at hl 6 rfl) ?_
                    refine n_iadd hx hb dX1_search_98 ?_
                    refine n_iald0 (f := ou) (i := (pk % 16 * 3) + i) hx hb hK hP 2 0 rfl rfl (by omega) (by decide) dX1_search_99 ?_
                    refine lv_icmp_eq (tgt := 111) hx hb dX1_search_100 (by decide) (fun c_100 => ?_) (fun c_100 => ?_)
                    · skip
                      refine lv_aload_n hx hb dX1_search_111 rfl (lv_at hl 0 rfl) ?_
                      refine lv_aload_n hx hb dX1_search_112 rfl (lv_at hl 0 rfl) ?_
                      refine va_get (D := D) (ci := 1) (v := .ref qn) (C := RX1) (T := TX1) (N := 8) hx hb hts in_X1 hown hK hP 0 rfl rfl 0 (by decide) (hts _ q128) (fun _ h9 => h9) rfl dX1_search_113 ?_
                      refine lv_iload hx hb dX1_search_116 (lv_at hl 4 rfl) ?_
                      refine lv_iload hx hb dX1_search_118 (lv_at hl 6 rfl) ?_
                      refine n_iadd hx hb dX1_search_120 ?_
                      refine n_iald (g := nx) (i := (pk / 16 * 3) + i) hx hb hK hP 1 0 rfl rfl (by omega) (by decide) dX1_search_121 ?_
                      refine lv_aload_n hx hb dX1_search_122 rfl (lv_at hl 0 rfl) ?_
                      refine va_get (D := D) (ci := 1) (v := .ref qn) (C := RX1) (T := TX1) (N := 8) hx hb hts in_X1 hown hK hP 0 rfl rfl 0 (by decide) (hts _ q128) (fun _ h9 => h9) rfl dX1_search_123 ?_
                      refine lv_iload hx hb dX1_search_126 (lv_at hl 5 rfl) ?_
                      refine lv_iload hx hb dX1_search_128 (lv_at hl 6 rfl) ?_
                      refine n_iadd hx hb dX1_search_130 ?_
                      refine n_iald (g := nx) (i := (pk % 16 * 3) + i) hx hb hK hP 1 0 rfl rfl (by omega) (by decide) dX1_search_131 ?_
                      refine lv_iload_n hx hb dX1_search_132 rfl (lv_at hl 3 rfl) ?_
                      refine lv_iload hx hb dX1_search_133 (lv_at hl 6 rfl) ?_
                      have hb1 := hnx (pk / 16 * 3 + i)
                      have hb2 := hnx (pk % 16 * 3 + i)
                      refine cx_Vv (As := [.int (nI (nx ((pk / 16 * 3) + i))), .int (nI (nx ((pk % 16 * 3) + i))), .int (nI k), .int (nI i)]) (rest := []) (q0 := 0) (ci := 1) (C := RX1) (T := TX1) (N := 8) ⟨hx, hb, hml, hown, hts⟩ (mX1_come l D dA dB h0 qn qo qp qf qb qk qw H.size nx ou pax frx bbx knx pnx wo (nx ((pk / 16 * 3) + i)) (nx ((pk % 16 * 3) + i)) (nI k) i (hnx _) (hnx _) hk2x (fun h => pm_bf_room hbf (by omega) h)) (cwV 4 hts (lw_V q178 q180 qs11 q15 q181) rfl rfl rfl (by decide +kernel) ⟨Nat.le_of_ble_eq_true rfl, Nat.le_of_ble_eq_true rfl⟩) hK hP hD hS hA rfl rfl rfl rfl hl.1 (Nat.le_of_ble_eq_true rfl) dX1_search_135 rfl rfl ⟨Nat.zero_le _, Nat.zero_le _⟩ (fun uv H locs hw hP hD hS => ?_)
                      obtain ⟨pa1, fr1, bb1, kn1, pn1, wd1, rfl, hbf1, hkp1, hpk1, hk21⟩ := pm_come hnx hbf hkp (by omega) hpk c_100 hk2x hw
                      refine lv_iinc (v := nI (i + 1)) (lv' := [(6, .int (nI (i + 1))), (0, .ref h0), (1, .int (nI sa)), (2, .int (nI sb)), (3, .int (nI k)), (4, .int (nI (pk / 16 * 3))), (5, .int (nI (pk % 16 * 3)))]) hx hb dX1_search_138 hl (k := 6) rfl (nI_inc1 _) (by decide) rfl (fun ls hl => ?_)
                      refine lv_goto (tgt := 74) hx hb dX1_search_141 (by decide) ?_
                      exact ih_74 (i + 1) pa1 fr1 bb1 kn1 pn1 wd1 (by omega) (by omega) hkp1 hbf1 hpk1 hk21 H locs hP hD hS ls (lv_sub hl [1, 2, 3, 4, 5, 6, 0] rfl)
                    · skip
                      refine lv_aload_n hx hb dX1_search_103 rfl (lv_at hl 0 rfl) ?_
                      refine lv_iload_n hx hb dX1_search_104 rfl (lv_at hl 3 rfl) ?_
                      refine lv_iload hx hb dX1_search_105 (lv_at hl 6 rfl) ?_
                      have hat := (pm_bf_at hnx hsb hbf hkp).2.2.2
                      have hn256 := pm_bf_n hbf
                      refine cx_V (As := [.int (nI k), .int (nI i)]) (rest := []) (q0 := 0) (ci := 1) (C := RX1) (T := TX1) (N := 8) ⟨hx, hb, hml, hown, hts⟩ (mX1_spell l D dA dB h0 qn qo qp qf qb qk qw H.size nx ou pax frx bbx knx pnx wo k i (wd k).reverse (by omega) (by rw [List.length_reverse]; omega) (pm_bf_ch hbf (k + 1) k (by omega) hkp)) (cwV 2 hts (lw_V q182 q184 qs12 q15 q185) rfl rfl rfl (by decide +kernel) ⟨Nat.le_of_ble_eq_true rfl, Nat.le_of_ble_eq_true rfl⟩) hK hP hD hS hA rfl rfl rfl rfl hl.1 (Nat.le_of_ble_eq_true rfl) dX1_search_107 rfl rfl ⟨Nat.zero_le _, Nat.zero_le _⟩ (fun rv uv H locs hw hP hD hS => ?_)
                      obtain ⟨rfl, wo1, rfl, hwo1⟩ := hw
                      have hsr := pm_sr hnx hsa hsb (pm_bf_hit hnx hsa hsb hbf hkp (by omega) (by rw [hpk]; exact c_100)) hwo1
                      exact cx_iret hQ hx hb hr hlocks hK (nx, ou, pax, frx, bbx, knx, pnx, wo1) hP hD hS dX1_search_110 ⟨by rw [hsr.1], pax, frx, bbx, knx, pnx, wo1, rfl, hk2x, hsr.2⟩
              exact loop_74 4 0 pax frx bbx knx pnx wd (by omega) (by omega) c_42 hbf hpk0.symm hk2x _ _ hP hD hS ls (lv_sub hl [3, 4, 5, 6, 2, 1, 0] rfl)
        exact loop_37 257 0 _ _ _ _ (0 + 1) (fun _ => []) (by omega) (by omega) (by omega) hbf0 (pm_up_2 hk2x (by decide)) _ _ hP hD hS ls (lv_sub hl [1, 2, 3, 0] rfl)
      · skip
        refine lv_aload_n hx hb dX1_search_9 rfl (lv_at hl 0 rfl) ?_
        refine va_get (D := D) (ci := 1) (v := .ref qk) (C := RX1) (T := TX1) (N := 8) hx hb hts in_X1 hown hK hP 0 rfl rfl 5 (by decide) (hts _ q133) (fun _ h9 => h9) rfl dX1_search_10 ?_
        refine lv_iload_n hx hb dX1_search_13 rfl (lv_at hl 3 rfl) ?_
        refine lv_iconst (v := nI 0) hx hb dX1_search_14 (by decide) ?_
        refine n_zast (g := knx) hx hb hK hP hD hS 6 1 rfl rfl (x := 0) rfl (by omega) (by decide) dX1_search_15 (fun H locs hP hD hS => ?_)
        have hP : va_P D vwCl (mwf h0 qn qo qp qf qb qk qw dA dB (nx, ou, pa, fr, bb, pm_up knx i 0, pn, wo)) H := hP
        have hD : va_D A (mwf h0 qn qo qp qf qb qk qw dA dB (nx, ou, pa, fr, bb, pm_up knx i 0, pn, wo)) := hD
        refine lv_iinc (v := nI (i + 1)) (lv' := [(3, .int (nI (i + 1))), (0, .ref h0), (1, .int (nI sa)), (2, .int (nI sb))]) hx hb dX1_search_16 hl (k := 3) rfl (nI_inc1 _) (by decide) rfl (fun ls hl => ?_)
        refine lv_goto (tgt := 2) hx hb dX1_search_19 (by decide) ?_
        exact ih_2 (i + 1) (pm_up knx i 0) (by omega) (by omega) (lt_s (fun y hy => by rw [pm_up_n (by omega)]; exact hz0 y hy) pm_up_s) (pm_up_2 hk2x (by decide)) H locs hP hD hS ls (lv_sub hl [1, 2, 3, 0] rfl)
  exact loop_2 257 0 kn (by omega) (by omega) (fun j hj => absurd hj (Nat.not_lt_zero j)) hk2 _ _ hP hD hS ls (lv_sub hl [1, 2, 3, 0] rfl)
end
section
/-! ===== MachineTwinsModel: the questions ===== -/
abbrev rmX1_transition : Room := { frames := 1, cells := 0, slots := 0, locals := 21 }
set_option maxHeartbeats 400000 in
set_option maxRecDepth 100000 in
theorem mX1_transition (l : Launch) (D : va_G) (dA dB : ClassId) (h0 qn qo qp qf qb qk qw sz : Nat) (nx : Nat → Nat) (ou : Nat → Int32) (pa : Nat → Nat) (fr : Nat → Int32) (bb kn : Nat → Nat) (pn : Nat) (wo : Nat → Nat) (x y t : Int32) : cM l yX1_transition (ws_ yX1_transition cX1_transition 6 (some .int)) rmX1_transition D [(dA, .int), (dB, .boolean)] [.ref h0, .int x, .int y, .int t] (mwf h0 qn qo qp qf qb qk qw dA dB (nx, ou, pa, fr, bb, kn, pn, wo)) sz (cQi D [(dA, .int), (dB, .boolean)] (mwf h0 qn qo qp qf qb qk qw dA dB) (fun v u => v = pm_trR nx ou x y ∧ u = (pm_trN nx x y t, pm_trO ou x y t, pa, fr, bb, kn, pn, wo))) := by
  refine cM_start (by decide) (Nat.le_of_ble_eq_true rfl) ?_
  intro p e s m args below meth c A ls Q hx hb hr hlocks hml hown hin hts hA hK hP hD hS hl hQ
  have hown : s.vm.findClass RX1 = some m.cls := hown
  have hl : lv_has ls 6 [(0, .ref h0), (1, .int x), (2, .int y), (3, .int t)] := hl
  refine lv_aload_n hx hb dX1_transition_0 rfl (lv_at hl 0 rfl) ?_
  refine lv_iload_n hx hb dX1_transition_1 rfl (lv_at hl 1 rfl) ?_
  refine cx_E (As := [.int x]) (rest := []) (q0 := 0) (ci := 1) (C := RX1) (T := TX1) (N := 8) ⟨hx, hb, hml, hown, hts⟩ (mX1_isState l D s.heap.size h0 x) (cwV 1 hts (lw_V q158 q160 qs8 q15 q161) rfl rfl rfl (by decide +kernel) ⟨Nat.le_of_ble_eq_true rfl, Nat.le_of_ble_eq_true rfl⟩) hK hP hD hS hA rfl rfl rfl rfl hl.1 (Nat.le_of_ble_eq_true rfl) dX1_transition_2 rfl rfl ⟨Nat.zero_le _, Nat.zero_le _⟩ (fun rv H locs hw hP hD hS => ?_)
  have hw : rv = bI (!pm_bad x) := hw
  subst hw
  refine b_if_ne (tgt := 10) hx hb dX1_transition_5 (by decide) (fun c_5 => ?_) (fun c_5 => ?_)
  · skip
    refine lv_aload_n hx hb dX1_transition_10 rfl (lv_at hl 0 rfl) ?_
    refine lv_iload_n hx hb dX1_transition_11 rfl (lv_at hl 2 rfl) ?_
    refine cx_E (As := [.int y]) (rest := []) (q0 := 0) (ci := 1) (C := RX1) (T := TX1) (N := 8) ⟨hx, hb, hml, hown, hts⟩ (mX1_isInput l D H.size h0 y) (cwV 1 hts (lw_V q162 q164 qs9 q15 q165) rfl rfl rfl (by decide +kernel) ⟨Nat.le_of_ble_eq_true rfl, Nat.le_of_ble_eq_true rfl⟩) hK hP hD hS hA rfl rfl rfl rfl hl.1 (Nat.le_of_ble_eq_true rfl) dX1_transition_12 rfl rfl ⟨Nat.zero_le _, Nat.zero_le _⟩ (fun rv H locs hw hP hD hS => ?_)
    have hw : rv = bI (!pm_bi y) := hw
    subst hw
    refine b_if_ne (tgt := 21) hx hb dX1_transition_15 (by decide) (fun c_15 => ?_) (fun c_15 => ?_)
    · skip
      obtain ⟨ja, hja, rfl⟩ := pm_bad_n (pm_nb_t c_5)
      obtain ⟨jb, hjb, rfl⟩ := pm_bi_n (pm_nb_t c_15)
      refine lv_iload_n hx hb dX1_transition_21 rfl (lv_at hl 1 rfl) ?_
      refine lv_iconst (v := nI 3) hx hb dX1_transition_22 (by decide) ?_
      refine n_imul hx hb dX1_transition_23 ?_
      refine lv_iload_n hx hb dX1_transition_24 rfl (lv_at hl 2 rfl) ?_
      refine n_iadd hx hb dX1_transition_25 ?_
      refine lv_istore (lv' := [(4, .int (nI ((ja * 3) + jb))), (0, .ref h0), (1, .int (nI ja)), (2, .int (nI jb)), (3, .int t)]) hx hb dX1_transition_26 hl (by decide) rfl (fun ls hl => ?_)
      refine lv_aload_n hx hb dX1_transition_28 rfl (lv_at hl 1 rfl) ?_
      refine va_get (D := D) (ci := 1) (v := .ref qn) (C := RX1) (T := TX1) (N := 8) hx hb hts in_X1 hown hK hP 0 rfl rfl 0 (by decide) (hts _ q128) (fun _ h9 => h9) rfl dX1_transition_29 ?_
      refine lv_iload hx hb dX1_transition_32 (lv_at hl 0 rfl) ?_
      refine n_iald (g := nx) (i := (ja * 3) + jb) hx hb hK hP 1 0 rfl rfl (by omega) (by decide) dX1_transition_34 ?_
      refine lv_bipush (v := nI 16) hx hb dX1_transition_35 (by decide) ?_
      refine lv_aload_n hx hb dX1_transition_37 rfl (lv_at hl 1 rfl) ?_
      refine va_get (D := D) (ci := 1) (v := .ref qo) (C := RX1) (T := TX1) (N := 8) hx hb hts in_X1 hown hK hP 0 rfl rfl 1 (by decide) (hts _ q129) (fun _ h9 => h9) rfl dX1_transition_38 ?_
      refine lv_iload hx hb dX1_transition_41 (lv_at hl 0 rfl) ?_
      refine n_iald0 (f := ou) (i := (ja * 3) + jb) hx hb hK hP 2 0 rfl rfl (by omega) (by decide) dX1_transition_43 ?_
      refine lv_imul hx hb dX1_transition_44 ?_
      refine lv_iadd hx hb dX1_transition_45 ?_
      refine lv_istore (lv' := [(5, .int ((nI (nx ((ja * 3) + jb))) + ((nI 16) * (ou ((ja * 3) + jb))))), (4, .int (nI ((ja * 3) + jb))), (0, .ref h0), (1, .int (nI ja)), (2, .int (nI jb)), (3, .int t)]) hx hb dX1_transition_46 hl (by decide) rfl (fun ls hl => ?_)
      refine lv_aload_n hx hb dX1_transition_48 rfl (lv_at hl 2 rfl) ?_
      refine va_get (D := D) (ci := 1) (v := .ref qn) (C := RX1) (T := TX1) (N := 8) hx hb hts in_X1 hown hK hP 0 rfl rfl 0 (by decide) (hts _ q128) (fun _ h9 => h9) rfl dX1_transition_49 ?_
      refine lv_iload hx hb dX1_transition_52 (lv_at hl 1 rfl) ?_
      refine lv_iload_n hx hb dX1_transition_54 rfl (lv_at hl 5 rfl) ?_
      refine lv_bipush (v := nI 15) hx hb dX1_transition_55 (by decide) ?_
      refine lv_iand hx hb dX1_transition_57 ?_
      refine n_top _ (nI ((t).toBitVec.toNat % 16)) (pk_and _ 4 (by decide)) ?_
      refine n_iast (g := nx) hx hb hK hP hD hS 1 0 rfl rfl (by omega) (by decide) dX1_transition_58 (fun H locs hP hD hS => ?_)
      have hP : va_P D vwCl (mwf h0 qn qo qp qf qb qk qw dA dB (pm_up nx ((ja * 3) + jb) ((t).toBitVec.toNat % 16), ou, pa, fr, bb, kn, pn, wo)) H := hP
      have hD : va_D A (mwf h0 qn qo qp qf qb qk qw dA dB (pm_up nx ((ja * 3) + jb) ((t).toBitVec.toNat % 16), ou, pa, fr, bb, kn, pn, wo)) := hD
      refine lv_aload_n hx hb dX1_transition_59 rfl (lv_at hl 2 rfl) ?_
      refine va_get (D := D) (ci := 1) (v := .ref qo) (C := RX1) (T := TX1) (N := 8) hx hb hts in_X1 hown hK hP 0 rfl rfl 1 (by decide) (hts _ q129) (fun _ h9 => h9) rfl dX1_transition_60 ?_
      refine lv_iload hx hb dX1_transition_63 (lv_at hl 1 rfl) ?_
      refine lv_iload_n hx hb dX1_transition_65 rfl (lv_at hl 5 rfl) ?_
      refine lv_iconst (v := nI 4) hx hb dX1_transition_66 (by decide) ?_
      refine lv_ishr hx hb dX1_transition_67 ?_
      refine lv_bipush (v := nI 7) hx hb dX1_transition_68 (by decide) ?_
      refine lv_iand hx hb dX1_transition_70 ?_
      refine n_iast0 (f := ou) hx hb hK hP hD hS 2 0 rfl rfl (by omega) (by decide) dX1_transition_71 (fun H locs hP hD hS => ?_)
      have hP : va_P D vwCl (mwf h0 qn qo qp qf qb qk qw dA dB (pm_up nx ((ja * 3) + jb) ((t).toBitVec.toNat % 16), upd ou ((ja * 3) + jb) (((t >>> (nI 4 &&& 31)) &&& nI 7)), pa, fr, bb, kn, pn, wo)) H := hP
      have hD : va_D A (mwf h0 qn qo qp qf qb qk qw dA dB (pm_up nx ((ja * 3) + jb) ((t).toBitVec.toNat % 16), upd ou ((ja * 3) + jb) (((t >>> (nI 4 &&& 31)) &&& nI 7)), pa, fr, bb, kn, pn, wo)) := hD
      refine lv_iload hx hb dX1_transition_72 (lv_at hl 0 rfl) ?_
      have hq := pm_tr_3 (nx := nx) (ou := ou) (t := t) hja hjb
      exact cx_iret hQ hx hb hr hlocks hK (pm_up nx ((ja * 3) + jb) ((t).toBitVec.toNat % 16), upd ou ((ja * 3) + jb) (((t >>> (nI 4 &&& 31)) &&& nI 7)), pa, fr, bb, kn, pn, wo) hP hD hS dX1_transition_74 ⟨by rw [hq.1], by rw [hq.2.1, hq.2.2]⟩
    · skip
      refine lv_bipush (v := -2) hx hb dX1_transition_18 (by decide) ?_
      have hq := pm_tr_2 (nx := nx) (ou := ou) (t := t) (pm_nb_t c_5) (pm_nb_f c_15)
      exact cx_iret hQ hx hb hr hlocks hK (nx, ou, pa, fr, bb, kn, pn, wo) hP hD hS dX1_transition_20 ⟨by rw [hq.1], by rw [hq.2.1, hq.2.2]⟩
  · skip
    refine lv_iconst (v := -1) hx hb dX1_transition_8 (by decide) ?_
    have hq := pm_tr_1 (nx := nx) (ou := ou) (y := y) (t := t) (pm_nb_f c_5)
    exact cx_iret hQ hx hb hr hlocks hK (nx, ou, pa, fr, bb, kn, pn, wo) hP hD hS dX1_transition_9 ⟨by rw [hq.1], by rw [hq.2.1, hq.2.2]⟩

abbrev rmX1_exchange : Room := { frames := 1, cells := 0, slots := 0, locals := 21 }
set_option maxHeartbeats 400000 in
set_option maxRecDepth 100000 in
theorem mX1_exchange (l : Launch) (D : va_G) (dA dB : ClassId) (h0 qn qo qp qf qb qk qw sz : Nat) (nx : Nat → Nat) (ou : Nat → Int32) (pa : Nat → Nat) (fr : Nat → Int32) (bb kn : Nat → Nat) (pn : Nat) (wo : Nat → Nat) (x y t : Int32) : cM l yX1_exchange (ws_ yX1_exchange cX1_exchange 5 (some .int)) rmX1_exchange D [(dA, .int), (dB, .boolean)] [.ref h0, .int x, .int y, .int t] (mwf h0 qn qo qp qf qb qk qw dA dB (nx, ou, pa, fr, bb, kn, pn, wo)) sz (cQi D [(dA, .int), (dB, .boolean)] (mwf h0 qn qo qp qf qb qk qw dA dB) (fun v u => v = pm_exR x y t ∧ u = (nx, pm_exO ou x y t, pa, fr, bb, kn, pn, wo))) := by
  refine cM_start (by decide) (Nat.le_of_ble_eq_true rfl) ?_
  intro p e s m args below meth c A ls Q hx hb hr hlocks hml hown hin hts hA hK hP hD hS hl hQ
  have hown : s.vm.findClass RX1 = some m.cls := hown
  have hl : lv_has ls 5 [(0, .ref h0), (1, .int x), (2, .int y), (3, .int t)] := hl
  refine lv_aload_n hx hb dX1_exchange_0 rfl (lv_at hl 0 rfl) ?_
  refine lv_iload_n hx hb dX1_exchange_1 rfl (lv_at hl 1 rfl) ?_
  refine cx_E (As := [.int x]) (rest := []) (q0 := 0) (ci := 1) (C := RX1) (T := TX1) (N := 8) ⟨hx, hb, hml, hown, hts⟩ (mX1_isState l D s.heap.size h0 x) (cwV 1 hts (lw_V q158 q160 qs8 q15 q161) rfl rfl rfl (by decide +kernel) ⟨Nat.le_of_ble_eq_true rfl, Nat.le_of_ble_eq_true rfl⟩) hK hP hD hS hA rfl rfl rfl rfl hl.1 (Nat.le_of_ble_eq_true rfl) dX1_exchange_2 rfl rfl ⟨Nat.zero_le _, Nat.zero_le _⟩ (fun rv H locs hw hP hD hS => ?_)
  have hw : rv = bI (!pm_bad x) := hw
  subst hw
  refine b_if_eq (tgt := 16) hx hb dX1_exchange_5 (by decide) (fun c_5 => ?_) (fun c_5 => ?_)
  · skip
    refine lv_iconst (v := -1) hx hb dX1_exchange_16 (by decide) ?_
    have hq := pm_ex_1 (ou := ou) (b := y) (x := t) (Or.inl (pm_nb_f c_5))
    exact cx_iret hQ hx hb hr hlocks hK (nx, ou, pa, fr, bb, kn, pn, wo) hP hD hS dX1_exchange_17 ⟨by rw [hq.1], by rw [hq.2]⟩
  · skip
    refine lv_aload_n hx hb dX1_exchange_8 rfl (lv_at hl 0 rfl) ?_
    refine lv_iload_n hx hb dX1_exchange_9 rfl (lv_at hl 2 rfl) ?_
    refine cx_E (As := [.int y]) (rest := []) (q0 := 0) (ci := 1) (C := RX1) (T := TX1) (N := 8) ⟨hx, hb, hml, hown, hts⟩ (mX1_isState l D H.size h0 y) (cwV 1 hts (lw_V q158 q160 qs8 q15 q161) rfl rfl rfl (by decide +kernel) ⟨Nat.le_of_ble_eq_true rfl, Nat.le_of_ble_eq_true rfl⟩) hK hP hD hS hA rfl rfl rfl rfl hl.1 (Nat.le_of_ble_eq_true rfl) dX1_exchange_10 rfl rfl ⟨Nat.zero_le _, Nat.zero_le _⟩ (fun rv H locs hw hP hD hS => ?_)
    have hw : rv = bI (!pm_bad y) := hw
    subst hw
    refine b_if_ne (tgt := 18) hx hb dX1_exchange_13 (by decide) (fun c_13 => ?_) (fun c_13 => ?_)
    · skip
      refine lv_aload_n hx hb dX1_exchange_18 rfl (lv_at hl 0 rfl) ?_
      refine lv_iload_n hx hb dX1_exchange_19 rfl (lv_at hl 3 rfl) ?_
      refine cx_E (As := [.int t]) (rest := []) (q0 := 0) (ci := 1) (C := RX1) (T := TX1) (N := 8) ⟨hx, hb, hml, hown, hts⟩ (mX1_isInput l D H.size h0 t) (cwV 1 hts (lw_V q162 q164 qs9 q15 q165) rfl rfl rfl (by decide +kernel) ⟨Nat.le_of_ble_eq_true rfl, Nat.le_of_ble_eq_true rfl⟩) hK hP hD hS hA rfl rfl rfl rfl hl.1 (Nat.le_of_ble_eq_true rfl) dX1_exchange_20 rfl rfl ⟨Nat.zero_le _, Nat.zero_le _⟩ (fun rv H locs hw hP hD hS => ?_)
      have hw : rv = bI (!pm_bi t) := hw
      subst hw
      refine b_if_ne (tgt := 29) hx hb dX1_exchange_23 (by decide) (fun c_23 => ?_) (fun c_23 => ?_)
      · skip
        obtain ⟨ja, hja, rfl⟩ := pm_bad_n (pm_nb_t c_5)
        obtain ⟨jb, hjb, rfl⟩ := pm_bad_n (pm_nb_t c_13)
        obtain ⟨jc, hjc, rfl⟩ := pm_bi_n (pm_nb_t c_23)
        refine lv_aload_n hx hb dX1_exchange_29 rfl (lv_at hl 0 rfl) ?_
        refine va_get (D := D) (ci := 1) (v := .ref qo) (C := RX1) (T := TX1) (N := 8) hx hb hts in_X1 hown hK hP 0 rfl rfl 1 (by decide) (hts _ q129) (fun _ h9 => h9) rfl dX1_exchange_30 ?_
        refine lv_iload_n hx hb dX1_exchange_33 rfl (lv_at hl 1 rfl) ?_
        refine lv_iconst (v := nI 3) hx hb dX1_exchange_34 (by decide) ?_
        refine n_imul hx hb dX1_exchange_35 ?_
        refine lv_iload_n hx hb dX1_exchange_36 rfl (lv_at hl 3 rfl) ?_
        refine n_iadd hx hb dX1_exchange_37 ?_
        refine n_iald0 (f := ou) (i := (ja * 3) + jc) hx hb hK hP 2 0 rfl rfl (by omega) (by decide) dX1_exchange_38 ?_
        refine lv_istore (lv' := [(4, .int (ou ((ja * 3) + jc))), (0, .ref h0), (1, .int (nI ja)), (2, .int (nI jb)), (3, .int (nI jc))]) hx hb dX1_exchange_39 hl (by decide) rfl (fun ls hl => ?_)
        refine lv_aload_n hx hb dX1_exchange_41 rfl (lv_at hl 1 rfl) ?_
        refine va_get (D := D) (ci := 1) (v := .ref qo) (C := RX1) (T := TX1) (N := 8) hx hb hts in_X1 hown hK hP 0 rfl rfl 1 (by decide) (hts _ q129) (fun _ h9 => h9) rfl dX1_exchange_42 ?_
        refine lv_iload_n hx hb dX1_exchange_45 rfl (lv_at hl 2 rfl) ?_
        refine lv_iconst (v := nI 3) hx hb dX1_exchange_46 (by decide) ?_
        refine n_imul hx hb dX1_exchange_47 ?_
        refine lv_iload_n hx hb dX1_exchange_48 rfl (lv_at hl 4 rfl) ?_
        refine n_iadd hx hb dX1_exchange_49 ?_
        refine lv_aload_n hx hb dX1_exchange_50 rfl (lv_at hl 1 rfl) ?_
        refine va_get (D := D) (ci := 1) (v := .ref qo) (C := RX1) (T := TX1) (N := 8) hx hb hts in_X1 hown hK hP 0 rfl rfl 1 (by decide) (hts _ q129) (fun _ h9 => h9) rfl dX1_exchange_51 ?_
        refine lv_iload_n hx hb dX1_exchange_54 rfl (lv_at hl 3 rfl) ?_
        refine lv_iconst (v := nI 3) hx hb dX1_exchange_55 (by decide) ?_
        refine n_imul hx hb dX1_exchange_56 ?_
        refine lv_iload_n hx hb dX1_exchange_57 rfl (lv_at hl 4 rfl) ?_
        refine n_iadd hx hb dX1_exchange_58 ?_
        refine n_iald0 (f := ou) (i := (jb * 3) + jc) hx hb hK hP 2 0 rfl rfl (by omega) (by decide) dX1_exchange_59 ?_
        refine n_iast0 (f := ou) hx hb hK hP hD hS 2 0 rfl rfl (by omega) (by decide) dX1_exchange_60 (fun H locs hP hD hS => ?_)
        have hP : va_P D vwCl (mwf h0 qn qo qp qf qb qk qw dA dB (nx, upd ou ((ja * 3) + jc) ((ou ((jb * 3) + jc))), pa, fr, bb, kn, pn, wo)) H := hP
        have hD : va_D A (mwf h0 qn qo qp qf qb qk qw dA dB (nx, upd ou ((ja * 3) + jc) ((ou ((jb * 3) + jc))), pa, fr, bb, kn, pn, wo)) := hD
        refine lv_aload_n hx hb dX1_exchange_61 rfl (lv_at hl 1 rfl) ?_
        refine va_get (D := D) (ci := 1) (v := .ref qo) (C := RX1) (T := TX1) (N := 8) hx hb hts in_X1 hown hK hP 0 rfl rfl 1 (by decide) (hts _ q129) (fun _ h9 => h9) rfl dX1_exchange_62 ?_
        refine lv_iload_n hx hb dX1_exchange_65 rfl (lv_at hl 3 rfl) ?_
        refine lv_iconst (v := nI 3) hx hb dX1_exchange_66 (by decide) ?_
        refine n_imul hx hb dX1_exchange_67 ?_
        refine lv_iload_n hx hb dX1_exchange_68 rfl (lv_at hl 4 rfl) ?_
        refine n_iadd hx hb dX1_exchange_69 ?_
        refine lv_iload hx hb dX1_exchange_70 (lv_at hl 0 rfl) ?_
        refine n_iast0 (f := upd ou ((ja * 3) + jc) ((ou ((jb * 3) + jc)))) hx hb hK hP hD hS 2 0 rfl rfl (by omega) (by decide) dX1_exchange_72 (fun H locs hP hD hS => ?_)
        have hP : va_P D vwCl (mwf h0 qn qo qp qf qb qk qw dA dB (nx, upd (upd ou ((ja * 3) + jc) ((ou ((jb * 3) + jc)))) ((jb * 3) + jc) ((ou ((ja * 3) + jc))), pa, fr, bb, kn, pn, wo)) H := hP
        have hD : va_D A (mwf h0 qn qo qp qf qb qk qw dA dB (nx, upd (upd ou ((ja * 3) + jc) ((ou ((jb * 3) + jc)))) ((jb * 3) + jc) ((ou ((ja * 3) + jc))), pa, fr, bb, kn, pn, wo)) := hD
        refine lv_iconst (v := nI 0) hx hb dX1_exchange_73 (by decide) ?_
        have hq := pm_ex_3 (ou := ou) hja hjb hjc
        exact cx_iret hQ hx hb hr hlocks hK (nx, upd (upd ou ((ja * 3) + jc) ((ou ((jb * 3) + jc)))) ((jb * 3) + jc) ((ou ((ja * 3) + jc))), pa, fr, bb, kn, pn, wo) hP hD hS dX1_exchange_74 ⟨by rw [hq.1]; rfl, by rw [hq.2]⟩
      · skip
        refine lv_bipush (v := -2) hx hb dX1_exchange_26 (by decide) ?_
        have hq := pm_ex_2 (ou := ou) (pm_nb_t c_5) (pm_nb_t c_13) (pm_nb_f c_23)
        exact cx_iret hQ hx hb hr hlocks hK (nx, ou, pa, fr, bb, kn, pn, wo) hP hD hS dX1_exchange_28 ⟨by rw [hq.1], by rw [hq.2]⟩
    · skip
      refine lv_iconst (v := -1) hx hb dX1_exchange_16 (by decide) ?_
      have hq := pm_ex_1 (ou := ou) (a := x) (x := t) (Or.inr (pm_nb_f c_13))
      exact cx_iret hQ hx hb hr hlocks hK (nx, ou, pa, fr, bb, kn, pn, wo) hP hD hS dX1_exchange_17 ⟨by rw [hq.1], by rw [hq.2]⟩

abbrev rmX1_alike : Room := { frames := 2, cells := 0, slots := 0, locals := 50 }
set_option maxHeartbeats 400000 in
set_option maxRecDepth 100000 in
theorem mX1_alike (l : Launch) (D : va_G) (dA dB : ClassId) (h0 qn qo qp qf qb qk qw sz : Nat) (nx : Nat → Nat) (ou : Nat → Int32) (pa : Nat → Nat) (fr : Nat → Int32) (bb kn : Nat → Nat) (pn : Nat) (wo : Nat → Nat) (x y : Int32) (hk2 : ∀ z, kn z < 2) (hnx : ∀ i, nx i < 16) : cM l yX1_alike (ws_ yX1_alike cX1_alike 3 (some .boolean)) rmX1_alike D [(dA, .int), (dB, .boolean)] [.ref h0, .int x, .int y] (mwf h0 qn qo qp qf qb qk qw dA dB (nx, ou, pa, fr, bb, kn, pn, wo)) sz (cQi D [(dA, .int), (dB, .boolean)] (mwf h0 qn qo qp qf qb qk qw dA dB) (fun v u => v = bI (pm_alS nx ou x y) ∧ pm_mq nx ou u)) := by
  refine cM_start (by decide) (Nat.le_of_ble_eq_true rfl) ?_
  intro p e s m args below meth c A ls Q hx hb hr hlocks hml hown hin hts hA hK hP hD hS hl hQ
  have hown : s.vm.findClass RX1 = some m.cls := hown
  have hl : lv_has ls 3 [(0, .ref h0), (1, .int x), (2, .int y)] := hl
  refine lv_aload_n hx hb dX1_alike_0 rfl (lv_at hl 0 rfl) ?_
  refine lv_iload_n hx hb dX1_alike_1 rfl (lv_at hl 1 rfl) ?_
  refine cx_E (As := [.int x]) (rest := []) (q0 := 0) (ci := 1) (C := RX1) (T := TX1) (N := 8) ⟨hx, hb, hml, hown, hts⟩ (mX1_isState l D s.heap.size h0 x) (cwV 1 hts (lw_V q158 q160 qs8 q15 q161) rfl rfl rfl (by decide +kernel) ⟨Nat.le_of_ble_eq_true rfl, Nat.le_of_ble_eq_true rfl⟩) hK hP hD hS hA rfl rfl rfl rfl hl.1 (Nat.le_of_ble_eq_true rfl) dX1_alike_2 rfl rfl ⟨Nat.zero_le _, Nat.zero_le _⟩ (fun rv H locs hw hP hD hS => ?_)
  have hw : rv = bI (!pm_bad x) := hw
  subst hw
  refine b_if_eq (tgt := 29) hx hb dX1_alike_5 (by decide) (fun c_5 => ?_) (fun c_5 => ?_)
  · skip
    refine lv_iconst (v := nI 0) hx hb dX1_alike_29 (by decide) ?_
    exact cx_zret hQ hx hb hr hlocks hK (nx, ou, pa, fr, bb, kn, pn, wo) hP hD hS dX1_alike_30 rfl ⟨by rw [pm_al_1 (Or.inl (pm_nb_f c_5))]; rfl, pm_mq_mk hk2⟩
  · skip
    refine lv_aload_n hx hb dX1_alike_8 rfl (lv_at hl 0 rfl) ?_
    refine lv_iload_n hx hb dX1_alike_9 rfl (lv_at hl 2 rfl) ?_
    refine cx_E (As := [.int y]) (rest := []) (q0 := 0) (ci := 1) (C := RX1) (T := TX1) (N := 8) ⟨hx, hb, hml, hown, hts⟩ (mX1_isState l D H.size h0 y) (cwV 1 hts (lw_V q158 q160 qs8 q15 q161) rfl rfl rfl (by decide +kernel) ⟨Nat.le_of_ble_eq_true rfl, Nat.le_of_ble_eq_true rfl⟩) hK hP hD hS hA rfl rfl rfl rfl hl.1 (Nat.le_of_ble_eq_true rfl) dX1_alike_10 rfl rfl ⟨Nat.zero_le _, Nat.zero_le _⟩ (fun rv H locs hw hP hD hS => ?_)
    have hw : rv = bI (!pm_bad y) := hw
    subst hw
    refine b_if_eq (tgt := 29) hx hb dX1_alike_13 (by decide) (fun c_13 => ?_) (fun c_13 => ?_)
    · skip
      refine lv_iconst (v := nI 0) hx hb dX1_alike_29 (by decide) ?_
      exact cx_zret hQ hx hb hr hlocks hK (nx, ou, pa, fr, bb, kn, pn, wo) hP hD hS dX1_alike_30 rfl ⟨by rw [pm_al_1 (Or.inr (pm_nb_f c_13))]; rfl, pm_mq_mk hk2⟩
    · skip
      obtain ⟨ja, hja, rfl⟩ := pm_bad_n (pm_nb_t c_5)
      obtain ⟨jb, hjb, rfl⟩ := pm_bad_n (pm_nb_t c_13)
      refine lv_aload_n hx hb dX1_alike_16 rfl (lv_at hl 0 rfl) ?_
      refine lv_iload_n hx hb dX1_alike_17 rfl (lv_at hl 1 rfl) ?_
      refine lv_iload_n hx hb dX1_alike_18 rfl (lv_at hl 2 rfl) ?_
      refine cx_V (As := [.int (nI ja), .int (nI jb)]) (rest := []) (q0 := 0) (ci := 1) (C := RX1) (T := TX1) (N := 8) ⟨hx, hb, hml, hown, hts⟩ (mX1_search l D dA dB h0 qn qo qp qf qb qk qw H.size nx ou pa fr bb kn pn wo ja jb (by omega) (by omega) hk2 hnx) (cwV 2 hts (lw_V q174 q176 qs10 q15 q177) rfl rfl rfl (by decide +kernel) ⟨Nat.le_of_ble_eq_true rfl, Nat.le_of_ble_eq_true rfl⟩) hK hP hD hS hA rfl rfl rfl rfl hl.1 (Nat.le_of_ble_eq_true rfl) dX1_alike_19 rfl rfl ⟨Nat.zero_le _, Nat.zero_le _⟩ (fun rv uv H locs hw hP hD hS => ?_)
      obtain ⟨rfl, pa1, fr1, bb1, kn1, pn1, wo1, rfl, hk21, hwo1⟩ := hw
      have hds := pm_ds_16 nx ou ja jb
      generalize hL : pm_ds nx ou ja jb = L at hwo1 hds ⊢
      refine n_if_ne (tgt := 29) hx hb dX1_alike_22 (by decide) (by omega) (fun c_22 => ?_) (fun c_22 => ?_)
      · skip
        refine lv_iconst (v := nI 0) hx hb dX1_alike_29 (by decide) ?_
        exact cx_zret hQ hx hb hr hlocks hK (nx, ou, pa1, fr1, bb1, kn1, pn1, wo1) hP hD hS dX1_alike_30 rfl ⟨by rw [pm_al_2 hja hjb, hL, decide_eq_false c_22]; rfl, pm_mq_mk hk21⟩
      · skip
        refine lv_iconst (v := nI 1) hx hb dX1_alike_25 (by decide) ?_
        refine lv_goto (tgt := 30) hx hb dX1_alike_26 (by decide) ?_
        exact cx_zret hQ hx hb hr hlocks hK (nx, ou, pa1, fr1, bb1, kn1, pn1, wo1) hP hD hS dX1_alike_30 rfl ⟨by rw [pm_al_2 hja hjb, hL, decide_eq_true c_22]; rfl, pm_mq_mk hk21⟩

abbrev rmX1_distance : Room := { frames := 2, cells := 0, slots := 0, locals := 50 }
set_option maxHeartbeats 400000 in
set_option maxRecDepth 100000 in
theorem mX1_distance (l : Launch) (D : va_G) (dA dB : ClassId) (h0 qn qo qp qf qb qk qw sz : Nat) (nx : Nat → Nat) (ou : Nat → Int32) (pa : Nat → Nat) (fr : Nat → Int32) (bb kn : Nat → Nat) (pn : Nat) (wo : Nat → Nat) (x y : Int32) (hk2 : ∀ z, kn z < 2) (hnx : ∀ i, nx i < 16) : cM l yX1_distance (ws_ yX1_distance cX1_distance 4 (some .int)) rmX1_distance D [(dA, .int), (dB, .boolean)] [.ref h0, .int x, .int y] (mwf h0 qn qo qp qf qb qk qw dA dB (nx, ou, pa, fr, bb, kn, pn, wo)) sz (cQi D [(dA, .int), (dB, .boolean)] (mwf h0 qn qo qp qf qb qk qw dA dB) (fun v u => v = pm_diS nx ou x y ∧ pm_mq nx ou u)) := by
  refine cM_start (by decide) (Nat.le_of_ble_eq_true rfl) ?_
  intro p e s m args below meth c A ls Q hx hb hr hlocks hml hown hin hts hA hK hP hD hS hl hQ
  have hown : s.vm.findClass RX1 = some m.cls := hown
  have hl : lv_has ls 4 [(0, .ref h0), (1, .int x), (2, .int y)] := hl
  refine lv_aload_n hx hb dX1_distance_0 rfl (lv_at hl 0 rfl) ?_
  refine lv_iload_n hx hb dX1_distance_1 rfl (lv_at hl 1 rfl) ?_
  refine cx_E (As := [.int x]) (rest := []) (q0 := 0) (ci := 1) (C := RX1) (T := TX1) (N := 8) ⟨hx, hb, hml, hown, hts⟩ (mX1_isState l D s.heap.size h0 x) (cwV 1 hts (lw_V q158 q160 qs8 q15 q161) rfl rfl rfl (by decide +kernel) ⟨Nat.le_of_ble_eq_true rfl, Nat.le_of_ble_eq_true rfl⟩) hK hP hD hS hA rfl rfl rfl rfl hl.1 (Nat.le_of_ble_eq_true rfl) dX1_distance_2 rfl rfl ⟨Nat.zero_le _, Nat.zero_le _⟩ (fun rv H locs hw hP hD hS => ?_)
  have hw : rv = bI (!pm_bad x) := hw
  subst hw
  refine b_if_eq (tgt := 16) hx hb dX1_distance_5 (by decide) (fun c_5 => ?_) (fun c_5 => ?_)
  · skip
    refine lv_iconst (v := -1) hx hb dX1_distance_16 (by decide) ?_
    exact cx_iret hQ hx hb hr hlocks hK (nx, ou, pa, fr, bb, kn, pn, wo) hP hD hS dX1_distance_17 ⟨by rw [pm_di_1 (Or.inl (pm_nb_f c_5))], pm_mq_mk hk2⟩
  · skip
    refine lv_aload_n hx hb dX1_distance_8 rfl (lv_at hl 0 rfl) ?_
    refine lv_iload_n hx hb dX1_distance_9 rfl (lv_at hl 2 rfl) ?_
    refine cx_E (As := [.int y]) (rest := []) (q0 := 0) (ci := 1) (C := RX1) (T := TX1) (N := 8) ⟨hx, hb, hml, hown, hts⟩ (mX1_isState l D H.size h0 y) (cwV 1 hts (lw_V q158 q160 qs8 q15 q161) rfl rfl rfl (by decide +kernel) ⟨Nat.le_of_ble_eq_true rfl, Nat.le_of_ble_eq_true rfl⟩) hK hP hD hS hA rfl rfl rfl rfl hl.1 (Nat.le_of_ble_eq_true rfl) dX1_distance_10 rfl rfl ⟨Nat.zero_le _, Nat.zero_le _⟩ (fun rv H locs hw hP hD hS => ?_)
    have hw : rv = bI (!pm_bad y) := hw
    subst hw
    refine b_if_ne (tgt := 18) hx hb dX1_distance_13 (by decide) (fun c_13 => ?_) (fun c_13 => ?_)
    · skip
      obtain ⟨ja, hja, rfl⟩ := pm_bad_n (pm_nb_t c_5)
      obtain ⟨jb, hjb, rfl⟩ := pm_bad_n (pm_nb_t c_13)
      refine lv_aload_n hx hb dX1_distance_18 rfl (lv_at hl 0 rfl) ?_
      refine lv_iload_n hx hb dX1_distance_19 rfl (lv_at hl 1 rfl) ?_
      refine lv_iload_n hx hb dX1_distance_20 rfl (lv_at hl 2 rfl) ?_
      refine cx_V (As := [.int (nI ja), .int (nI jb)]) (rest := []) (q0 := 0) (ci := 1) (C := RX1) (T := TX1) (N := 8) ⟨hx, hb, hml, hown, hts⟩ (mX1_search l D dA dB h0 qn qo qp qf qb qk qw H.size nx ou pa fr bb kn pn wo ja jb (by omega) (by omega) hk2 hnx) (cwV 2 hts (lw_V q174 q176 qs10 q15 q177) rfl rfl rfl (by decide +kernel) ⟨Nat.le_of_ble_eq_true rfl, Nat.le_of_ble_eq_true rfl⟩) hK hP hD hS hA rfl rfl rfl rfl hl.1 (Nat.le_of_ble_eq_true rfl) dX1_distance_21 rfl rfl ⟨Nat.zero_le _, Nat.zero_le _⟩ (fun rv uv H locs hw hP hD hS => ?_)
      obtain ⟨rfl, pa1, fr1, bb1, kn1, pn1, wo1, rfl, hk21, hwo1⟩ := hw
      have hds := pm_ds_16 nx ou ja jb
      generalize hL : pm_ds nx ou ja jb = L at hwo1 hds ⊢
      refine lv_istore_n (lv' := [(3, .int (nI L)), (0, .ref h0), (1, .int (nI ja)), (2, .int (nI jb))]) hx hb dX1_distance_24 rfl hl (by decide) rfl (fun ls hl => ?_)
      refine lv_iload_n hx hb dX1_distance_25 rfl (lv_at hl 0 rfl) ?_
      refine n_if_ne (tgt := 34) hx hb dX1_distance_26 (by decide) (by omega) (fun c_26 => ?_) (fun c_26 => ?_)
      · skip
        refine lv_iload_n hx hb dX1_distance_34 rfl (lv_at hl 0 rfl) ?_
        exact cx_iret hQ hx hb hr hlocks hK (nx, ou, pa1, fr1, bb1, kn1, pn1, wo1) hP hD hS dX1_distance_35 ⟨by rw [pm_di_2 hja hjb, hL, if_neg c_26], pm_mq_mk hk21⟩
      · skip
        refine lv_bipush (v := -4) hx hb dX1_distance_29 (by decide) ?_
        refine lv_goto (tgt := 35) hx hb dX1_distance_31 (by decide) ?_
        exact cx_iret hQ hx hb hr hlocks hK (nx, ou, pa1, fr1, bb1, kn1, pn1, wo1) hP hD hS dX1_distance_35 ⟨by rw [pm_di_2 hja hjb, hL, if_pos c_26], pm_mq_mk hk21⟩
    · skip
      refine lv_iconst (v := -1) hx hb dX1_distance_16 (by decide) ?_
      exact cx_iret hQ hx hb hr hlocks hK (nx, ou, pa, fr, bb, kn, pn, wo) hP hD hS dX1_distance_17 ⟨by rw [pm_di_1 (Or.inr (pm_nb_f c_13))], pm_mq_mk hk2⟩

abbrev rmX1_teller : Room := { frames := 2, cells := 0, slots := 0, locals := 50 }
set_option maxHeartbeats 400000 in
set_option maxRecDepth 100000 in
theorem mX1_teller (l : Launch) (D : va_G) (dA dB : ClassId) (h0 qn qo qp qf qb qk qw sz : Nat) (nx : Nat → Nat) (ou : Nat → Int32) (pa : Nat → Nat) (fr : Nat → Int32) (bb kn : Nat → Nat) (pn : Nat) (wo : Nat → Nat) (x y z : Int32) (hk2 : ∀ z, kn z < 2) (hnx : ∀ i, nx i < 16) : cM l yX1_teller (ws_ yX1_teller cX1_teller 5 (some .int)) rmX1_teller D [(dA, .int), (dB, .boolean)] [.ref h0, .int x, .int y, .int z] (mwf h0 qn qo qp qf qb qk qw dA dB (nx, ou, pa, fr, bb, kn, pn, wo)) sz (cQi D [(dA, .int), (dB, .boolean)] (mwf h0 qn qo qp qf qb qk qw dA dB) (fun v u => v = pm_teS nx ou x y z ∧ pm_mq nx ou u)) := by
  refine cM_start (by decide) (Nat.le_of_ble_eq_true rfl) ?_
  intro p e s m args below meth c A ls Q hx hb hr hlocks hml hown hin hts hA hK hP hD hS hl hQ
  have hown : s.vm.findClass RX1 = some m.cls := hown
  have hl : lv_has ls 5 [(0, .ref h0), (1, .int x), (2, .int y), (3, .int z)] := hl
  refine lv_aload_n hx hb dX1_teller_0 rfl (lv_at hl 0 rfl) ?_
  refine lv_iload_n hx hb dX1_teller_1 rfl (lv_at hl 1 rfl) ?_
  refine cx_E (As := [.int x]) (rest := []) (q0 := 0) (ci := 1) (C := RX1) (T := TX1) (N := 8) ⟨hx, hb, hml, hown, hts⟩ (mX1_isState l D s.heap.size h0 x) (cwV 1 hts (lw_V q158 q160 qs8 q15 q161) rfl rfl rfl (by decide +kernel) ⟨Nat.le_of_ble_eq_true rfl, Nat.le_of_ble_eq_true rfl⟩) hK hP hD hS hA rfl rfl rfl rfl hl.1 (Nat.le_of_ble_eq_true rfl) dX1_teller_2 rfl rfl ⟨Nat.zero_le _, Nat.zero_le _⟩ (fun rv H locs hw hP hD hS => ?_)
  have hw : rv = bI (!pm_bad x) := hw
  subst hw
  refine b_if_eq (tgt := 16) hx hb dX1_teller_5 (by decide) (fun c_5 => ?_) (fun c_5 => ?_)
  · skip
    refine lv_iconst (v := -1) hx hb dX1_teller_16 (by decide) ?_
    exact cx_iret hQ hx hb hr hlocks hK (nx, ou, pa, fr, bb, kn, pn, wo) hP hD hS dX1_teller_17 ⟨by rw [pm_te_1 (Or.inl (pm_nb_f c_5))], pm_mq_mk hk2⟩
  · skip
    refine lv_aload_n hx hb dX1_teller_8 rfl (lv_at hl 0 rfl) ?_
    refine lv_iload_n hx hb dX1_teller_9 rfl (lv_at hl 2 rfl) ?_
    refine cx_E (As := [.int y]) (rest := []) (q0 := 0) (ci := 1) (C := RX1) (T := TX1) (N := 8) ⟨hx, hb, hml, hown, hts⟩ (mX1_isState l D H.size h0 y) (cwV 1 hts (lw_V q158 q160 qs8 q15 q161) rfl rfl rfl (by decide +kernel) ⟨Nat.le_of_ble_eq_true rfl, Nat.le_of_ble_eq_true rfl⟩) hK hP hD hS hA rfl rfl rfl rfl hl.1 (Nat.le_of_ble_eq_true rfl) dX1_teller_10 rfl rfl ⟨Nat.zero_le _, Nat.zero_le _⟩ (fun rv H locs hw hP hD hS => ?_)
    have hw : rv = bI (!pm_bad y) := hw
    subst hw
    refine b_if_ne (tgt := 18) hx hb dX1_teller_13 (by decide) (fun c_13 => ?_) (fun c_13 => ?_)
    · skip
      obtain ⟨ja, hja, rfl⟩ := pm_bad_n (pm_nb_t c_5)
      obtain ⟨jb, hjb, rfl⟩ := pm_bad_n (pm_nb_t c_13)
      refine lv_aload_n hx hb dX1_teller_18 rfl (lv_at hl 0 rfl) ?_
      refine lv_iload_n hx hb dX1_teller_19 rfl (lv_at hl 1 rfl) ?_
      refine lv_iload_n hx hb dX1_teller_20 rfl (lv_at hl 2 rfl) ?_
      refine cx_V (As := [.int (nI ja), .int (nI jb)]) (rest := []) (q0 := 0) (ci := 1) (C := RX1) (T := TX1) (N := 8) ⟨hx, hb, hml, hown, hts⟩ (mX1_search l D dA dB h0 qn qo qp qf qb qk qw H.size nx ou pa fr bb kn pn wo ja jb (by omega) (by omega) hk2 hnx) (cwV 2 hts (lw_V q174 q176 qs10 q15 q177) rfl rfl rfl (by decide +kernel) ⟨Nat.le_of_ble_eq_true rfl, Nat.le_of_ble_eq_true rfl⟩) hK hP hD hS hA rfl rfl rfl rfl hl.1 (Nat.le_of_ble_eq_true rfl) dX1_teller_21 rfl rfl ⟨Nat.zero_le _, Nat.zero_le _⟩ (fun rv uv H locs hw hP hD hS => ?_)
      obtain ⟨rfl, pa1, fr1, bb1, kn1, pn1, wo1, rfl, hk21, hwo1⟩ := hw
      have hds := pm_ds_16 nx ou ja jb
      generalize hL : pm_ds nx ou ja jb = L at hwo1 hds ⊢
      refine lv_istore (lv' := [(4, .int (nI L)), (0, .ref h0), (1, .int (nI ja)), (2, .int (nI jb)), (3, .int z)]) hx hb dX1_teller_24 hl (by decide) rfl (fun ls hl => ?_)
      refine lv_iload_n hx hb dX1_teller_26 rfl (lv_at hl 4 rfl) ?_
      refine lv_if_lt (tgt := 50) hx hb dX1_teller_27 (by decide) (fun c_27 => ?_) (fun c_27 => ?_)
      · skip
        refine lv_bipush (v := -4) hx hb dX1_teller_50 (by decide) ?_
        exact cx_iret hQ hx hb hr hlocks hK (nx, ou, pa1, fr1, bb1, kn1, pn1, wo1) hP hD hS dX1_teller_52 ⟨by rw [pm_te_2 hja hjb (Or.inl c_27)], pm_mq_mk hk21⟩
      · skip
        refine lv_iload_n hx hb dX1_teller_30 rfl (lv_at hl 4 rfl) ?_
        refine lv_iload hx hb dX1_teller_31 (lv_at hl 0 rfl) ?_
        refine lv_icmp_ge (tgt := 50) hx hb dX1_teller_33 (by decide) (fun c_33 => ?_) (fun c_33 => ?_)
        · skip
          refine lv_bipush (v := -4) hx hb dX1_teller_50 (by decide) ?_
          exact cx_iret hQ hx hb hr hlocks hK (nx, ou, pa1, fr1, bb1, kn1, pn1, wo1) hP hD hS dX1_teller_52 ⟨by rw [pm_te_2 hja hjb (Or.inr (fun h => (fa_of_lt h).2.1 (by rw [hL]; exact c_33)))], pm_mq_mk hk21⟩
        · skip
          obtain ⟨jz, hjz, rfl⟩ := pm_n_ix (by omega) c_27 (fa_of_nle c_33)
          refine lv_aload_n hx hb dX1_teller_36 rfl (lv_at hl 1 rfl) ?_
          refine va_get (D := D) (ci := 1) (v := .ref qw) (C := RX1) (T := TX1) (N := 8) hx hb hts in_X1 hown hK hP 0 rfl rfl 7 (by decide) (hts _ q135) (fun _ h9 => h9) rfl dX1_teller_37 ?_
          refine lv_iload hx hb dX1_teller_40 (lv_at hl 0 rfl) ?_
          refine lv_iconst (v := nI 1) hx hb dX1_teller_42 (by decide) ?_
          refine n_isub hx hb (by omega) dX1_teller_43 ?_
          refine lv_iload_n hx hb dX1_teller_44 rfl (lv_at hl 4 rfl) ?_
          refine n_isub hx hb (by omega) dX1_teller_45 ?_
          refine n_iald (g := wo1) (i := (L - 1) - jz) hx hb hK hP 7 0 rfl rfl (by omega) (by decide) dX1_teller_46 ?_
          refine lv_goto (tgt := 52) hx hb dX1_teller_47 (by decide) ?_
          exact cx_iret hQ hx hb hr hlocks hK (nx, ou, pa1, fr1, bb1, kn1, pn1, wo1) hP hD hS dX1_teller_52 ⟨by rw [pm_te_3 hja hjb (by rw [hL]; exact hjz) (by rw [hL]; omega), hL, hwo1 jz hjz], pm_mq_mk hk21⟩
    · skip
      refine lv_iconst (v := -1) hx hb dX1_teller_16 (by decide) ?_
      exact cx_iret hQ hx hb hr hlocks hK (nx, ou, pa, fr, bb, kn, pn, wo) hP hD hS dX1_teller_17 ⟨by rw [pm_te_1 (Or.inr (pm_nb_f c_13))], pm_mq_mk hk2⟩

abbrev rmX1_kind : Room := { frames := 3, cells := 0, slots := 0, locals := 72 }
set_option maxHeartbeats 400000 in
set_option maxRecDepth 100000 in
theorem mX1_kind (l : Launch) (D : va_G) (dA dB : ClassId) (h0 qn qo qp qf qb qk qw sz : Nat) (nx : Nat → Nat) (ou : Nat → Int32) (pa : Nat → Nat) (fr : Nat → Int32) (bb kn : Nat → Nat) (pn : Nat) (wo : Nat → Nat) (x : Int32) (hk2 : ∀ z, kn z < 2) (hnx : ∀ i, nx i < 16) : cM l yX1_kind (ws_ yX1_kind cX1_kind 3 (some .int)) rmX1_kind D [(dA, .int), (dB, .boolean)] [.ref h0, .int x] (mwf h0 qn qo qp qf qb qk qw dA dB (nx, ou, pa, fr, bb, kn, pn, wo)) sz (cQi D [(dA, .int), (dB, .boolean)] (mwf h0 qn qo qp qf qb qk qw dA dB) (fun v u => v = pm_kiS nx ou x ∧ pm_mq nx ou u)) := by
  refine cM_start (by decide) (Nat.le_of_ble_eq_true rfl) ?_
  intro p e s m args below meth c A ls Q hx hb hr hlocks hml hown hin hts hA hK hP hD hS hl hQ
  have hown : s.vm.findClass RX1 = some m.cls := hown
  have hl : lv_has ls 3 [(0, .ref h0), (1, .int x)] := hl
  refine lv_aload_n hx hb dX1_kind_0 rfl (lv_at hl 0 rfl) ?_
  refine lv_iload_n hx hb dX1_kind_1 rfl (lv_at hl 1 rfl) ?_
  refine cx_E (As := [.int x]) (rest := []) (q0 := 0) (ci := 1) (C := RX1) (T := TX1) (N := 8) ⟨hx, hb, hml, hown, hts⟩ (mX1_isState l D s.heap.size h0 x) (cwV 1 hts (lw_V q158 q160 qs8 q15 q161) rfl rfl rfl (by decide +kernel) ⟨Nat.le_of_ble_eq_true rfl, Nat.le_of_ble_eq_true rfl⟩) hK hP hD hS hA rfl rfl rfl rfl hl.1 (Nat.le_of_ble_eq_true rfl) dX1_kind_2 rfl rfl ⟨Nat.zero_le _, Nat.zero_le _⟩ (fun rv H locs hw hP hD hS => ?_)
  have hw : rv = bI (!pm_bad x) := hw
  subst hw
  refine b_if_ne (tgt := 10) hx hb dX1_kind_5 (by decide) (fun c_5 => ?_) (fun c_5 => ?_)
  · skip
    obtain ⟨ja, hja, rfl⟩ := pm_bad_n (pm_nb_t c_5)
    refine lv_iconst (v := nI 0) hx hb dX1_kind_10 (by decide) ?_
    refine lv_istore_n (lv' := [(2, .int (nI 0)), (0, .ref h0), (1, .int (nI ja))]) hx hb dX1_kind_11 rfl hl (by decide) rfl (fun ls hl => ?_)
    have loop_12 : ∀ (n : Nat) (t : Nat) (pax : Nat → Nat) (frx : Nat → Int32) (bbx : Nat → Nat) (knx : Nat → Nat) (pnx : Nat) (wox : Nat → Nat), t ≤ ja → ja + 1 ≤ t + n → (∀ j, j < t → decide (pm_ds nx ou j ja = 0) = false) → (∀ z, knx z < 2) → ∀ (H : Heap) (locs : List Loc), va_P D vwCl (mwf h0 qn qo qp qf qb qk qw dA dB (nx, ou, pax, frx, bbx, knx, pnx, wox)) H → va_D A (mwf h0 qn qo qp qf qb qk qw dA dB (nx, ou, pax, frx, bbx, knx, pnx, wox)) → va_S A s.heap H locs → ∀ (ls : Array Slot), lv_has ls 3 [(0, .ref h0), (1, .int (nI ja)), (2, .int (nI t))] → W p l e rmX1_kind s m args below meth c H locs 0 0 Q (F0 m 12 ls []) := by
      intro n
      induction n with
      | zero =>
        intro t pax frx bbx knx pnx wox ht hf htg hk2x
        exact absurd hf (by omega)
      | succ n ih_12 =>
        intro t pax frx bbx knx pnx wox ht hf htg hk2x H locs hP hD hS ls hl
        refine lv_iload_n hx hb dX1_kind_12 rfl (lv_at hl 2 rfl) ?_
        refine lv_iload_n hx hb dX1_kind_13 rfl (lv_at hl 1 rfl) ?_
        refine n_icmp_ge (tgt := 32) hx hb dX1_kind_14 (by decide) (by omega) (by omega) (fun c_14 => ?_) (fun c_14 => ?_)
        · skip
          refine lv_iload_n hx hb dX1_kind_32 rfl (lv_at hl 2 rfl) ?_
          have hkd : pm_kd nx ou ja = t := pm_first_eq (by omega) htg (fun q => absurd q (by omega))
          exact cx_iret hQ hx hb hr hlocks hK (nx, ou, pax, frx, bbx, knx, pnx, wox) hP hD hS dX1_kind_33 ⟨by rw [pm_ki_2 hja, hkd], pm_mq_mk hk2x⟩
        · skip
          refine lv_aload_n hx hb dX1_kind_17 rfl (lv_at hl 0 rfl) ?_
          refine lv_iload_n hx hb dX1_kind_18 rfl (lv_at hl 2 rfl) ?_
          refine lv_iload_n hx hb dX1_kind_19 rfl (lv_at hl 1 rfl) ?_
          refine cx_V (As := [.int (nI t), .int (nI ja)]) (rest := []) (q0 := 0) (ci := 1) (C := RX1) (T := TX1) (N := 8) ⟨hx, hb, hml, hown, hts⟩ (mX1_alike l D dA dB h0 qn qo qp qf qb qk qw H.size nx ou pax frx bbx knx pnx wox (nI t) (nI ja) hk2x hnx) (cwV 2 hts (lw_V q198 q171 q172 q15 q173) rfl rfl rfl (by decide +kernel) ⟨Nat.le_of_ble_eq_true rfl, Nat.le_of_ble_eq_true rfl⟩) hK hP hD hS hA rfl rfl rfl rfl hl.1 (Nat.le_of_ble_eq_true rfl) dX1_kind_20 rfl rfl ⟨Nat.zero_le _, Nat.zero_le _⟩ (fun rv uv H locs hw hP hD hS => ?_)
          obtain ⟨rfl, pa1, fr1, bb1, kn1, pn1, wo1, rfl, hk21⟩ := hw
          rw [pm_al_2 (show t < 16 by omega) (show ja < 16 by omega)]
          refine b_if_ne (tgt := 32) hx hb dX1_kind_23 (by decide) (fun c_23 => ?_) (fun c_23 => ?_)
          · skip
            refine lv_iload_n hx hb dX1_kind_32 rfl (lv_at hl 2 rfl) ?_
            have hkd : pm_kd nx ou ja = t := pm_first_eq (by omega) htg (fun _ => c_23)
            exact cx_iret hQ hx hb hr hlocks hK (nx, ou, pa1, fr1, bb1, kn1, pn1, wo1) hP hD hS dX1_kind_33 ⟨by rw [pm_ki_2 hja, hkd], pm_mq_mk hk21⟩
          · skip
            refine lv_iinc (v := nI (t + 1)) (lv' := [(2, .int (nI (t + 1))), (0, .ref h0), (1, .int (nI ja))]) hx hb dX1_kind_26 hl (k := 2) rfl (nI_inc1 _) (by decide) rfl (fun ls hl => ?_)
            refine lv_goto (tgt := 12) hx hb dX1_kind_29 (by decide) ?_
            exact ih_12 (t + 1) pa1 fr1 bb1 kn1 pn1 wo1 (by omega) (by omega) (lt_s htg c_23) hk21 H locs hP hD hS ls (lv_sub hl [1, 2, 0] rfl)
    exact loop_12 (ja + 1) 0 pa fr bb kn pn wo (by omega) (by omega) (fun j hj => absurd hj (Nat.not_lt_zero j)) hk2 _ _ hP hD hS ls (lv_sub hl [1, 2, 0] rfl)
  · skip
    refine lv_iconst (v := -1) hx hb dX1_kind_8 (by decide) ?_
    exact cx_iret hQ hx hb hr hlocks hK (nx, ou, pa, fr, bb, kn, pn, wo) hP hD hS dX1_kind_9 ⟨by rw [pm_ki_1 (pm_nb_f c_5)], pm_mq_mk hk2⟩

abbrev rmX1_kinds : Room := { frames := 4, cells := 0, slots := 0, locals := 94 }
set_option maxHeartbeats 400000 in
set_option maxRecDepth 100000 in
theorem mX1_kinds (l : Launch) (D : va_G) (dA dB : ClassId) (h0 qn qo qp qf qb qk qw sz : Nat) (nx : Nat → Nat) (ou : Nat → Int32) (pa : Nat → Nat) (fr : Nat → Int32) (bb kn : Nat → Nat) (pn : Nat) (wo : Nat → Nat) (hk2 : ∀ z, kn z < 2) (hnx : ∀ i, nx i < 16) : cM l yX1_kinds (ws_ yX1_kinds cX1_kinds 3 (some .int)) rmX1_kinds D [(dA, .int), (dB, .boolean)] [.ref h0] (mwf h0 qn qo qp qf qb qk qw dA dB (nx, ou, pa, fr, bb, kn, pn, wo)) sz (cQi D [(dA, .int), (dB, .boolean)] (mwf h0 qn qo qp qf qb qk qw dA dB) (fun v u => v = nI (pm_ksS nx ou 16) ∧ pm_mq nx ou u)) := by
  refine cM_start (by decide) (Nat.le_of_ble_eq_true rfl) ?_
  intro p e s m args below meth c A ls Q hx hb hr hlocks hml hown hin hts hA hK hP hD hS hl hQ
  have hown : s.vm.findClass RX1 = some m.cls := hown
  have hl : lv_has ls 3 [(0, .ref h0)] := hl
  refine lv_iconst (v := nI 0) hx hb dX1_kinds_0 (by decide) ?_
  refine lv_istore_n (lv' := [(1, .int (nI 0)), (0, .ref h0)]) hx hb dX1_kinds_1 rfl hl (by decide) rfl (fun ls hl => ?_)
  refine lv_iconst (v := nI 0) hx hb dX1_kinds_2 (by decide) ?_
  refine lv_istore_n (lv' := [(2, .int (nI 0)), (1, .int (nI 0)), (0, .ref h0)]) hx hb dX1_kinds_3 rfl hl (by decide) rfl (fun ls hl => ?_)
  have loop_4 : ∀ (n : Nat) (z : Nat) (cn : Nat) (pax : Nat → Nat) (frx : Nat → Int32) (bbx : Nat → Nat) (knx : Nat → Nat) (pnx : Nat) (wox : Nat → Nat), z ≤ 16 → 16 + 1 ≤ z + n → cn = pm_ksS nx ou z → (∀ z, knx z < 2) → ∀ (H : Heap) (locs : List Loc), va_P D vwCl (mwf h0 qn qo qp qf qb qk qw dA dB (nx, ou, pax, frx, bbx, knx, pnx, wox)) H → va_D A (mwf h0 qn qo qp qf qb qk qw dA dB (nx, ou, pax, frx, bbx, knx, pnx, wox)) → va_S A s.heap H locs → ∀ (ls : Array Slot), lv_has ls 3 [(0, .ref h0), (1, .int (nI cn)), (2, .int (nI z))] → W p l e rmX1_kinds s m args below meth c H locs 0 0 Q (F0 m 4 ls []) := by
    intro n
    induction n with
    | zero =>
      intro z cn pax frx bbx knx pnx wox hz hf hcn hk2x
      exact absurd hf (by omega)
    | succ n ih_4 =>
      intro z cn pax frx bbx knx pnx wox hz hf hcn hk2x H locs hP hD hS ls hl
      refine lv_iload_n hx hb dX1_kinds_4 rfl (lv_at hl 2 rfl) ?_
      refine lv_bipush (v := nI 16) hx hb dX1_kinds_5 (by decide) ?_
      refine n_icmp_ge (tgt := 28) hx hb dX1_kinds_7 (by decide) (by omega) (by omega) (fun c_7 => ?_) (fun c_7 => ?_)
      · skip
        refine lv_iload_n hx hb dX1_kinds_28 rfl (lv_at hl 1 rfl) ?_
        exact cx_iret hQ hx hb hr hlocks hK (nx, ou, pax, frx, bbx, knx, pnx, wox) hP hD hS dX1_kinds_29 ⟨by rw [hcn, show z = 16 by omega], pm_mq_mk hk2x⟩
      · skip
        refine lv_aload_n hx hb dX1_kinds_10 rfl (lv_at hl 0 rfl) ?_
        refine lv_iload_n hx hb dX1_kinds_11 rfl (lv_at hl 2 rfl) ?_
        refine cx_V (As := [.int (nI z)]) (rest := []) (q0 := 0) (ci := 1) (C := RX1) (T := TX1) (N := 8) ⟨hx, hb, hml, hown, hts⟩ (mX1_kind l D dA dB h0 qn qo qp qf qb qk qw H.size nx ou pax frx bbx knx pnx wox (nI z) hk2x hnx) (cwV 1 hts (lw_V q203 q195 q196 q15 q197) rfl rfl rfl (by decide +kernel) ⟨Nat.le_of_ble_eq_true rfl, Nat.le_of_ble_eq_true rfl⟩) hK hP hD hS hA rfl rfl rfl rfl hl.1 (Nat.le_of_ble_eq_true rfl) dX1_kinds_12 rfl rfl ⟨Nat.zero_le _, Nat.zero_le _⟩ (fun rv uv H locs hw hP hD hS => ?_)
        obtain ⟨rfl, pa1, fr1, bb1, kn1, pn1, wo1, rfl, hk21⟩ := hw
        rw [pm_ki_2 (show z < 16 by omega)]
        have hkd := pm_kd_lt (nx := nx) (ou := ou) (s := z)
        refine lv_iload_n hx hb dX1_kinds_15 rfl (lv_at hl 2 rfl) ?_
        refine n_icmp_ne (tgt := 22) hx hb dX1_kinds_16 (by decide) (by omega) (by omega) (fun c_16 => ?_) (fun c_16 => ?_)
        · skip
          refine lv_iinc (v := nI (z + 1)) (lv' := [(2, .int (nI (z + 1))), (0, .ref h0), (1, .int (nI cn))]) hx hb dX1_kinds_22 hl (k := 2) rfl (nI_inc1 _) (by decide) rfl (fun ls hl => ?_)
          refine lv_goto (tgt := 4) hx hb dX1_kinds_25 (by decide) ?_
          exact ih_4 (z + 1) cn pa1 fr1 bb1 kn1 pn1 wo1 (by omega) (by omega) (by rw [pm_ks_s, if_neg c_16]; exact hcn) hk21 H locs hP hD hS ls (lv_sub hl [1, 2, 0] rfl)
        · skip
          refine lv_iinc (v := nI (cn + 1)) (lv' := [(1, .int (nI (cn + 1))), (0, .ref h0), (2, .int (nI z))]) hx hb dX1_kinds_19 hl (k := 1) rfl (nI_inc1 _) (by decide) rfl (fun ls hl => ?_)
          refine lv_iinc (v := nI (z + 1)) (lv' := [(2, .int (nI (z + 1))), (1, .int (nI (cn + 1))), (0, .ref h0)]) hx hb dX1_kinds_22 hl (k := 2) rfl (nI_inc1 _) (by decide) rfl (fun ls hl => ?_)
          refine lv_goto (tgt := 4) hx hb dX1_kinds_25 (by decide) ?_
          exact ih_4 (z + 1) (cn + 1) pa1 fr1 bb1 kn1 pn1 wo1 (by omega) (by omega) (by rw [pm_ks_s, if_pos c_16, hcn]) hk21 H locs hP hD hS ls (lv_sub hl [2, 1, 0] rfl)
  exact loop_4 17 0 0 pa fr bb kn pn wo (by omega) (by omega) rfl hk2 _ _ hP hD hS ls (lv_sub hl [2, 1, 0] rfl)

abbrev rmX1_reachableKinds : Room := { frames := 4, cells := 0, slots := 0, locals := 94 }
set_option maxHeartbeats 400000 in
set_option maxRecDepth 100000 in
theorem mX1_reachableKinds (l : Launch) (D : va_G) (dA dB : ClassId) (h0 qn qo qp qf qb qk qw sz : Nat) (nx : Nat → Nat) (ou : Nat → Int32) (pa : Nat → Nat) (fr : Nat → Int32) (bb kn : Nat → Nat) (pn : Nat) (wo : Nat → Nat) (x : Int32) (hk2 : ∀ z, kn z < 2) (hnx : ∀ i, nx i < 16) : cM l yX1_reachableKinds (ws_ yX1_reachableKinds cX1_reachableKinds 6 (some .int)) rmX1_reachableKinds D [(dA, .int), (dB, .boolean)] [.ref h0, .int x] (mwf h0 qn qo qp qf qb qk qw dA dB (nx, ou, pa, fr, bb, kn, pn, wo)) sz (cQi D [(dA, .int), (dB, .boolean)] (mwf h0 qn qo qp qf qb qk qw dA dB) (fun v u => pm_rkS nx ou x v ∧ pm_mq nx ou u)) := by
  refine cM_start (by decide) (Nat.le_of_ble_eq_true rfl) ?_
  intro p e s m args below meth c A ls Q hx hb hr hlocks hml hown hin hts hA hK hP hD hS hl hQ
  have hown : s.vm.findClass RX1 = some m.cls := hown
  have hl : lv_has ls 6 [(0, .ref h0), (1, .int x)] := hl
  refine lv_aload_n hx hb dX1_reachableKinds_0 rfl (lv_at hl 0 rfl) ?_
  refine lv_iload_n hx hb dX1_reachableKinds_1 rfl (lv_at hl 1 rfl) ?_
  refine cx_E (As := [.int x]) (rest := []) (q0 := 0) (ci := 1) (C := RX1) (T := TX1) (N := 8) ⟨hx, hb, hml, hown, hts⟩ (mX1_isState l D s.heap.size h0 x) (cwV 1 hts (lw_V q158 q160 qs8 q15 q161) rfl rfl rfl (by decide +kernel) ⟨Nat.le_of_ble_eq_true rfl, Nat.le_of_ble_eq_true rfl⟩) hK hP hD hS hA rfl rfl rfl rfl hl.1 (Nat.le_of_ble_eq_true rfl) dX1_reachableKinds_2 rfl rfl ⟨Nat.zero_le _, Nat.zero_le _⟩ (fun rv H locs hw hP hD hS => ?_)
  have hw : rv = bI (!pm_bad x) := hw
  subst hw
  refine b_if_ne (tgt := 10) hx hb dX1_reachableKinds_5 (by decide) (fun c_5 => ?_) (fun c_5 => ?_)
  · skip
    obtain ⟨ja, hja, rfl⟩ := pm_bad_n (pm_nb_t c_5)
    refine lv_iconst (v := nI 1) hx hb dX1_reachableKinds_10 (by decide) ?_
    refine lv_iload_n hx hb dX1_reachableKinds_11 rfl (lv_at hl 1 rfl) ?_
    refine n_ishl1 (y := ja) hx hb (by omega) dX1_reachableKinds_12 ?_
    refine lv_istore_n (lv' := [(2, .int (nI (2 ^ ja))), (0, .ref h0), (1, .int (nI ja))]) hx hb dX1_reachableKinds_13 rfl hl (by decide) rfl (fun ls hl => ?_)
    refine lv_iconst (v := nI 0) hx hb dX1_reachableKinds_14 (by decide) ?_
    refine lv_istore_n (lv' := [(3, .int (nI 0)), (2, .int (nI (2 ^ ja))), (0, .ref h0), (1, .int (nI ja))]) hx hb dX1_reachableKinds_15 rfl hl (by decide) rfl (fun ls hl => ?_)
    have loop_16 : ∀ (n : Nat) (k : Nat) (mm : Nat), k ≤ 16 → 16 + 1 ≤ k + n → pm_mo nx ja mm k → ∀ (H : Heap) (locs : List Loc), va_P D vwCl (mwf h0 qn qo qp qf qb qk qw dA dB (nx, ou, pa, fr, bb, kn, pn, wo)) H → va_D A (mwf h0 qn qo qp qf qb qk qw dA dB (nx, ou, pa, fr, bb, kn, pn, wo)) → va_S A s.heap H locs → ∀ (ls : Array Slot), lv_has ls 6 [(0, .ref h0), (1, .int (nI ja)), (2, .int (nI mm)), (3, .int (nI k))] → W p l e rmX1_reachableKinds s m args below meth c H locs 0 0 Q (F0 m 16 ls []) := by
      intro n
      induction n with
      | zero =>
        intro k mm hk hf hmo
        exact absurd hf (by omega)
      | succ n ih_16 =>
        intro k mm hk hf hmo H locs hP hD hS ls hl
        refine lv_iload_n hx hb dX1_reachableKinds_16 rfl (lv_at hl 3 rfl) ?_
        refine lv_bipush (v := nI 16) hx hb dX1_reachableKinds_17 (by decide) ?_
        refine n_icmp_ge (tgt := 67) hx hb dX1_reachableKinds_19 (by decide) (by omega) (by omega) (fun c_19 => ?_) (fun c_19 => ?_)
        · skip
          refine lv_iconst (v := nI 0) hx hb dX1_reachableKinds_67 (by decide) ?_
          refine lv_istore_n (lv' := [(3, .int (nI 0)), (0, .ref h0), (1, .int (nI ja)), (2, .int (nI mm))]) hx hb dX1_reachableKinds_68 rfl hl (by decide) rfl (fun ls hl => ?_)
          refine lv_iconst (v := nI 0) hx hb dX1_reachableKinds_69 (by decide) ?_
          refine lv_istore (lv' := [(4, .int (nI 0)), (3, .int (nI 0)), (0, .ref h0), (1, .int (nI ja)), (2, .int (nI mm))]) hx hb dX1_reachableKinds_70 hl (by decide) rfl (fun ls hl => ?_)
          have hrm : pm_rm nx ja mm := by rw [show k = 16 by omega] at hmo; exact pm_mo_x hmo
          have hmm := hrm.1
          have loop_72 : ∀ (n : Nat) (z : Nat) (g : Nat) (pax : Nat → Nat) (frx : Nat → Int32) (bbx : Nat → Nat) (knx : Nat → Nat) (pnx : Nat) (wox : Nat → Nat), z ≤ 16 → 16 + 1 ≤ z + n → g = pm_gm (pm_kd nx ou) mm z → (∀ z, knx z < 2) → ∀ (H : Heap) (locs : List Loc), va_P D vwCl (mwf h0 qn qo qp qf qb qk qw dA dB (nx, ou, pax, frx, bbx, knx, pnx, wox)) H → va_D A (mwf h0 qn qo qp qf qb qk qw dA dB (nx, ou, pax, frx, bbx, knx, pnx, wox)) → va_S A s.heap H locs → ∀ (ls : Array Slot), lv_has ls 6 [(0, .ref h0), (1, .int (nI ja)), (2, .int (nI mm)), (3, .int (nI g)), (4, .int (nI z))] → W p l e rmX1_reachableKinds s m args below meth c H locs 0 0 Q (F0 m 72 ls []) := by
            intro n
            induction n with
            | zero =>
              intro z g pax frx bbx knx pnx wox hz hf hg hk2x
              exact absurd hf (by omega)
            | succ n ih_72 =>
              intro z g pax frx bbx knx pnx wox hz hf hg hk2x H locs hP hD hS ls hl
              refine lv_iload hx hb dX1_reachableKinds_72 (lv_at hl 4 rfl) ?_
              refine lv_bipush (v := nI 16) hx hb dX1_reachableKinds_74 (by decide) ?_
              refine n_icmp_ge (tgt := 105) hx hb dX1_reachableKinds_76 (by decide) (by omega) (by omega) (fun c_76 => ?_) (fun c_76 => ?_)
              · skip
                refine lv_iconst (v := nI 0) hx hb dX1_reachableKinds_105 (by decide) ?_
                refine lv_istore (lv' := [(4, .int (nI 0)), (0, .ref h0), (1, .int (nI ja)), (2, .int (nI mm)), (3, .int (nI g))]) hx hb dX1_reachableKinds_106 hl (by decide) rfl (fun ls hl => ?_)
                refine lv_iconst (v := nI 0) hx hb dX1_reachableKinds_108 (by decide) ?_
                refine lv_istore (lv' := [(5, .int (nI 0)), (4, .int (nI 0)), (0, .ref h0), (1, .int (nI ja)), (2, .int (nI mm)), (3, .int (nI g))]) hx hb dX1_reachableKinds_109 hl (by decide) rfl (fun ls hl => ?_)
                have hg16 : g = pm_gm (pm_kd nx ou) mm 16 := by rw [hg, show z = 16 by omega]
                have hglt : g < 65536 := by rw [hg16]; exact pm_gm_lt (fun s hs => Nat.lt_of_le_of_lt pm_kd_lt hs) mm 16 (by omega)
                have loop_111 : ∀ (n : Nat) (q : Nat) (cn : Nat), q ≤ 16 → 16 + 1 ≤ q + n → cn = pm_pc g q → ∀ (ls : Array Slot), lv_has ls 6 [(0, .ref h0), (1, .int (nI ja)), (2, .int (nI mm)), (3, .int (nI g)), (4, .int (nI cn)), (5, .int (nI q))] → W p l e rmX1_reachableKinds s m args below meth c H locs 0 0 Q (F0 m 111 ls []) := by
                  intro n
                  induction n with
                  | zero =>
                    intro q cn hq hfq hcn
                    exact absurd hfq (by omega)
                  | succ n ih_111 =>
                    intro q cn hq hfq hcn ls hl
                    refine lv_iload hx hb dX1_reachableKinds_111 (lv_at hl 5 rfl) ?_
                    refine lv_bipush (v := nI 16) hx hb dX1_reachableKinds_113 (by decide) ?_
                    refine n_icmp_ge (tgt := 135) hx hb dX1_reachableKinds_115 (by decide) (by omega) (by omega) (fun c_115 => ?_) (fun c_115 => ?_)
                    · skip
                      refine lv_iload hx hb dX1_reachableKinds_135 (lv_at hl 4 rfl) ?_
                      exact cx_iret hQ hx hb hr hlocks hK (nx, ou, pax, frx, bbx, knx, pnx, wox) hP hD hS dX1_reachableKinds_137 ⟨Or.inr ⟨ja, mm, hja, rfl, hrm, by rw [hcn, show q = 16 by omega, hg16]⟩, pm_mq_mk hk2x⟩
                    · skip
                      refine lv_iload hx hb dX1_reachableKinds_118 (lv_at hl 4 rfl) ?_
                      refine lv_iload_n hx hb dX1_reachableKinds_120 rfl (lv_at hl 3 rfl) ?_
                      refine lv_iload hx hb dX1_reachableKinds_121 (lv_at hl 5 rfl) ?_
                      refine lv_ishr hx hb dX1_reachableKinds_123 ?_
                      refine lv_iconst (v := nI 1) hx hb dX1_reachableKinds_124 (by decide) ?_
                      refine lv_iand hx hb dX1_reachableKinds_125 ?_
                      refine n_top _ (bI (g.testBit q)) (pm_tb (by omega) (by omega)) ?_
                      refine n_iadd hx hb dX1_reachableKinds_126 ?_
                      refine lv_istore (lv' := [(4, .int (nI (cn + ((g.testBit q).toNat)))), (0, .ref h0), (1, .int (nI ja)), (2, .int (nI mm)), (3, .int (nI g)), (5, .int (nI q))]) hx hb dX1_reachableKinds_127 hl (by decide) rfl (fun ls hl => ?_)
                      refine lv_iinc (v := nI (q + 1)) (lv' := [(5, .int (nI (q + 1))), (4, .int (nI (cn + ((g.testBit q).toNat)))), (0, .ref h0), (1, .int (nI ja)), (2, .int (nI mm)), (3, .int (nI g))]) hx hb dX1_reachableKinds_129 hl (k := 5) rfl (nI_inc1 _) (by decide) rfl (fun ls hl => ?_)
                      refine lv_goto (tgt := 111) hx hb dX1_reachableKinds_132 (by decide) ?_
                      exact ih_111 (q + 1) (cn + (g.testBit q).toNat) (by omega) (by omega) (by rw [pm_pc_s, hcn]) ls (lv_sub hl [2, 3, 4, 5, 1, 0] rfl)
                exact loop_111 17 0 0 (by omega) (by omega) rfl ls (lv_sub hl [2, 3, 4, 5, 1, 0] rfl)
              · skip
                refine lv_iload_n hx hb dX1_reachableKinds_79 rfl (lv_at hl 2 rfl) ?_
                refine lv_iload hx hb dX1_reachableKinds_80 (lv_at hl 4 rfl) ?_
                refine lv_ishr hx hb dX1_reachableKinds_82 ?_
                refine lv_iconst (v := nI 1) hx hb dX1_reachableKinds_83 (by decide) ?_
                refine lv_iand hx hb dX1_reachableKinds_84 ?_
                refine n_top _ (bI (mm.testBit z)) (pm_tb (by omega) (by omega)) ?_
                refine b_if_eq (tgt := 99) hx hb dX1_reachableKinds_85 (by decide) (fun c_85 => ?_) (fun c_85 => ?_)
                · skip
                  refine lv_iinc (v := nI (z + 1)) (lv' := [(4, .int (nI (z + 1))), (0, .ref h0), (1, .int (nI ja)), (2, .int (nI mm)), (3, .int (nI g))]) hx hb dX1_reachableKinds_99 hl (k := 4) rfl (nI_inc1 _) (by decide) rfl (fun ls hl => ?_)
                  refine lv_goto (tgt := 72) hx hb dX1_reachableKinds_102 (by decide) ?_
                  exact ih_72 (z + 1) g pax frx bbx knx pnx wox (by omega) (by omega) (by rw [pm_gm_n c_85]; exact hg) hk2x H locs hP hD hS ls (lv_sub hl [1, 2, 3, 4, 0] rfl)
                · skip
                  refine lv_iload_n hx hb dX1_reachableKinds_88 rfl (lv_at hl 3 rfl) ?_
                  refine lv_iconst (v := nI 1) hx hb dX1_reachableKinds_89 (by decide) ?_
                  refine lv_aload_n hx hb dX1_reachableKinds_90 rfl (lv_at hl 0 rfl) ?_
                  refine lv_iload hx hb dX1_reachableKinds_91 (lv_at hl 4 rfl) ?_
                  refine cx_V (As := [.int (nI z)]) (rest := [.int (nI 1), .int (nI g)]) (q0 := 0) (ci := 1) (C := RX1) (T := TX1) (N := 8) ⟨hx, hb, hml, hown, hts⟩ (mX1_kind l D dA dB h0 qn qo qp qf qb qk qw H.size nx ou pax frx bbx knx pnx wox (nI z) hk2x hnx) (cwV 1 hts (lw_V q203 q195 q196 q15 q197) rfl rfl rfl (by decide +kernel) ⟨Nat.le_of_ble_eq_true rfl, Nat.le_of_ble_eq_true rfl⟩) hK hP hD hS hA rfl rfl rfl rfl hl.1 (Nat.le_of_ble_eq_true rfl) dX1_reachableKinds_93 rfl rfl ⟨Nat.zero_le _, Nat.zero_le _⟩ (fun rv uv H locs hw hP hD hS => ?_)
                  obtain ⟨rfl, pa1, fr1, bb1, kn1, pn1, wo1, rfl, hk21⟩ := hw
                  rw [pm_ki_2 (show z < 16 by omega)]
                  have hkd := pm_kd_lt (nx := nx) (ou := ou) (s := z)
                  refine n_ishl1 (y := pm_kd nx ou z) hx hb (by omega) dX1_reachableKinds_96 ?_
                  refine n_ior hx hb dX1_reachableKinds_97 ?_
                  refine lv_istore_n (lv' := [(3, .int (nI (g ||| (2 ^ (pm_kd nx ou z))))), (0, .ref h0), (1, .int (nI ja)), (2, .int (nI mm)), (4, .int (nI z))]) hx hb dX1_reachableKinds_98 rfl hl (by decide) rfl (fun ls hl => ?_)
                  refine lv_iinc (v := nI (z + 1)) (lv' := [(4, .int (nI (z + 1))), (3, .int (nI (g ||| (2 ^ (pm_kd nx ou z))))), (0, .ref h0), (1, .int (nI ja)), (2, .int (nI mm))]) hx hb dX1_reachableKinds_99 hl (k := 4) rfl (nI_inc1 _) (by decide) rfl (fun ls hl => ?_)
                  refine lv_goto (tgt := 72) hx hb dX1_reachableKinds_102 (by decide) ?_
                  exact ih_72 (z + 1) (g ||| 2 ^ pm_kd nx ou z) pa1 fr1 bb1 kn1 pn1 wo1 (by omega) (by omega) (by rw [pm_gm_y c_85, ← hg]) hk21 H locs hP hD hS ls (lv_sub hl [2, 3, 4, 1, 0] rfl)
          exact loop_72 17 0 0 pa fr bb kn pn wo (by omega) (by omega) rfl hk2 _ _ hP hD hS ls (lv_sub hl [2, 3, 4, 1, 0] rfl)
        · skip
          refine lv_iconst (v := nI 0) hx hb dX1_reachableKinds_22 (by decide) ?_
          refine lv_istore (lv' := [(4, .int (nI 0)), (0, .ref h0), (1, .int (nI ja)), (2, .int (nI mm)), (3, .int (nI k))]) hx hb dX1_reachableKinds_23 hl (by decide) rfl (fun ls hl => ?_)
          have loop_25 : ∀ (n : Nat) (i : Nat) (m2 : Nat), i ≤ 48 → 48 + 1 ≤ i + n → pm_mi nx ja mm m2 i → ∀ (H : Heap) (locs : List Loc), va_P D vwCl (mwf h0 qn qo qp qf qb qk qw dA dB (nx, ou, pa, fr, bb, kn, pn, wo)) H → va_D A (mwf h0 qn qo qp qf qb qk qw dA dB (nx, ou, pa, fr, bb, kn, pn, wo)) → va_S A s.heap H locs → ∀ (ls : Array Slot), lv_has ls 6 [(0, .ref h0), (1, .int (nI ja)), (2, .int (nI m2)), (3, .int (nI k)), (4, .int (nI i))] → W p l e rmX1_reachableKinds s m args below meth c H locs 0 0 Q (F0 m 25 ls []) := by
            intro n
            induction n with
            | zero =>
              intro i m2 hi hfi hmi
              exact absurd hfi (by omega)
            | succ n ih_25 =>
              intro i m2 hi hfi hmi H locs hP hD hS ls hl
              have hm2 := hmi.1.1
              refine lv_iload hx hb dX1_reachableKinds_25 (lv_at hl 4 rfl) ?_
              refine lv_bipush (v := nI 48) hx hb dX1_reachableKinds_27 (by decide) ?_
              refine n_icmp_ge (tgt := 61) hx hb dX1_reachableKinds_29 (by decide) (by omega) (by omega) (fun c_29 => ?_) (fun c_29 => ?_)
              · skip
                refine lv_iinc (v := nI (k + 1)) (lv' := [(3, .int (nI (k + 1))), (0, .ref h0), (1, .int (nI ja)), (2, .int (nI m2)), (4, .int (nI i))]) hx hb dX1_reachableKinds_61 hl (k := 3) rfl (nI_inc1 _) (by decide) rfl (fun ls hl => ?_)
                refine lv_goto (tgt := 16) hx hb dX1_reachableKinds_64 (by decide) ?_
                have hmi := hmi
                rw [show i = 48 by omega] at hmi
                exact ih_16 (k + 1) m2 (by omega) (by omega) (pm_mo_s hmo hmi) H locs hP hD hS ls (lv_sub hl [1, 2, 3, 0] rfl)
              · skip
                refine lv_iload_n hx hb dX1_reachableKinds_32 rfl (lv_at hl 2 rfl) ?_
                refine lv_iload hx hb dX1_reachableKinds_33 (lv_at hl 4 rfl) ?_
                refine lv_iconst (v := nI 3) hx hb dX1_reachableKinds_35 (by decide) ?_
                refine n_idiv hx hb (by omega) (by omega) (by omega) dX1_reachableKinds_36 ?_
                refine lv_ishr hx hb dX1_reachableKinds_37 ?_
                refine lv_iconst (v := nI 1) hx hb dX1_reachableKinds_38 (by decide) ?_
                refine lv_iand hx hb dX1_reachableKinds_39 ?_
                refine n_top _ (bI (m2.testBit (i / 3))) (pm_tb (by omega) (by omega)) ?_
                refine b_if_eq (tgt := 55) hx hb dX1_reachableKinds_40 (by decide) (fun c_40 => ?_) (fun c_40 => ?_)
                · skip
                  refine lv_iinc (v := nI (i + 1)) (lv' := [(4, .int (nI (i + 1))), (0, .ref h0), (1, .int (nI ja)), (2, .int (nI m2)), (3, .int (nI k))]) hx hb dX1_reachableKinds_55 hl (k := 4) rfl (nI_inc1 _) (by decide) rfl (fun ls hl => ?_)
                  refine lv_goto (tgt := 25) hx hb dX1_reachableKinds_58 (by decide) ?_
                  exact ih_25 (i + 1) m2 (by omega) (by omega) (pm_mi_no hmi c_40) H locs hP hD hS ls (lv_sub hl [1, 2, 3, 4, 0] rfl)
                · skip
                  refine lv_iload_n hx hb dX1_reachableKinds_43 rfl (lv_at hl 2 rfl) ?_
                  refine lv_iconst (v := nI 1) hx hb dX1_reachableKinds_44 (by decide) ?_
                  refine lv_aload_n hx hb dX1_reachableKinds_45 rfl (lv_at hl 0 rfl) ?_
                  refine va_get (D := D) (ci := 1) (v := .ref qn) (C := RX1) (T := TX1) (N := 8) hx hb hts in_X1 hown hK hP 0 rfl rfl 0 (by decide) (hts _ q128) (fun _ h9 => h9) rfl dX1_reachableKinds_46 ?_
                  refine lv_iload hx hb dX1_reachableKinds_49 (lv_at hl 4 rfl) ?_
                  refine n_iald (g := nx) (i := i) hx hb hK hP 1 0 rfl rfl (by omega) (by decide) dX1_reachableKinds_51 ?_
                  have hn_51 := hnx i
                  refine n_ishl1 (y := nx i) hx hb (by omega) dX1_reachableKinds_52 ?_
                  refine n_ior hx hb dX1_reachableKinds_53 ?_
                  refine lv_istore_n (lv' := [(2, .int (nI (m2 ||| (2 ^ (nx i))))), (0, .ref h0), (1, .int (nI ja)), (3, .int (nI k)), (4, .int (nI i))]) hx hb dX1_reachableKinds_54 rfl hl (by decide) rfl (fun ls hl => ?_)
                  refine lv_iinc (v := nI (i + 1)) (lv' := [(4, .int (nI (i + 1))), (2, .int (nI (m2 ||| (2 ^ (nx i))))), (0, .ref h0), (1, .int (nI ja)), (3, .int (nI k))]) hx hb dX1_reachableKinds_55 hl (k := 4) rfl (nI_inc1 _) (by decide) rfl (fun ls hl => ?_)
                  refine lv_goto (tgt := 25) hx hb dX1_reachableKinds_58 (by decide) ?_
                  exact ih_25 (i + 1) (m2 ||| 2 ^ nx i) (by omega) (by omega) (pm_mi_or hnx (by omega) hmi c_40) H locs hP hD hS ls (lv_sub hl [2, 3, 1, 4, 0] rfl)
          exact loop_25 49 0 mm (by omega) (by omega) (pm_mo_i hmo) _ _ hP hD hS ls (lv_sub hl [1, 2, 3, 4, 0] rfl)
    exact loop_16 17 0 (2 ^ ja) (by omega) (by omega) (pm_mo_0 hja) _ _ hP hD hS ls (lv_sub hl [2, 3, 1, 0] rfl)
  · skip
    refine lv_iconst (v := -1) hx hb dX1_reachableKinds_8 (by decide) ?_
    exact cx_iret hQ hx hb hr hlocks hK (nx, ou, pa, fr, bb, kn, pn, wo) hP hD hS dX1_reachableKinds_9 ⟨Or.inl ⟨pm_nb_f c_5, rfl⟩, pm_mq_mk hk2⟩

abbrev rmX1_depth : Room := { frames := 2, cells := 0, slots := 0, locals := 50 }
set_option maxHeartbeats 400000 in
set_option maxRecDepth 100000 in
theorem mX1_depth (l : Launch) (D : va_G) (dA dB : ClassId) (h0 qn qo qp qf qb qk qw sz : Nat) (nx : Nat → Nat) (ou : Nat → Int32) (pa : Nat → Nat) (fr : Nat → Int32) (bb kn : Nat → Nat) (pn : Nat) (wo : Nat → Nat) (hk2 : ∀ z, kn z < 2) (hnx : ∀ i, nx i < 16) : cM l yX1_depth (ws_ yX1_depth cX1_depth 4 (some .int)) rmX1_depth D [(dA, .int), (dB, .boolean)] [.ref h0] (mwf h0 qn qo qp qf qb qk qw dA dB (nx, ou, pa, fr, bb, kn, pn, wo)) sz (cQi D [(dA, .int), (dB, .boolean)] (mwf h0 qn qo qp qf qb qk qw dA dB) (fun v u => v = nI (pm_mx nx ou 256) ∧ pm_mq nx ou u)) := by
  refine cM_start (by decide) (Nat.le_of_ble_eq_true rfl) ?_
  intro p e s m args below meth c A ls Q hx hb hr hlocks hml hown hin hts hA hK hP hD hS hl hQ
  have hown : s.vm.findClass RX1 = some m.cls := hown
  have hl : lv_has ls 4 [(0, .ref h0)] := hl
  refine lv_iconst (v := nI 0) hx hb dX1_depth_0 (by decide) ?_
  refine lv_istore_n (lv' := [(1, .int (nI 0)), (0, .ref h0)]) hx hb dX1_depth_1 rfl hl (by decide) rfl (fun ls hl => ?_)
  refine lv_iconst (v := nI 0) hx hb dX1_depth_2 (by decide) ?_
  refine lv_istore_n (lv' := [(2, .int (nI 0)), (1, .int (nI 0)), (0, .ref h0)]) hx hb dX1_depth_3 rfl hl (by decide) rfl (fun ls hl => ?_)
  have loop_4 : ∀ (n : Nat) (i : Nat) (mo : Nat) (pax : Nat → Nat) (frx : Nat → Int32) (bbx : Nat → Nat) (knx : Nat → Nat) (pnx : Nat) (wox : Nat → Nat), i ≤ 256 → 256 + 1 ≤ i + n → mo = pm_mx nx ou i → (∀ z, knx z < 2) → ∀ (H : Heap) (locs : List Loc), va_P D vwCl (mwf h0 qn qo qp qf qb qk qw dA dB (nx, ou, pax, frx, bbx, knx, pnx, wox)) H → va_D A (mwf h0 qn qo qp qf qb qk qw dA dB (nx, ou, pax, frx, bbx, knx, pnx, wox)) → va_S A s.heap H locs → ∀ (ls : Array Slot), lv_has ls 4 [(0, .ref h0), (1, .int (nI mo)), (2, .int (nI i))] → W p l e rmX1_depth s m args below meth c H locs 0 0 Q (F0 m 4 ls []) := by
    intro n
    induction n with
    | zero =>
      intro i mo pax frx bbx knx pnx wox hi hf hmo hk2x
      exact absurd hf (by omega)
    | succ n ih_4 =>
      intro i mo pax frx bbx knx pnx wox hi hf hmo hk2x H locs hP hD hS ls hl
      have hmo16 : mo ≤ 16 := by rw [hmo]; exact pm_mx_16 nx ou i
      refine lv_iload_n hx hb dX1_depth_4 rfl (lv_at hl 2 rfl) ?_
      refine lv_sipush (v := nI 256) hx hb dX1_depth_5 (by decide) ?_
      refine n_icmp_ge (tgt := 52) hx hb dX1_depth_8 (by decide) (by omega) (by omega) (fun c_8 => ?_) (fun c_8 => ?_)
      · skip
        refine lv_iload_n hx hb dX1_depth_52 rfl (lv_at hl 1 rfl) ?_
        exact cx_iret hQ hx hb hr hlocks hK (nx, ou, pax, frx, bbx, knx, pnx, wox) hP hD hS dX1_depth_53 ⟨by rw [hmo, show i = 256 by omega], pm_mq_mk hk2x⟩
      · skip
        refine lv_iload_n hx hb dX1_depth_11 rfl (lv_at hl 2 rfl) ?_
        refine lv_bipush (v := nI 16) hx hb dX1_depth_12 (by decide) ?_
        refine n_idiv hx hb (by omega) (by omega) (by omega) dX1_depth_14 ?_
        refine lv_iload_n hx hb dX1_depth_15 rfl (lv_at hl 2 rfl) ?_
        refine lv_bipush (v := nI 16) hx hb dX1_depth_16 (by decide) ?_
        refine n_irem hx hb (by omega) (by omega) (by omega) dX1_depth_18 ?_
        refine n_icmp_ge (tgt := 37) hx hb dX1_depth_19 (by decide) (by omega) (by omega) (fun c_19 => ?_) (fun c_19 => ?_)
        · skip
          refine lv_iconst (v := nI 0) hx hb dX1_depth_37 (by decide) ?_
          refine lv_istore_n (lv' := [(3, .int (nI 0)), (0, .ref h0), (1, .int (nI mo)), (2, .int (nI i))]) hx hb dX1_depth_38 rfl hl (by decide) rfl (fun ls hl => ?_)
          refine lv_iload_n hx hb dX1_depth_39 rfl (lv_at hl 0 rfl) ?_
          refine lv_iload_n hx hb dX1_depth_40 rfl (lv_at hl 2 rfl) ?_
          refine n_icmp_le (tgt := 46) hx hb dX1_depth_41 (by decide) (by omega) (by omega) (fun c_41 => ?_) (fun c_41 => ?_)
          · skip
            refine lv_iinc (v := nI (i + 1)) (lv' := [(2, .int (nI (i + 1))), (3, .int (nI 0)), (0, .ref h0), (1, .int (nI mo))]) hx hb dX1_depth_46 hl (k := 3) rfl (nI_inc1 _) (by decide) rfl (fun ls hl => ?_)
            refine lv_goto (tgt := 4) hx hb dX1_depth_49 (by decide) ?_
            exact ih_4 (i + 1) mo pax frx bbx knx pnx wox (by omega) (by omega) (by rw [pm_mx_b hmo (by omega)]) hk2x H locs hP hD hS ls (lv_sub hl [2, 3, 0] rfl)
          · skip
            refine lv_iload_n hx hb dX1_depth_44 rfl (lv_at hl 0 rfl) ?_
            refine lv_istore_n (lv' := [(1, .int (nI 0)), (3, .int (nI 0)), (0, .ref h0), (2, .int (nI i))]) hx hb dX1_depth_45 rfl hl (by decide) rfl (fun ls hl => ?_)
            refine lv_iinc (v := nI (i + 1)) (lv' := [(2, .int (nI (i + 1))), (1, .int (nI 0)), (3, .int (nI 0)), (0, .ref h0)]) hx hb dX1_depth_46 hl (k := 3) rfl (nI_inc1 _) (by decide) rfl (fun ls hl => ?_)
            refine lv_goto (tgt := 4) hx hb dX1_depth_49 (by decide) ?_
            exact ih_4 (i + 1) 0 pax frx bbx knx pnx wox (by omega) (by omega) (absurd c_41 (by omega)) hk2x H locs hP hD hS ls (lv_sub hl [3, 1, 0] rfl)
        · skip
          refine lv_aload_n hx hb dX1_depth_22 rfl (lv_at hl 0 rfl) ?_
          refine lv_iload_n hx hb dX1_depth_23 rfl (lv_at hl 2 rfl) ?_
          refine lv_bipush (v := nI 16) hx hb dX1_depth_24 (by decide) ?_
          refine n_idiv hx hb (by omega) (by omega) (by omega) dX1_depth_26 ?_
          refine lv_iload_n hx hb dX1_depth_27 rfl (lv_at hl 2 rfl) ?_
          refine lv_bipush (v := nI 16) hx hb dX1_depth_28 (by decide) ?_
          refine n_irem hx hb (by omega) (by omega) (by omega) dX1_depth_30 ?_
          refine cx_V (As := [.int (nI (i / 16)), .int (nI (i % 16))]) (rest := []) (q0 := 0) (ci := 1) (C := RX1) (T := TX1) (N := 8) ⟨hx, hb, hml, hown, hts⟩ (mX1_search l D dA dB h0 qn qo qp qf qb qk qw H.size nx ou pax frx bbx knx pnx wox (i / 16) (i % 16) (by omega) (by omega) hk2x hnx) (cwV 2 hts (lw_V q174 q176 qs10 q15 q177) rfl rfl rfl (by decide +kernel) ⟨Nat.le_of_ble_eq_true rfl, Nat.le_of_ble_eq_true rfl⟩) hK hP hD hS hA rfl rfl rfl rfl hl.1 (Nat.le_of_ble_eq_true rfl) dX1_depth_31 rfl rfl ⟨Nat.zero_le _, Nat.zero_le _⟩ (fun rv uv H locs hw hP hD hS => ?_)
          obtain ⟨rfl, pa1, fr1, bb1, kn1, pn1, wo1, rfl, hk21, hwo1⟩ := hw
          have hds := pm_ds_16 nx ou (i / 16) (i % 16)
          generalize hL : pm_ds nx ou (i / 16) (i % 16) = L at hwo1 hds ⊢
          refine lv_goto (tgt := 38) hx hb dX1_depth_34 (by decide) ?_
          refine lv_istore_n (lv' := [(3, .int (nI L)), (0, .ref h0), (1, .int (nI mo)), (2, .int (nI i))]) hx hb dX1_depth_38 rfl hl (by decide) rfl (fun ls hl => ?_)
          refine lv_iload_n hx hb dX1_depth_39 rfl (lv_at hl 0 rfl) ?_
          refine lv_iload_n hx hb dX1_depth_40 rfl (lv_at hl 2 rfl) ?_
          refine n_icmp_le (tgt := 46) hx hb dX1_depth_41 (by decide) (by omega) (by omega) (fun c_41 => ?_) (fun c_41 => ?_)
          · skip
            refine lv_iinc (v := nI (i + 1)) (lv' := [(2, .int (nI (i + 1))), (3, .int (nI L)), (0, .ref h0), (1, .int (nI mo))]) hx hb dX1_depth_46 hl (k := 3) rfl (nI_inc1 _) (by decide) rfl (fun ls hl => ?_)
            refine lv_goto (tgt := 4) hx hb dX1_depth_49 (by decide) ?_
            exact ih_4 (i + 1) mo pa1 fr1 bb1 kn1 pn1 wo1 (by omega) (by omega) (by rw [pm_mx_a hmo c_19, if_neg (by omega)]) hk21 H locs hP hD hS ls (lv_sub hl [2, 3, 0] rfl)
          · skip
            refine lv_iload_n hx hb dX1_depth_44 rfl (lv_at hl 0 rfl) ?_
            refine lv_istore_n (lv' := [(1, .int (nI L)), (3, .int (nI L)), (0, .ref h0), (2, .int (nI i))]) hx hb dX1_depth_45 rfl hl (by decide) rfl (fun ls hl => ?_)
            refine lv_iinc (v := nI (i + 1)) (lv' := [(2, .int (nI (i + 1))), (1, .int (nI L)), (3, .int (nI L)), (0, .ref h0)]) hx hb dX1_depth_46 hl (k := 3) rfl (nI_inc1 _) (by decide) rfl (fun ls hl => ?_)
            refine lv_goto (tgt := 4) hx hb dX1_depth_49 (by decide) ?_
            exact ih_4 (i + 1) L pa1 fr1 bb1 kn1 pn1 wo1 (by omega) (by omega) (by rw [pm_mx_a hmo c_19, hL, if_pos c_41]) hk21 H locs hP hD hS ls (lv_sub hl [3, 1, 0] rfl)
  exact loop_4 257 0 0 pa fr bb kn pn wo (by omega) (by omega) rfl hk2 _ _ hP hD hS ls (lv_sub hl [2, 1, 0] rfl)

abbrev rmX1_run : Room := { frames := 1, cells := 0, slots := 0, locals := 21 }
set_option maxHeartbeats 400000 in
set_option maxRecDepth 100000 in
theorem mX1_run (l : Launch) (D : va_G) (dA dB : ClassId) (h0 qn qo qp qf qb qk qw sz : Nat) (nx : Nat → Nat) (ou : Nat → Int32) (pa : Nat → Nat) (fr : Nat → Int32) (bb kn : Nat → Nat) (pn : Nat) (wo : Nat → Nat) (x ww nn : Int32) (hnx : ∀ i, nx i < 16) : cM l yX1_run (ws_ yX1_run cX1_run 7 (some .int)) rmX1_run D [(dA, .int), (dB, .boolean)] [.ref h0, .int x, .int ww, .int nn] (mwf h0 qn qo qp qf qb qk qw dA dB (nx, ou, pa, fr, bb, kn, pn, wo)) sz (cQi D [(dA, .int), (dB, .boolean)] (mwf h0 qn qo qp qf qb qk qw dA dB) (fun v u => v = pm_ruS nx x ww nn ∧ u = (nx, ou, pa, fr, bb, kn, pn, wo))) := by
  refine cM_start (by decide) (Nat.le_of_ble_eq_true rfl) ?_
  intro p e s m args below meth c A ls Q hx hb hr hlocks hml hown hin hts hA hK hP hD hS hl hQ
  have hown : s.vm.findClass RX1 = some m.cls := hown
  have hl : lv_has ls 7 [(0, .ref h0), (1, .int x), (2, .int ww), (3, .int nn)] := hl
  refine lv_aload_n hx hb dX1_run_0 rfl (lv_at hl 0 rfl) ?_
  refine lv_iload_n hx hb dX1_run_1 rfl (lv_at hl 1 rfl) ?_
  refine cx_E (As := [.int x]) (rest := []) (q0 := 0) (ci := 1) (C := RX1) (T := TX1) (N := 8) ⟨hx, hb, hml, hown, hts⟩ (mX1_isState l D s.heap.size h0 x) (cwV 1 hts (lw_V q158 q160 qs8 q15 q161) rfl rfl rfl (by decide +kernel) ⟨Nat.le_of_ble_eq_true rfl, Nat.le_of_ble_eq_true rfl⟩) hK hP hD hS hA rfl rfl rfl rfl hl.1 (Nat.le_of_ble_eq_true rfl) dX1_run_2 rfl rfl ⟨Nat.zero_le _, Nat.zero_le _⟩ (fun rv H locs hw hP hD hS => ?_)
  have hw : rv = bI (!pm_bad x) := hw
  subst hw
  refine b_if_ne (tgt := 10) hx hb dX1_run_5 (by decide) (fun c_5 => ?_) (fun c_5 => ?_)
  · skip
    refine lv_iload_n hx hb dX1_run_10 rfl (lv_at hl 3 rfl) ?_
    refine lv_if_lt (tgt := 20) hx hb dX1_run_11 (by decide) (fun c_11 => ?_) (fun c_11 => ?_)
    · skip
      refine lv_bipush (v := -2) hx hb dX1_run_20 (by decide) ?_
      exact cx_iret hQ hx hb hr hlocks hK (nx, ou, pa, fr, bb, kn, pn, wo) hP hD hS dX1_run_22 ⟨by rw [pm_ru_2 (pm_nb_t c_5) (Or.inl c_11)], rfl⟩
    · skip
      refine lv_iload_n hx hb dX1_run_14 rfl (lv_at hl 3 rfl) ?_
      refine lv_bipush (v := nI 10) hx hb dX1_run_15 (by decide) ?_
      refine lv_icmp_le (tgt := 23) hx hb dX1_run_17 (by decide) (fun c_17 => ?_) (fun c_17 => ?_)
      · skip
        obtain ⟨ja, hja, rfl⟩ := pm_bad_n (pm_nb_t c_5)
        obtain ⟨jn, hjn, rfl⟩ := pm_ten c_11 c_17
        refine lv_iload_n hx hb dX1_run_23 rfl (lv_at hl 1 rfl) ?_
        refine lv_istore (lv' := [(4, .int (nI ja)), (0, .ref h0), (1, .int (nI ja)), (2, .int ww), (3, .int (nI jn))]) hx hb dX1_run_24 hl (by decide) rfl (fun ls hl => ?_)
        refine lv_iconst (v := nI 0) hx hb dX1_run_26 (by decide) ?_
        refine lv_istore (lv' := [(5, .int (nI 0)), (4, .int (nI ja)), (0, .ref h0), (1, .int (nI ja)), (2, .int ww), (3, .int (nI jn))]) hx hb dX1_run_27 hl (by decide) rfl (fun ls hl => ?_)
        have loop_29 : ∀ (n : Nat) (k : Nat) (sv : Nat), k ≤ jn → jn + 1 ≤ k + n → sv = pm_rn nx ww ja k → ∀ (H : Heap) (locs : List Loc), va_P D vwCl (mwf h0 qn qo qp qf qb qk qw dA dB (nx, ou, pa, fr, bb, kn, pn, wo)) H → va_D A (mwf h0 qn qo qp qf qb qk qw dA dB (nx, ou, pa, fr, bb, kn, pn, wo)) → va_S A s.heap H locs → ∀ (ls : Array Slot), lv_has ls 7 [(0, .ref h0), (1, .int (nI ja)), (2, .int ww), (3, .int (nI jn)), (4, .int (nI sv)), (5, .int (nI k))] → W p l e rmX1_run s m args below meth c H locs 0 0 Q (F0 m 29 ls []) := by
          intro n
          induction n with
          | zero =>
            intro k sv hk hf hs
            exact absurd hf (by omega)
          | succ n ih_29 =>
            intro k sv hk hf hs H locs hP hD hS ls hl
            have hsv : sv < 16 := by rw [hs]; exact pm_rn_lt hnx hja k
            refine lv_iload hx hb dX1_run_29 (lv_at hl 5 rfl) ?_
            refine lv_iload_n hx hb dX1_run_31 rfl (lv_at hl 3 rfl) ?_
            refine n_icmp_ge (tgt := 75) hx hb dX1_run_32 (by decide) (by omega) (by omega) (fun c_32 => ?_) (fun c_32 => ?_)
            · skip
              refine lv_iload hx hb dX1_run_75 (lv_at hl 4 rfl) ?_
              exact cx_iret hQ hx hb hr hlocks hK (nx, ou, pa, fr, bb, kn, pn, wo) hP hD hS dX1_run_77 ⟨by rw [pm_ru_3 hja hjn, hs, show k = jn by omega], rfl⟩
            · skip
              refine lv_iload_n hx hb dX1_run_35 rfl (lv_at hl 2 rfl) ?_
              refine lv_iconst (v := nI 2) hx hb dX1_run_36 (by decide) ?_
              refine lv_iload hx hb dX1_run_37 (lv_at hl 5 rfl) ?_
              refine n_imul hx hb dX1_run_39 ?_
              refine lv_ishr hx hb dX1_run_40 ?_
              refine lv_iconst (v := nI 3) hx hb dX1_run_41 (by decide) ?_
              refine lv_iand hx hb dX1_run_42 ?_
              obtain ⟨qq, hqq⟩ : ∃ qq, qq = (ww >>> (nI (2 * k) &&& 31)).toBitVec.toNat % 4 := ⟨_, rfl⟩
              have hq4 : qq < 4 := by rw [hqq]; exact Nat.mod_lt _ (by decide)
              refine n_top _ (nI qq) (by rw [hqq]; exact pk_and _ 2 (by decide)) ?_
              refine lv_istore (lv' := [(6, .int (nI qq)), (0, .ref h0), (1, .int (nI ja)), (2, .int ww), (3, .int (nI jn)), (4, .int (nI sv)), (5, .int (nI k))]) hx hb dX1_run_43 hl (by decide) rfl (fun ls hl => ?_)
              refine lv_aload_n hx hb dX1_run_45 rfl (lv_at hl 1 rfl) ?_
              refine va_get (D := D) (ci := 1) (v := .ref qn) (C := RX1) (T := TX1) (N := 8) hx hb hts in_X1 hown hK hP 0 rfl rfl 0 (by decide) (hts _ q128) (fun _ h9 => h9) rfl dX1_run_46 ?_
              refine lv_iload hx hb dX1_run_49 (lv_at hl 5 rfl) ?_
              refine lv_iconst (v := nI 3) hx hb dX1_run_51 (by decide) ?_
              refine n_imul hx hb dX1_run_52 ?_
              refine lv_iload hx hb dX1_run_53 (lv_at hl 0 rfl) ?_
              refine lv_iconst (v := nI 3) hx hb dX1_run_55 (by decide) ?_
              refine n_icmp_ne (tgt := 63) hx hb dX1_run_56 (by decide) (by omega) (by omega) (fun c_56 => ?_) (fun c_56 => ?_)
              · skip
                refine lv_iload hx hb dX1_run_63 (lv_at hl 0 rfl) ?_
                refine n_iadd hx hb dX1_run_65 ?_
                refine n_iald (g := nx) (i := (sv * 3) + qq) hx hb hK hP 1 0 rfl rfl (by omega) (by decide) dX1_run_66 ?_
                have hn_66 := hnx ((sv * 3) + qq)
                refine lv_istore (lv' := [(4, .int (nI (nx ((sv * 3) + qq)))), (6, .int (nI qq)), (0, .ref h0), (1, .int (nI ja)), (2, .int ww), (3, .int (nI jn)), (5, .int (nI k))]) hx hb dX1_run_67 hl (by decide) rfl (fun ls hl => ?_)
                refine lv_iinc (v := nI (k + 1)) (lv' := [(5, .int (nI (k + 1))), (4, .int (nI (nx ((sv * 3) + qq)))), (6, .int (nI qq)), (0, .ref h0), (1, .int (nI ja)), (2, .int ww), (3, .int (nI jn))]) hx hb dX1_run_69 hl (k := 6) rfl (nI_inc1 _) (by decide) rfl (fun ls hl => ?_)
                refine lv_goto (tgt := 29) hx hb dX1_run_72 (by decide) ?_
                exact ih_29 (k + 1) (nx (sv * 3 + qq)) (by omega) (by omega) (show nx (sv * 3 + qq) = nx (pm_rn nx ww ja k * 3 + pm_in ww k) by rw [← hs, pm_in_a hqq c_56]) H locs hP hD hS ls (lv_sub hl [3, 4, 5, 6, 1, 0] rfl)
              · skip
                refine lv_iconst (v := nI 0) hx hb dX1_run_59 (by decide) ?_
                refine lv_goto (tgt := 65) hx hb dX1_run_60 (by decide) ?_
                refine n_iadd hx hb dX1_run_65 ?_
                refine n_iald (g := nx) (i := (sv * 3) + 0) hx hb hK hP 1 0 rfl rfl (by omega) (by decide) dX1_run_66 ?_
                have hn_66 := hnx ((sv * 3) + 0)
                refine lv_istore (lv' := [(4, .int (nI (nx ((sv * 3) + 0)))), (6, .int (nI qq)), (0, .ref h0), (1, .int (nI ja)), (2, .int ww), (3, .int (nI jn)), (5, .int (nI k))]) hx hb dX1_run_67 hl (by decide) rfl (fun ls hl => ?_)
                refine lv_iinc (v := nI (k + 1)) (lv' := [(5, .int (nI (k + 1))), (4, .int (nI (nx ((sv * 3) + 0)))), (6, .int (nI qq)), (0, .ref h0), (1, .int (nI ja)), (2, .int ww), (3, .int (nI jn))]) hx hb dX1_run_69 hl (k := 6) rfl (nI_inc1 _) (by decide) rfl (fun ls hl => ?_)
                refine lv_goto (tgt := 29) hx hb dX1_run_72 (by decide) ?_
                exact ih_29 (k + 1) (nx (sv * 3 + 0)) (by omega) (by omega) (show nx (sv * 3 + 0) = nx (pm_rn nx ww ja k * 3 + pm_in ww k) by rw [← hs, pm_in_b hqq c_56]) H locs hP hD hS ls (lv_sub hl [3, 4, 5, 6, 1, 0] rfl)
        exact loop_29 (jn + 1) 0 ja (by omega) (by omega) rfl _ _ hP hD hS ls (lv_sub hl [2, 3, 4, 5, 1, 0] rfl)
      · skip
        refine lv_bipush (v := -2) hx hb dX1_run_20 (by decide) ?_
        exact cx_iret hQ hx hb hr hlocks hK (nx, ou, pa, fr, bb, kn, pn, wo) hP hD hS dX1_run_22 ⟨by rw [pm_ru_2 (pm_nb_t c_5) (Or.inr c_17)], rfl⟩
  · skip
    refine lv_iconst (v := -1) hx hb dX1_run_8 (by decide) ?_
    exact cx_iret hQ hx hb hr hlocks hK (nx, ou, pa, fr, bb, kn, pn, wo) hP hD hS dX1_run_9 ⟨by rw [pm_ru_1 (pm_nb_f c_5)], rfl⟩
end
section
/-! ===== the constructors ===== -/
def pm_nn (i : Nat) : Nat → Nat := fun j => if j < i then j / 3 else 0
theorem pm_nn_0 : nA (pm_nn 0) = fun _ => 0 := funext (fun j => by
  unfold nA pm_nn
  rw [if_neg (Nat.not_lt_zero j)]
  rfl)
theorem pm_nn_s (i : Nat) : pm_up (pm_nn i) i (i / 3) = pm_nn (i + 1) := funext (fun j => by
  unfold pm_up pm_nn
  by_cases h : j = i
  · rw [if_pos h, if_pos (by omega), h]
  · rw [if_neg h]
    by_cases h2 : j < i
    · rw [if_pos h2, if_pos (by omega)]
    · rw [if_neg h2, if_neg (by omega)])
theorem pm_nn_lt : ∀ j, pm_nn 48 j < 16 := by
  intro j
  unfold pm_nn
  split <;> omega
theorem pm_nn_a {cA : ClassId} : vp_cell cA (48, .inl (nA (pm_nn 0))) = arrV cA 48 (fun _ => defaultValue .int) := by
  rw [pm_nn_0]
  rfl
theorem va_one {D : va_G} {tys : List (ClassId × FieldType)} {s : State} {i j : Nat} {a b : ClassId} (hK : va_K D vwCl tys s) (hi : tys[i]? = some (a, .int)) (hj : tys[j]? = some (b, .int)) : b = a := by
  have h1 : s.vm.findClass ("[" ++ FieldType.int.toString) = some a := (hK.2 i _ hi).2
  have h2 : s.vm.findClass ("[" ++ FieldType.int.toString) = some b := (hK.2 j _ hj).2
  exact Option.some.inj (h2.symm.trans h1)
abbrev xu0 : XS := (pm_nn 48, (fun _ => 0), 0, 0, (fun _ => 0), (fun _ => 0), 0)
abbrev mu0 : MS := (pm_nn 48, (fun _ => 0), (fun _ => 0), (fun _ => 0), (fun _ => 0), (fun _ => 0), 0, (fun _ => 0))
def xI (D : va_G) (A : Nat → Prop) (h0 : Nat) (t : State) : Prop := ∃ (qn qo qg ql : Nat) (dA : ClassId), cB D [(dA, .int)] A (xwf h0 qn qo qg ql dA xu0) t
def mI (D : va_G) (A : Nat → Prop) (h0 : Nat) (t : State) : Prop := ∃ (qn qo qp qf qb qk qw : Nat) (dA dB : ClassId), cB D [(dA, .int), (dB, .boolean)] A (mwf h0 qn qo qp qf qb qk qw dA dB mu0) t

abbrev rmX0_init : Room := { frames := 1, cells := 4, slots := 400, locals := 12 }
set_option maxHeartbeats 1000000 in
set_option maxRecDepth 100000 in
theorem mX0_init (l : Launch) (D : va_G) (h0 sz : Nat) : cM l yX0_init (ws_ yX0_init cX0_init 2 none) rmX0_init D [] [.ref h0] [(h0, .inr (0, [.null, .null, .int 0, .int 0, .null, .null, .int 0]))] sz (fun A => va_Qv (fun _ : Unit => True) (fun _ t => xI D A h0 t) A) := by
  refine cM_start (by decide) (Nat.le_of_ble_eq_true rfl) ?_
  intro p e s m args below meth c A ls Q hx hb hr hlocks hml hown hin hts hA hK hP hD hS hl hQ
  have hown : s.vm.findClass RX0 = some m.cls := hown
  have hin : meth.name = "<init>" := hin
  have hl : lv_has ls 2 [(0, .ref h0)] := hl
  refine lv_aload_n hx hb dX0_init_0 rfl (lv_at hl 0 rfl) ?_
  refine W.objInit hx hb hown (hts _ q21) (hts _ q22) (hts _ q23) rfl (by rw [hml]; exact hl.1) rfl dX0_init_1 (Nat.le_of_ble_eq_true rfl) (Nat.le_of_ble_eq_true rfl) ?_
  refine W.eq (g2 := F0 m 4 ls []) rfl ?_
  refine lv_aload_n hx hb dX0_init_4 rfl (lv_at hl 0 rfl) ?_
  refine lv_bipush (v := nI 48) hx hb dX0_init_5 (by decide) ?_
  refine va_newa (atype := .int) (ty := .int) (n := nI 48) (N' := 48) (a0 := (48, .inl (nA (pm_nn 0)))) hx hb (hts _ q46) rfl hK hP hD hS hA (fun _ => pm_nn_a) (by decide) (by decide) (by decide) (Nat.le_of_ble_eq_true rfl) (Nat.le_of_ble_eq_true rfl) dX0_init_7 (fun qn dA H hK hP hD hS => ?_)
  refine W.widen (k := 1) (n := 48) (Nat.le_refl _) (Nat.le_refl _) ?_
  have hK : va_K D vwCl [(dA, .int)] s := hK
  have hP : va_P D vwCl [(h0, .inr (0, [.null, .null, .int 0, .int 0, .null, .null, .int 0])), (qn, .inl (dA, 48, .inl (nA (pm_nn 0))))] H := hP
  have hD : va_D A [(h0, .inr (0, [.null, .null, .int 0, .int 0, .null, .null, .int 0])), (qn, .inl (dA, 48, .inl (nA (pm_nn 0))))] := hD
  refine va_putF (D := D) (ci := 0) (v := .ref qn) (ty := .array .int) (C := RX0) (T := TX0) (N := 7) hx hb hts in_X0 tyX0 tyX0_ok nmX0 hown hK hP hD hS 0 rfl rfl 0 (by decide) (hts _ q24) (fun _ h9 => h9) rfl hin rfl (by decide +kernel) rfl rfl (Nat.le_of_ble_eq_true rfl) dX0_init_9 (fun H locs hP hD hS => ?_)
  have hP : va_P D vwCl [(h0, .inr (0, [.ref qn, .null, .int 0, .int 0, .null, .null, .int 0])), (qn, .inl (dA, 48, .inl (nA (pm_nn 0))))] H := hP
  have hD : va_D A [(h0, .inr (0, [.ref qn, .null, .int 0, .int 0, .null, .null, .int 0])), (qn, .inl (dA, 48, .inl (nA (pm_nn 0))))] := hD
  refine lv_aload_n hx hb dX0_init_12 rfl (lv_at hl 0 rfl) ?_
  refine lv_bipush (v := nI 48) hx hb dX0_init_13 (by decide) ?_
  refine va_newa (atype := .int) (ty := .int) (n := nI 48) (N' := 48) (a0 := (48, .inl (fun _ => 0))) hx hb (hts _ q46) rfl hK hP hD hS hA (fun _ => rfl) (by decide) (by decide) (by decide) (Nat.le_of_ble_eq_true rfl) (Nat.le_of_ble_eq_true rfl) dX0_init_15 (fun qo dA1 H hK hP hD hS => ?_)
  refine W.widen (k := 2) (n := 96) (Nat.le_refl _) (Nat.le_refl _) ?_
  have e1 : dA = dA1 := (va_one hK (i := 0) (j := 1) rfl rfl).symm
  subst e1
  have hK : va_K D vwCl [(dA, .int), (dA, .int)] s := hK
  have hK : va_K D vwCl [(dA, .int)] s := hK.sub [0] rfl
  have hP : va_P D vwCl [(h0, .inr (0, [.ref qn, .null, .int 0, .int 0, .null, .null, .int 0])), (qn, .inl (dA, 48, .inl (nA (pm_nn 0)))), (qo, .inl (dA, 48, .inl (fun _ => 0)))] H := hP
  have hD : va_D A [(h0, .inr (0, [.ref qn, .null, .int 0, .int 0, .null, .null, .int 0])), (qn, .inl (dA, 48, .inl (nA (pm_nn 0)))), (qo, .inl (dA, 48, .inl (fun _ => 0)))] := hD
  refine va_putF (D := D) (ci := 0) (v := .ref qo) (ty := .array .int) (C := RX0) (T := TX0) (N := 7) hx hb hts in_X0 tyX0 tyX0_ok nmX0 hown hK hP hD hS 0 rfl rfl 1 (by decide) (hts _ q25) (fun _ h9 => h9) rfl hin rfl (by decide +kernel) rfl rfl (Nat.le_of_ble_eq_true rfl) dX0_init_17 (fun H locs hP hD hS => ?_)
  have hP : va_P D vwCl [(h0, .inr (0, [.ref qn, .ref qo, .int 0, .int 0, .null, .null, .int 0])), (qn, .inl (dA, 48, .inl (nA (pm_nn 0)))), (qo, .inl (dA, 48, .inl (fun _ => 0)))] H := hP
  have hD : va_D A [(h0, .inr (0, [.ref qn, .ref qo, .int 0, .int 0, .null, .null, .int 0])), (qn, .inl (dA, 48, .inl (nA (pm_nn 0)))), (qo, .inl (dA, 48, .inl (fun _ => 0)))] := hD
  refine lv_aload_n hx hb dX0_init_20 rfl (lv_at hl 0 rfl) ?_
  refine lv_sipush (v := nI 288) hx hb dX0_init_21 (by decide) ?_
  refine va_newa (atype := .int) (ty := .int) (n := nI 288) (N' := 288) (a0 := (288, .inl (nA (fun _ => 0)))) hx hb (hts _ q46) rfl hK hP hD hS hA (fun _ => rfl) (by decide) (by decide) (by decide) (Nat.le_of_ble_eq_true rfl) (Nat.le_of_ble_eq_true rfl) dX0_init_24 (fun qg dA2 H hK hP hD hS => ?_)
  refine W.widen (k := 3) (n := 384) (Nat.le_refl _) (Nat.le_refl _) ?_
  have e2 : dA = dA2 := (va_one hK (i := 0) (j := 1) rfl rfl).symm
  subst e2
  have hK : va_K D vwCl [(dA, .int), (dA, .int)] s := hK
  have hK : va_K D vwCl [(dA, .int)] s := hK.sub [0] rfl
  have hP : va_P D vwCl [(h0, .inr (0, [.ref qn, .ref qo, .int 0, .int 0, .null, .null, .int 0])), (qn, .inl (dA, 48, .inl (nA (pm_nn 0)))), (qo, .inl (dA, 48, .inl (fun _ => 0))), (qg, .inl (dA, 288, .inl (nA (fun _ => 0))))] H := hP
  have hD : va_D A [(h0, .inr (0, [.ref qn, .ref qo, .int 0, .int 0, .null, .null, .int 0])), (qn, .inl (dA, 48, .inl (nA (pm_nn 0)))), (qo, .inl (dA, 48, .inl (fun _ => 0))), (qg, .inl (dA, 288, .inl (nA (fun _ => 0))))] := hD
  refine va_putF (D := D) (ci := 0) (v := .ref qg) (ty := .array .int) (C := RX0) (T := TX0) (N := 7) hx hb hts in_X0 tyX0 tyX0_ok nmX0 hown hK hP hD hS 0 rfl rfl 4 (by decide) (hts _ q28) (fun _ h9 => h9) rfl hin rfl (by decide +kernel) rfl rfl (Nat.le_of_ble_eq_true rfl) dX0_init_26 (fun H locs hP hD hS => ?_)
  have hP : va_P D vwCl [(h0, .inr (0, [.ref qn, .ref qo, .int 0, .int 0, .ref qg, .null, .int 0])), (qn, .inl (dA, 48, .inl (nA (pm_nn 0)))), (qo, .inl (dA, 48, .inl (fun _ => 0))), (qg, .inl (dA, 288, .inl (nA (fun _ => 0))))] H := hP
  have hD : va_D A [(h0, .inr (0, [.ref qn, .ref qo, .int 0, .int 0, .ref qg, .null, .int 0])), (qn, .inl (dA, 48, .inl (nA (pm_nn 0)))), (qo, .inl (dA, 48, .inl (fun _ => 0))), (qg, .inl (dA, 288, .inl (nA (fun _ => 0))))] := hD
  refine lv_aload_n hx hb dX0_init_29 rfl (lv_at hl 0 rfl) ?_
  refine lv_bipush (v := nI 16) hx hb dX0_init_30 (by decide) ?_
  refine va_newa (atype := .int) (ty := .int) (n := nI 16) (N' := 16) (a0 := (16, .inl (nA (fun _ => 0)))) hx hb (hts _ q46) rfl hK hP hD hS hA (fun _ => rfl) (by decide) (by decide) (by decide) (Nat.le_of_ble_eq_true rfl) (Nat.le_of_ble_eq_true rfl) dX0_init_32 (fun ql dA3 H hK hP hD hS => ?_)
  refine W.widen (k := 4) (n := 400) (Nat.le_refl _) (Nat.le_refl _) ?_
  have e3 : dA = dA3 := (va_one hK (i := 0) (j := 1) rfl rfl).symm
  subst e3
  have hK : va_K D vwCl [(dA, .int), (dA, .int)] s := hK
  have hK : va_K D vwCl [(dA, .int)] s := hK.sub [0] rfl
  have hP : va_P D vwCl [(h0, .inr (0, [.ref qn, .ref qo, .int 0, .int 0, .ref qg, .null, .int 0])), (qn, .inl (dA, 48, .inl (nA (pm_nn 0)))), (qo, .inl (dA, 48, .inl (fun _ => 0))), (qg, .inl (dA, 288, .inl (nA (fun _ => 0)))), (ql, .inl (dA, 16, .inl (nA (fun _ => 0))))] H := hP
  have hD : va_D A [(h0, .inr (0, [.ref qn, .ref qo, .int 0, .int 0, .ref qg, .null, .int 0])), (qn, .inl (dA, 48, .inl (nA (pm_nn 0)))), (qo, .inl (dA, 48, .inl (fun _ => 0))), (qg, .inl (dA, 288, .inl (nA (fun _ => 0)))), (ql, .inl (dA, 16, .inl (nA (fun _ => 0))))] := hD
  refine va_putF (D := D) (ci := 0) (v := .ref ql) (ty := .array .int) (C := RX0) (T := TX0) (N := 7) hx hb hts in_X0 tyX0 tyX0_ok nmX0 hown hK hP hD hS 0 rfl rfl 5 (by decide) (hts _ q29) (fun _ h9 => h9) rfl hin rfl (by decide +kernel) rfl rfl (Nat.le_of_ble_eq_true rfl) dX0_init_34 (fun H locs hP hD hS => ?_)
  have hP : va_P D vwCl [(h0, .inr (0, [.ref qn, .ref qo, .int 0, .int 0, .ref qg, .ref ql, .int 0])), (qn, .inl (dA, 48, .inl (nA (pm_nn 0)))), (qo, .inl (dA, 48, .inl (fun _ => 0))), (qg, .inl (dA, 288, .inl (nA (fun _ => 0)))), (ql, .inl (dA, 16, .inl (nA (fun _ => 0))))] H := hP
  have hD : va_D A [(h0, .inr (0, [.ref qn, .ref qo, .int 0, .int 0, .ref qg, .ref ql, .int 0])), (qn, .inl (dA, 48, .inl (nA (pm_nn 0)))), (qo, .inl (dA, 48, .inl (fun _ => 0))), (qg, .inl (dA, 288, .inl (nA (fun _ => 0)))), (ql, .inl (dA, 16, .inl (nA (fun _ => 0))))] := hD
  have hP : va_P D vwCl (xwf h0 qn qo qg ql dA (pm_nn 0, (fun _ => 0), 0, 0, (fun _ => 0), (fun _ => 0), 0)) H := hP
  have hD : va_D A (xwf h0 qn qo qg ql dA (pm_nn 0, (fun _ => 0), 0, 0, (fun _ => 0), (fun _ => 0), 0)) := hD
  refine lv_iconst (v := nI 0) hx hb dX0_init_37 (by decide) ?_
  refine lv_istore_n (lv' := [(1, .int (nI 0)), (0, .ref h0)]) hx hb dX0_init_38 rfl hl (by decide) rfl (fun ls hl => ?_)
  have loop_39 : ∀ (n : Nat) (i : Nat), i ≤ 48 → 48 + 1 ≤ i + n → ∀ (H : Heap) (locs : List Loc), va_P D vwCl (xwf h0 qn qo qg ql dA (pm_nn i, (fun _ => 0), 0, 0, (fun _ => 0), (fun _ => 0), 0)) H → va_D A (xwf h0 qn qo qg ql dA (pm_nn i, (fun _ => 0), 0, 0, (fun _ => 0), (fun _ => 0), 0)) → va_S A s.heap H locs → ∀ (ls : Array Slot), lv_has ls 2 [(0, .ref h0), (1, .int (nI i))] → W p l e rmX0_init s m args below meth c H locs 4 400 Q (F0 m 39 ls []) := by
    intro n
    induction n with
    | zero =>
      intro i hi hf
      exact absurd hf (by omega)
    | succ n ih_39 =>
      intro i hi hf H locs hP hD hS ls hl
      refine lv_iload_n hx hb dX0_init_39 rfl (lv_at hl 1 rfl) ?_
      refine lv_bipush (v := nI 48) hx hb dX0_init_40 (by decide) ?_
      refine n_icmp_ge (tgt := 60) hx hb dX0_init_42 (by decide) (by omega) (by omega) (fun c_42 => ?_) (fun c_42 => ?_)
      · skip
        subst hQ
        have e48 : i = 48 := by omega
        rw [e48] at hP hD
        exact W.vret hx hb hr (fun t ht hW => ⟨⟨(), rfl, trivial, qn, qo, qg, ql, dA, by rw [ht]; exact hP, va_K.moved hW.alike hK, hD⟩, hS.F ht⟩) hS.2.2 dX0_init_60 (hlocks := hlocks)
      · skip
        refine lv_aload_n hx hb dX0_init_45 rfl (lv_at hl 0 rfl) ?_
        refine va_get (D := D) (ci := 0) (v := .ref qn) (C := RX0) (T := TX0) (N := 7) hx hb hts in_X0 hown hK hP 0 rfl rfl 0 (by decide) (hts _ q24) (fun _ h9 => h9) rfl dX0_init_46 ?_
        refine lv_iload_n hx hb dX0_init_49 rfl (lv_at hl 1 rfl) ?_
        refine lv_iload_n hx hb dX0_init_50 rfl (lv_at hl 1 rfl) ?_
        refine lv_iconst (v := nI 3) hx hb dX0_init_51 (by decide) ?_
        refine n_idiv hx hb (by omega) (by omega) (by omega) dX0_init_52 ?_
        refine n_iast (g := pm_nn i) hx hb hK hP hD hS 1 0 rfl rfl (by omega) (by decide) dX0_init_53 (fun H locs hP hD hS => ?_)
        have hP : va_P D vwCl (xwf h0 qn qo qg ql dA (pm_up (pm_nn i) i (i / 3), (fun _ => 0), 0, 0, (fun _ => 0), (fun _ => 0), 0)) H := hP
        have hD : va_D A (xwf h0 qn qo qg ql dA (pm_up (pm_nn i) i (i / 3), (fun _ => 0), 0, 0, (fun _ => 0), (fun _ => 0), 0)) := hD
        refine lv_iinc (v := nI (i + 1)) (lv' := [(1, .int (nI (i + 1))), (0, .ref h0)]) hx hb dX0_init_54 hl (k := 1) rfl (nI_inc1 _) (by decide) rfl (fun ls hl => ?_)
        refine lv_goto (tgt := 39) hx hb dX0_init_57 (by decide) ?_
        rw [pm_nn_s] at hP hD
        exact ih_39 (i + 1) (by omega) (by omega) H locs hP hD hS ls (lv_sub hl [1, 0] rfl)
  exact loop_39 49 0 (by omega) (by omega) _ _ hP hD hS ls (lv_sub hl [1, 0] rfl)

abbrev rmX1_init : Room := { frames := 1, cells := 7, slots := 1376, locals := 12 }
set_option maxHeartbeats 1000000 in
set_option maxRecDepth 100000 in
theorem mX1_init (l : Launch) (D : va_G) (h0 sz : Nat) : cM l yX1_init (ws_ yX1_init cX1_init 2 none) rmX1_init D [] [.ref h0] [(h0, .inr (1, [.null, .null, .null, .null, .null, .null, .int 0, .null]))] sz (fun A => va_Qv (fun _ : Unit => True) (fun _ t => mI D A h0 t) A) := by
  refine cM_start (by decide) (Nat.le_of_ble_eq_true rfl) ?_
  intro p e s m args below meth c A ls Q hx hb hr hlocks hml hown hin hts hA hK hP hD hS hl hQ
  have hown : s.vm.findClass RX1 = some m.cls := hown
  have hin : meth.name = "<init>" := hin
  have hl : lv_has ls 2 [(0, .ref h0)] := hl
  refine lv_aload_n hx hb dX1_init_0 rfl (lv_at hl 0 rfl) ?_
  refine W.objInit hx hb hown (hts _ q127) (hts _ q22) (hts _ q23) rfl (by rw [hml]; exact hl.1) rfl dX1_init_1 (Nat.le_of_ble_eq_true rfl) (Nat.le_of_ble_eq_true rfl) ?_
  refine W.eq (g2 := F0 m 4 ls []) rfl ?_
  refine lv_aload_n hx hb dX1_init_4 rfl (lv_at hl 0 rfl) ?_
  refine lv_bipush (v := nI 48) hx hb dX1_init_5 (by decide) ?_
  refine va_newa (atype := .int) (ty := .int) (n := nI 48) (N' := 48) (a0 := (48, .inl (nA (pm_nn 0)))) hx hb (hts _ q46) rfl hK hP hD hS hA (fun _ => pm_nn_a) (by decide) (by decide) (by decide) (Nat.le_of_ble_eq_true rfl) (Nat.le_of_ble_eq_true rfl) dX1_init_7 (fun qn dA H hK hP hD hS => ?_)
  refine W.widen (k := 1) (n := 48) (Nat.le_refl _) (Nat.le_refl _) ?_
  have hK : va_K D vwCl [(dA, .int)] s := hK
  have hP : va_P D vwCl [(h0, .inr (1, [.null, .null, .null, .null, .null, .null, .int 0, .null])), (qn, .inl (dA, 48, .inl (nA (pm_nn 0))))] H := hP
  have hD : va_D A [(h0, .inr (1, [.null, .null, .null, .null, .null, .null, .int 0, .null])), (qn, .inl (dA, 48, .inl (nA (pm_nn 0))))] := hD
  refine va_putF (D := D) (ci := 1) (v := .ref qn) (ty := .array .int) (C := RX1) (T := TX1) (N := 8) hx hb hts in_X1 tyX1 tyX1_ok nmX1 hown hK hP hD hS 0 rfl rfl 0 (by decide) (hts _ q128) (fun _ h9 => h9) rfl hin rfl (by decide +kernel) rfl rfl (Nat.le_of_ble_eq_true rfl) dX1_init_9 (fun H locs hP hD hS => ?_)
  have hP : va_P D vwCl [(h0, .inr (1, [.ref qn, .null, .null, .null, .null, .null, .int 0, .null])), (qn, .inl (dA, 48, .inl (nA (pm_nn 0))))] H := hP
  have hD : va_D A [(h0, .inr (1, [.ref qn, .null, .null, .null, .null, .null, .int 0, .null])), (qn, .inl (dA, 48, .inl (nA (pm_nn 0))))] := hD
  refine lv_aload_n hx hb dX1_init_12 rfl (lv_at hl 0 rfl) ?_
  refine lv_bipush (v := nI 48) hx hb dX1_init_13 (by decide) ?_
  refine va_newa (atype := .int) (ty := .int) (n := nI 48) (N' := 48) (a0 := (48, .inl (fun _ => 0))) hx hb (hts _ q46) rfl hK hP hD hS hA (fun _ => rfl) (by decide) (by decide) (by decide) (Nat.le_of_ble_eq_true rfl) (Nat.le_of_ble_eq_true rfl) dX1_init_15 (fun qo dA1 H hK hP hD hS => ?_)
  refine W.widen (k := 2) (n := 96) (Nat.le_refl _) (Nat.le_refl _) ?_
  have e1 : dA = dA1 := (va_one hK (i := 0) (j := 1) rfl rfl).symm
  subst e1
  have hK : va_K D vwCl [(dA, .int), (dA, .int)] s := hK
  have hK : va_K D vwCl [(dA, .int)] s := hK.sub [0] rfl
  have hP : va_P D vwCl [(h0, .inr (1, [.ref qn, .null, .null, .null, .null, .null, .int 0, .null])), (qn, .inl (dA, 48, .inl (nA (pm_nn 0)))), (qo, .inl (dA, 48, .inl (fun _ => 0)))] H := hP
  have hD : va_D A [(h0, .inr (1, [.ref qn, .null, .null, .null, .null, .null, .int 0, .null])), (qn, .inl (dA, 48, .inl (nA (pm_nn 0)))), (qo, .inl (dA, 48, .inl (fun _ => 0)))] := hD
  refine va_putF (D := D) (ci := 1) (v := .ref qo) (ty := .array .int) (C := RX1) (T := TX1) (N := 8) hx hb hts in_X1 tyX1 tyX1_ok nmX1 hown hK hP hD hS 0 rfl rfl 1 (by decide) (hts _ q129) (fun _ h9 => h9) rfl hin rfl (by decide +kernel) rfl rfl (Nat.le_of_ble_eq_true rfl) dX1_init_17 (fun H locs hP hD hS => ?_)
  have hP : va_P D vwCl [(h0, .inr (1, [.ref qn, .ref qo, .null, .null, .null, .null, .int 0, .null])), (qn, .inl (dA, 48, .inl (nA (pm_nn 0)))), (qo, .inl (dA, 48, .inl (fun _ => 0)))] H := hP
  have hD : va_D A [(h0, .inr (1, [.ref qn, .ref qo, .null, .null, .null, .null, .int 0, .null])), (qn, .inl (dA, 48, .inl (nA (pm_nn 0)))), (qo, .inl (dA, 48, .inl (fun _ => 0)))] := hD
  refine lv_aload_n hx hb dX1_init_20 rfl (lv_at hl 0 rfl) ?_
  refine lv_sipush (v := nI 256) hx hb dX1_init_21 (by decide) ?_
  refine va_newa (atype := .int) (ty := .int) (n := nI 256) (N' := 256) (a0 := (256, .inl (nA (fun _ => 0)))) hx hb (hts _ q46) rfl hK hP hD hS hA (fun _ => rfl) (by decide) (by decide) (by decide) (Nat.le_of_ble_eq_true rfl) (Nat.le_of_ble_eq_true rfl) dX1_init_24 (fun qp dA2 H hK hP hD hS => ?_)
  refine W.widen (k := 3) (n := 352) (Nat.le_refl _) (Nat.le_refl _) ?_
  have e2 : dA = dA2 := (va_one hK (i := 0) (j := 1) rfl rfl).symm
  subst e2
  have hK : va_K D vwCl [(dA, .int), (dA, .int)] s := hK
  have hK : va_K D vwCl [(dA, .int)] s := hK.sub [0] rfl
  have hP : va_P D vwCl [(h0, .inr (1, [.ref qn, .ref qo, .null, .null, .null, .null, .int 0, .null])), (qn, .inl (dA, 48, .inl (nA (pm_nn 0)))), (qo, .inl (dA, 48, .inl (fun _ => 0))), (qp, .inl (dA, 256, .inl (nA (fun _ => 0))))] H := hP
  have hD : va_D A [(h0, .inr (1, [.ref qn, .ref qo, .null, .null, .null, .null, .int 0, .null])), (qn, .inl (dA, 48, .inl (nA (pm_nn 0)))), (qo, .inl (dA, 48, .inl (fun _ => 0))), (qp, .inl (dA, 256, .inl (nA (fun _ => 0))))] := hD
  refine va_putF (D := D) (ci := 1) (v := .ref qp) (ty := .array .int) (C := RX1) (T := TX1) (N := 8) hx hb hts in_X1 tyX1 tyX1_ok nmX1 hown hK hP hD hS 0 rfl rfl 2 (by decide) (hts _ q130) (fun _ h9 => h9) rfl hin rfl (by decide +kernel) rfl rfl (Nat.le_of_ble_eq_true rfl) dX1_init_26 (fun H locs hP hD hS => ?_)
  have hP : va_P D vwCl [(h0, .inr (1, [.ref qn, .ref qo, .ref qp, .null, .null, .null, .int 0, .null])), (qn, .inl (dA, 48, .inl (nA (pm_nn 0)))), (qo, .inl (dA, 48, .inl (fun _ => 0))), (qp, .inl (dA, 256, .inl (nA (fun _ => 0))))] H := hP
  have hD : va_D A [(h0, .inr (1, [.ref qn, .ref qo, .ref qp, .null, .null, .null, .int 0, .null])), (qn, .inl (dA, 48, .inl (nA (pm_nn 0)))), (qo, .inl (dA, 48, .inl (fun _ => 0))), (qp, .inl (dA, 256, .inl (nA (fun _ => 0))))] := hD
  refine lv_aload_n hx hb dX1_init_29 rfl (lv_at hl 0 rfl) ?_
  refine lv_sipush (v := nI 256) hx hb dX1_init_30 (by decide) ?_
  refine va_newa (atype := .int) (ty := .int) (n := nI 256) (N' := 256) (a0 := (256, .inl (fun _ => 0))) hx hb (hts _ q46) rfl hK hP hD hS hA (fun _ => rfl) (by decide) (by decide) (by decide) (Nat.le_of_ble_eq_true rfl) (Nat.le_of_ble_eq_true rfl) dX1_init_33 (fun qf dA3 H hK hP hD hS => ?_)
  refine W.widen (k := 4) (n := 608) (Nat.le_refl _) (Nat.le_refl _) ?_
  have e3 : dA = dA3 := (va_one hK (i := 0) (j := 1) rfl rfl).symm
  subst e3
  have hK : va_K D vwCl [(dA, .int), (dA, .int)] s := hK
  have hK : va_K D vwCl [(dA, .int)] s := hK.sub [0] rfl
  have hP : va_P D vwCl [(h0, .inr (1, [.ref qn, .ref qo, .ref qp, .null, .null, .null, .int 0, .null])), (qn, .inl (dA, 48, .inl (nA (pm_nn 0)))), (qo, .inl (dA, 48, .inl (fun _ => 0))), (qp, .inl (dA, 256, .inl (nA (fun _ => 0)))), (qf, .inl (dA, 256, .inl (fun _ => 0)))] H := hP
  have hD : va_D A [(h0, .inr (1, [.ref qn, .ref qo, .ref qp, .null, .null, .null, .int 0, .null])), (qn, .inl (dA, 48, .inl (nA (pm_nn 0)))), (qo, .inl (dA, 48, .inl (fun _ => 0))), (qp, .inl (dA, 256, .inl (nA (fun _ => 0)))), (qf, .inl (dA, 256, .inl (fun _ => 0)))] := hD
  refine va_putF (D := D) (ci := 1) (v := .ref qf) (ty := .array .int) (C := RX1) (T := TX1) (N := 8) hx hb hts in_X1 tyX1 tyX1_ok nmX1 hown hK hP hD hS 0 rfl rfl 3 (by decide) (hts _ q131) (fun _ h9 => h9) rfl hin rfl (by decide +kernel) rfl rfl (Nat.le_of_ble_eq_true rfl) dX1_init_35 (fun H locs hP hD hS => ?_)
  have hP : va_P D vwCl [(h0, .inr (1, [.ref qn, .ref qo, .ref qp, .ref qf, .null, .null, .int 0, .null])), (qn, .inl (dA, 48, .inl (nA (pm_nn 0)))), (qo, .inl (dA, 48, .inl (fun _ => 0))), (qp, .inl (dA, 256, .inl (nA (fun _ => 0)))), (qf, .inl (dA, 256, .inl (fun _ => 0)))] H := hP
  have hD : va_D A [(h0, .inr (1, [.ref qn, .ref qo, .ref qp, .ref qf, .null, .null, .int 0, .null])), (qn, .inl (dA, 48, .inl (nA (pm_nn 0)))), (qo, .inl (dA, 48, .inl (fun _ => 0))), (qp, .inl (dA, 256, .inl (nA (fun _ => 0)))), (qf, .inl (dA, 256, .inl (fun _ => 0)))] := hD
  refine lv_aload_n hx hb dX1_init_38 rfl (lv_at hl 0 rfl) ?_
  refine lv_sipush (v := nI 256) hx hb dX1_init_39 (by decide) ?_
  refine va_newa (atype := .int) (ty := .int) (n := nI 256) (N' := 256) (a0 := (256, .inl (nA (fun _ => 0)))) hx hb (hts _ q46) rfl hK hP hD hS hA (fun _ => rfl) (by decide) (by decide) (by decide) (Nat.le_of_ble_eq_true rfl) (Nat.le_of_ble_eq_true rfl) dX1_init_42 (fun qb dA4 H hK hP hD hS => ?_)
  refine W.widen (k := 5) (n := 864) (Nat.le_refl _) (Nat.le_refl _) ?_
  have e4 : dA = dA4 := (va_one hK (i := 0) (j := 1) rfl rfl).symm
  subst e4
  have hK : va_K D vwCl [(dA, .int), (dA, .int)] s := hK
  have hK : va_K D vwCl [(dA, .int)] s := hK.sub [0] rfl
  have hP : va_P D vwCl [(h0, .inr (1, [.ref qn, .ref qo, .ref qp, .ref qf, .null, .null, .int 0, .null])), (qn, .inl (dA, 48, .inl (nA (pm_nn 0)))), (qo, .inl (dA, 48, .inl (fun _ => 0))), (qp, .inl (dA, 256, .inl (nA (fun _ => 0)))), (qf, .inl (dA, 256, .inl (fun _ => 0))), (qb, .inl (dA, 256, .inl (nA (fun _ => 0))))] H := hP
  have hD : va_D A [(h0, .inr (1, [.ref qn, .ref qo, .ref qp, .ref qf, .null, .null, .int 0, .null])), (qn, .inl (dA, 48, .inl (nA (pm_nn 0)))), (qo, .inl (dA, 48, .inl (fun _ => 0))), (qp, .inl (dA, 256, .inl (nA (fun _ => 0)))), (qf, .inl (dA, 256, .inl (fun _ => 0))), (qb, .inl (dA, 256, .inl (nA (fun _ => 0))))] := hD
  refine va_putF (D := D) (ci := 1) (v := .ref qb) (ty := .array .int) (C := RX1) (T := TX1) (N := 8) hx hb hts in_X1 tyX1 tyX1_ok nmX1 hown hK hP hD hS 0 rfl rfl 4 (by decide) (hts _ q132) (fun _ h9 => h9) rfl hin rfl (by decide +kernel) rfl rfl (Nat.le_of_ble_eq_true rfl) dX1_init_44 (fun H locs hP hD hS => ?_)
  have hP : va_P D vwCl [(h0, .inr (1, [.ref qn, .ref qo, .ref qp, .ref qf, .ref qb, .null, .int 0, .null])), (qn, .inl (dA, 48, .inl (nA (pm_nn 0)))), (qo, .inl (dA, 48, .inl (fun _ => 0))), (qp, .inl (dA, 256, .inl (nA (fun _ => 0)))), (qf, .inl (dA, 256, .inl (fun _ => 0))), (qb, .inl (dA, 256, .inl (nA (fun _ => 0))))] H := hP
  have hD : va_D A [(h0, .inr (1, [.ref qn, .ref qo, .ref qp, .ref qf, .ref qb, .null, .int 0, .null])), (qn, .inl (dA, 48, .inl (nA (pm_nn 0)))), (qo, .inl (dA, 48, .inl (fun _ => 0))), (qp, .inl (dA, 256, .inl (nA (fun _ => 0)))), (qf, .inl (dA, 256, .inl (fun _ => 0))), (qb, .inl (dA, 256, .inl (nA (fun _ => 0))))] := hD
  refine lv_aload_n hx hb dX1_init_47 rfl (lv_at hl 0 rfl) ?_
  refine lv_sipush (v := nI 256) hx hb dX1_init_48 (by decide) ?_
  refine va_newa (atype := .boolean) (ty := .boolean) (n := nI 256) (N' := 256) (a0 := (256, .inl (nA (fun _ => 0)))) hx hb (hts _ q153) rfl hK hP hD hS hA (fun _ => rfl) (by decide) (by decide) (by decide) (Nat.le_of_ble_eq_true rfl) (Nat.le_of_ble_eq_true rfl) dX1_init_51 (fun qk dB H hK hP hD hS => ?_)
  refine W.widen (k := 6) (n := 1120) (Nat.le_refl _) (Nat.le_refl _) ?_
  have hK : va_K D vwCl [(dA, .int), (dB, .boolean)] s := hK
  have hP : va_P D vwCl [(h0, .inr (1, [.ref qn, .ref qo, .ref qp, .ref qf, .ref qb, .null, .int 0, .null])), (qn, .inl (dA, 48, .inl (nA (pm_nn 0)))), (qo, .inl (dA, 48, .inl (fun _ => 0))), (qp, .inl (dA, 256, .inl (nA (fun _ => 0)))), (qf, .inl (dA, 256, .inl (fun _ => 0))), (qb, .inl (dA, 256, .inl (nA (fun _ => 0)))), (qk, .inl (dB, 256, .inl (nA (fun _ => 0))))] H := hP
  have hD : va_D A [(h0, .inr (1, [.ref qn, .ref qo, .ref qp, .ref qf, .ref qb, .null, .int 0, .null])), (qn, .inl (dA, 48, .inl (nA (pm_nn 0)))), (qo, .inl (dA, 48, .inl (fun _ => 0))), (qp, .inl (dA, 256, .inl (nA (fun _ => 0)))), (qf, .inl (dA, 256, .inl (fun _ => 0))), (qb, .inl (dA, 256, .inl (nA (fun _ => 0)))), (qk, .inl (dB, 256, .inl (nA (fun _ => 0))))] := hD
  refine va_putF (D := D) (ci := 1) (v := .ref qk) (ty := .array .boolean) (C := RX1) (T := TX1) (N := 8) hx hb hts in_X1 tyX1 tyX1_ok nmX1 hown hK hP hD hS 0 rfl rfl 5 (by decide) (hts _ q133) (fun _ h9 => h9) rfl hin rfl (by decide +kernel) rfl rfl (Nat.le_of_ble_eq_true rfl) dX1_init_53 (fun H locs hP hD hS => ?_)
  have hP : va_P D vwCl [(h0, .inr (1, [.ref qn, .ref qo, .ref qp, .ref qf, .ref qb, .ref qk, .int 0, .null])), (qn, .inl (dA, 48, .inl (nA (pm_nn 0)))), (qo, .inl (dA, 48, .inl (fun _ => 0))), (qp, .inl (dA, 256, .inl (nA (fun _ => 0)))), (qf, .inl (dA, 256, .inl (fun _ => 0))), (qb, .inl (dA, 256, .inl (nA (fun _ => 0)))), (qk, .inl (dB, 256, .inl (nA (fun _ => 0))))] H := hP
  have hD : va_D A [(h0, .inr (1, [.ref qn, .ref qo, .ref qp, .ref qf, .ref qb, .ref qk, .int 0, .null])), (qn, .inl (dA, 48, .inl (nA (pm_nn 0)))), (qo, .inl (dA, 48, .inl (fun _ => 0))), (qp, .inl (dA, 256, .inl (nA (fun _ => 0)))), (qf, .inl (dA, 256, .inl (fun _ => 0))), (qb, .inl (dA, 256, .inl (nA (fun _ => 0)))), (qk, .inl (dB, 256, .inl (nA (fun _ => 0))))] := hD
  refine lv_aload_n hx hb dX1_init_56 rfl (lv_at hl 0 rfl) ?_
  refine lv_sipush (v := nI 256) hx hb dX1_init_57 (by decide) ?_
  refine va_newa (atype := .int) (ty := .int) (n := nI 256) (N' := 256) (a0 := (256, .inl (nA (fun _ => 0)))) hx hb (hts _ q46) rfl hK hP hD hS hA (fun _ => rfl) (by decide) (by decide) (by decide) (Nat.le_of_ble_eq_true rfl) (Nat.le_of_ble_eq_true rfl) dX1_init_60 (fun qw dA6 H hK hP hD hS => ?_)
  refine W.widen (k := 7) (n := 1376) (Nat.le_refl _) (Nat.le_refl _) ?_
  have e6 : dA = dA6 := (va_one hK (i := 0) (j := 2) rfl rfl).symm
  subst e6
  have hK : va_K D vwCl [(dA, .int), (dB, .boolean), (dA, .int)] s := hK
  have hK : va_K D vwCl [(dA, .int), (dB, .boolean)] s := hK.sub [0, 1] rfl
  have hP : va_P D vwCl [(h0, .inr (1, [.ref qn, .ref qo, .ref qp, .ref qf, .ref qb, .ref qk, .int 0, .null])), (qn, .inl (dA, 48, .inl (nA (pm_nn 0)))), (qo, .inl (dA, 48, .inl (fun _ => 0))), (qp, .inl (dA, 256, .inl (nA (fun _ => 0)))), (qf, .inl (dA, 256, .inl (fun _ => 0))), (qb, .inl (dA, 256, .inl (nA (fun _ => 0)))), (qk, .inl (dB, 256, .inl (nA (fun _ => 0)))), (qw, .inl (dA, 256, .inl (nA (fun _ => 0))))] H := hP
  have hD : va_D A [(h0, .inr (1, [.ref qn, .ref qo, .ref qp, .ref qf, .ref qb, .ref qk, .int 0, .null])), (qn, .inl (dA, 48, .inl (nA (pm_nn 0)))), (qo, .inl (dA, 48, .inl (fun _ => 0))), (qp, .inl (dA, 256, .inl (nA (fun _ => 0)))), (qf, .inl (dA, 256, .inl (fun _ => 0))), (qb, .inl (dA, 256, .inl (nA (fun _ => 0)))), (qk, .inl (dB, 256, .inl (nA (fun _ => 0)))), (qw, .inl (dA, 256, .inl (nA (fun _ => 0))))] := hD
  refine va_putF (D := D) (ci := 1) (v := .ref qw) (ty := .array .int) (C := RX1) (T := TX1) (N := 8) hx hb hts in_X1 tyX1 tyX1_ok nmX1 hown hK hP hD hS 0 rfl rfl 7 (by decide) (hts _ q135) (fun _ h9 => h9) rfl hin rfl (by decide +kernel) rfl rfl (Nat.le_of_ble_eq_true rfl) dX1_init_62 (fun H locs hP hD hS => ?_)
  have hP : va_P D vwCl [(h0, .inr (1, [.ref qn, .ref qo, .ref qp, .ref qf, .ref qb, .ref qk, .int 0, .ref qw])), (qn, .inl (dA, 48, .inl (nA (pm_nn 0)))), (qo, .inl (dA, 48, .inl (fun _ => 0))), (qp, .inl (dA, 256, .inl (nA (fun _ => 0)))), (qf, .inl (dA, 256, .inl (fun _ => 0))), (qb, .inl (dA, 256, .inl (nA (fun _ => 0)))), (qk, .inl (dB, 256, .inl (nA (fun _ => 0)))), (qw, .inl (dA, 256, .inl (nA (fun _ => 0))))] H := hP
  have hD : va_D A [(h0, .inr (1, [.ref qn, .ref qo, .ref qp, .ref qf, .ref qb, .ref qk, .int 0, .ref qw])), (qn, .inl (dA, 48, .inl (nA (pm_nn 0)))), (qo, .inl (dA, 48, .inl (fun _ => 0))), (qp, .inl (dA, 256, .inl (nA (fun _ => 0)))), (qf, .inl (dA, 256, .inl (fun _ => 0))), (qb, .inl (dA, 256, .inl (nA (fun _ => 0)))), (qk, .inl (dB, 256, .inl (nA (fun _ => 0)))), (qw, .inl (dA, 256, .inl (nA (fun _ => 0))))] := hD
  have hP : va_P D vwCl (mwf h0 qn qo qp qf qb qk qw dA dB (pm_nn 0, (fun _ => 0), (fun _ => 0), (fun _ => 0), (fun _ => 0), (fun _ => 0), 0, (fun _ => 0))) H := hP
  have hD : va_D A (mwf h0 qn qo qp qf qb qk qw dA dB (pm_nn 0, (fun _ => 0), (fun _ => 0), (fun _ => 0), (fun _ => 0), (fun _ => 0), 0, (fun _ => 0))) := hD
  refine lv_iconst (v := nI 0) hx hb dX1_init_65 (by decide) ?_
  refine lv_istore_n (lv' := [(1, .int (nI 0)), (0, .ref h0)]) hx hb dX1_init_66 rfl hl (by decide) rfl (fun ls hl => ?_)
  have loop_67 : ∀ (n : Nat) (i : Nat), i ≤ 48 → 48 + 1 ≤ i + n → ∀ (H : Heap) (locs : List Loc), va_P D vwCl (mwf h0 qn qo qp qf qb qk qw dA dB (pm_nn i, (fun _ => 0), (fun _ => 0), (fun _ => 0), (fun _ => 0), (fun _ => 0), 0, (fun _ => 0))) H → va_D A (mwf h0 qn qo qp qf qb qk qw dA dB (pm_nn i, (fun _ => 0), (fun _ => 0), (fun _ => 0), (fun _ => 0), (fun _ => 0), 0, (fun _ => 0))) → va_S A s.heap H locs → ∀ (ls : Array Slot), lv_has ls 2 [(0, .ref h0), (1, .int (nI i))] → W p l e rmX1_init s m args below meth c H locs 7 1376 Q (F0 m 67 ls []) := by
    intro n
    induction n with
    | zero =>
      intro i hi hf
      exact absurd hf (by omega)
    | succ n ih_67 =>
      intro i hi hf H locs hP hD hS ls hl
      refine lv_iload_n hx hb dX1_init_67 rfl (lv_at hl 1 rfl) ?_
      refine lv_bipush (v := nI 48) hx hb dX1_init_68 (by decide) ?_
      refine n_icmp_ge (tgt := 88) hx hb dX1_init_70 (by decide) (by omega) (by omega) (fun c_70 => ?_) (fun c_70 => ?_)
      · skip
        subst hQ
        have e48 : i = 48 := by omega
        rw [e48] at hP hD
        exact W.vret hx hb hr (fun t ht hW => ⟨⟨(), rfl, trivial, qn, qo, qp, qf, qb, qk, qw, dA, dB, by rw [ht]; exact hP, va_K.moved hW.alike hK, hD⟩, hS.F ht⟩) hS.2.2 dX1_init_88 (hlocks := hlocks)
      · skip
        refine lv_aload_n hx hb dX1_init_73 rfl (lv_at hl 0 rfl) ?_
        refine va_get (D := D) (ci := 1) (v := .ref qn) (C := RX1) (T := TX1) (N := 8) hx hb hts in_X1 hown hK hP 0 rfl rfl 0 (by decide) (hts _ q128) (fun _ h9 => h9) rfl dX1_init_74 ?_
        refine lv_iload_n hx hb dX1_init_77 rfl (lv_at hl 1 rfl) ?_
        refine lv_iload_n hx hb dX1_init_78 rfl (lv_at hl 1 rfl) ?_
        refine lv_iconst (v := nI 3) hx hb dX1_init_79 (by decide) ?_
        refine n_idiv hx hb (by omega) (by omega) (by omega) dX1_init_80 ?_
        refine n_iast (g := pm_nn i) hx hb hK hP hD hS 1 0 rfl rfl (by omega) (by decide) dX1_init_81 (fun H locs hP hD hS => ?_)
        have hP : va_P D vwCl (mwf h0 qn qo qp qf qb qk qw dA dB (pm_up (pm_nn i) i (i / 3), (fun _ => 0), (fun _ => 0), (fun _ => 0), (fun _ => 0), (fun _ => 0), 0, (fun _ => 0))) H := hP
        have hD : va_D A (mwf h0 qn qo qp qf qb qk qw dA dB (pm_up (pm_nn i) i (i / 3), (fun _ => 0), (fun _ => 0), (fun _ => 0), (fun _ => 0), (fun _ => 0), 0, (fun _ => 0))) := hD
        refine lv_iinc (v := nI (i + 1)) (lv' := [(1, .int (nI (i + 1))), (0, .ref h0)]) hx hb dX1_init_82 hl (k := 1) rfl (nI_inc1 _) (by decide) rfl (fun ls hl => ?_)
        refine lv_goto (tgt := 67) hx hb dX1_init_85 (by decide) ?_
        rw [pm_nn_s] at hP hD
        exact ih_67 (i + 1) (by omega) (by omega) H locs hP hD hS ls (lv_sub hl [1, 0] rfl)
  exact loop_67 49 0 (by omega) (by omega) _ _ hP hD hS ls (lv_sub hl [1, 0] rfl)
end
section
/-! THE CLAIM OUT OF ONE WALK OF THE LAW'S BODY. Your part is whole_start (and what it stands on); all else here is the same for every law, but numbers. -/
def R_law : String := "MachineTwinsLaw"
def lw_P (b : Addr) (xs : List Int32) (args : Array Value) (s : State) : Prop := args = #[.ref b] ∧ s.IntsAt b xs ∧ xs.length ≤ 256 ∧ (Jvm.Cond.and given_1 narrow_1).before args s = true
def lw_Q (_ : Array Value) (s : State) (o : Outcome) (t : State) : Prop := o = .returned (some (.int 1)) ∧ Framed s o t [] 600000 7290000
def lw_Z (below : List Frame) (a : Array Value) (s : State) : State → Prop := fun t => ∃ o, t.status = .running ∧ Ended t below o ∧ lw_Q a s o t
/-- the law's own end, with 1 on the stack, nothing written that was there before, its room as the claim has it -/
theorem lw_ret {p : Program} {l : Launch} {e : Env} {s : State} {m : MethodId} {below : List Frame} {meth : Method} {c : Code} {b : Nat} (hx : p.tables.exec = Jvm.exec) (hb : c.code = code) (hr : meth.sig.returnType = ret) (hlocks : meth.locks = false) {pc : Nat} {H : Heap} {ls : Array Slot} (hdg : decode code pc = .ok (.ireturn, 1)) : W p l e room_1 s m #[Value.ref b] below meth c H [] 600000 7290000 (lw_Z below #[Value.ref b] s) (F0 m pc ls [.int 1]) := by
  intro T hT X
  obtain ⟨fs, hret, hrun, hended, hW, hframe⟩ := X.leave (v := some (.int 1)) (hlocks := hlocks) (fun h => by rw [hr] at h; cases h)
  have hmeth' : T.vm.method? m = some meth := X.method'
  refine ⟨T.setFrames fs, ?_, .returned (some (.int 1)), hrun, hended, rfl, ⟨_, rfl⟩, hW, hframe⟩
  jvm_step X.here [X.here.top, hx, hb, hdg, hmeth', hr, ret, narrow_b1]
  (try refine ⟨rfl, ?_⟩); (try refine ⟨rfl, ?_⟩)
  first | (intro acts; rw [hret _ acts rfl rfl rfl]) | rw [hret _ _ rfl rfl rfl]
  exact Steps.refl _
/-- what holds at the law's entry: the machine, the code, the tables' words (any of lw_tbl by 'hts w (by decide +kernel)'), the script of L ints xs at the cell b, what the Statement gives of the start (any of its parts by flat_of_before) -/
def lw_At (p : Program) (s : State) (m : MethodId) (meth : Method) (c : Code) (b L : Nat) (xs : Nat → Int32) : Prop :=
  p.tables.exec = Jvm.exec ∧ c.code = code ∧ meth.sig.returnType = ret ∧ c.maxLocals = 4 ∧ s.vm.findClass R_law = some m.cls ∧ (∀ w ∈ lw_tbl, w.before #[Value.ref b] s = true) ∧ va_X b L xs s s.heap ∧ b < s.heap.size ∧ meth.locks = false ∧ (Jvm.Cond.and given_1 narrow_1).before #[Value.ref b] s = true
/-! ===== rows for the law ===== -/
theorem nI_inc4 (n : Nat) : nI n + Int32.ofInt 4 = nI (n + 4) := nI_add n 4
theorem pm_four {L i : Nat} (hL : L ≤ 256) (hi : i ≤ L) (h : ¬ nI L - nI 4 < nI i) : i + 4 ≤ L := by
  rw [fa_lt, pk_sub_toInt (by omega) (by omega), nI_toInt (by omega)] at h
  omega
theorem pm_fm {α : Type} {f : Nat → Option α} : ∀ (is : List Nat) (r : List α), is.map f = r.map some → is.filterMap f = r
  | [], [], _ => rfl
  | [], _ :: _, h => by simp at h
  | _ :: _, [], h => by simp at h
  | i :: is, x :: r, h => by
    rw [List.map_cons, List.map_cons, List.cons.injEq] at h
    rw [List.filterMap_cons_some h.1, pm_fm is r h.2]
section LR
variable {p : Program} {l : Launch} {e : Env} {R : Room} {s : State} {m : MethodId} {args : Array Value} {below : List Frame} {meth : Method} {c : Code} {H : Heap} {locs : List Loc} {cells slots : Nat} {Q : State → Prop}
variable {cc : ByteArray} {pc : Nat} {ls : Array Slot} {rest : List Value} {D : va_G} {A : Nat → Prop} {tys : List (ClassId × FieldType)} {H0 : Heap}
theorem n_sld (hexec : p.tables.exec = Jvm.exec) (hb : c.code = cc) {b L : Nat} {xs : Nat → Int32} (hX : va_X b L xs s H0) (hbl : b < H0.size) (hbA : ¬ A b) (hS : va_S A H0 H locs) {i : Nat} (hi : i < L) (hL : L < 2 ^ 31) (hdg : decode cc pc = .ok (.iaload, 1))
    (kk : W p l e R s m args below meth c H locs cells slots Q (F0 m (pc + 1) ls (.int (xs i) :: rest))) : W p l e R s m args below meth c H locs cells slots Q (F0 m pc ls (.int (nI i) :: .ref b :: rest)) :=
  va_sld hexec hb hX hbl hbA hS (vp_in_nI hi hL) hdg (by rw [nI_clamp (Nat.lt_trans hi hL)]; exact kk)
variable {S : Type} {Wf : S → va_W} {u0 : S} {y : MethodName} {bytes : ByteArray} {maxL nL n index ci q0 : Nat} {ret : Option FieldType} {wsm Ts : List Cond} {rm : Room} {own C : String} {T : u_T} {N : Nat} {b : Nat} {As st0 : List Value} {fs : List Value} {w wr : va_W}
/-- a call of a method of one of the world's objects: the rest of the world stays -/
theorem cx_VL {post : Int32 → S → Prop} (Sx : CallFix p m c cc nL s args Ts own) (hM : cM l y wsm rm D tys (.ref b :: As) (Wf u0) H.size (cQi D tys Wf post)) (cw : CallW R s args own C index y bytes maxL ret wsm rm rm.cells rm.slots n) (hK : va_K D vwCl tys s) (hP : va_P D vwCl w H) (hD : va_D A w) (hS : va_S A s.heap H locs) (hA : ∀ q : Nat, s.heap.size ≤ q → A q) (isC isR : List Nat) (hC : isC.map (fun i => w[i]?) = (Wf u0).map some) (hR : isR.map (fun i => w[i]?) = wr.map some) (hnc : va_nd isC = true) (hnr : va_nd isR = true) (hdis : ∀ i ∈ isR, i ∉ isC) (he : (Wf u0)[q0]? = some (b, .inr (ci, fs))) (hc : vwCl[ci]? = some (C, T, N)) (hst : st0 = As.reverse ++ .ref b :: rest) (hn : As.length = n) (hsize : ls.size = nL) (hW : (rest.map fun v => v.category).sum ≤ 8) (hdg : decode cc pc = .ok (.invokevirtual index, 3)) (h0c : rm.cells = 0) (h0s : rm.slots = 0) (hf : cells ≤ R.cells ∧ slots ≤ R.slots)
    (kk : ∀ (r : Int32) (u : S) (H1 : Heap) (locs1 : List Loc), post r u → va_P D vwCl (wr ++ Wf u) H1 → va_D A (wr ++ Wf u) → va_S A s.heap H1 locs1 → W p l e R s m args below meth c H1 locs1 cells slots Q (F0 m (pc + 3) ls (.int r :: rest))) : W p l e R s m args below meth c H locs cells slots Q (F0 m pc ls st0) := by
  subst hst
  have hPc := hP.sub (ws' := Wf u0) isC (pm_fm isC _ hC)
  have hDc := hD.sub (ws' := Wf u0) isC hnc hC
  have hFc := va_free (wc := Wf u0) hD hS hA isC hC
  refine va_calli (va_runV (As := As) (rest := rest) Sx hM cw ⟨cx_blind, va_recv hK hPc hc he, fun U hU hW => ⟨rfl, by rw [hU], by rw [hU]; exact hPc, va_K.moved hW.alike hK, hDc.weaken (fun _ _ _ _ => trivial)⟩⟩ rfl hn hsize rfl (lv_room hW) hdg (by rw [h0c, h0s]; exact hf)) hS (fun q _ h => hFc q h) hFc (fun r u t H1 locs ht hvm hw hB hz1 hk1 hS => ?_)
  obtain ⟨hP1, hK1, hD1⟩ := hB
  rw [ht] at hP1
  rw [h0c, h0s]
  obtain ⟨hP2, hD2⟩ := va_join (wr := wr) (w1 := Wf u) hP hD isC isR hC hR hnr hdis hk1 hFc hP1 hD1
  exact kk r u H1 locs hw hP2 hD2 hS
end LR
end
section
/-! ===== the law's loop ===== -/
set_option maxHeartbeats 1000000 in
set_option maxRecDepth 100000 in
theorem law_loop {p : Program} {e : Env} {s : State} {m : MethodId} {below : List Frame} {meth : Method} {c : Code} (l : Launch) {b L : Nat} {xs : Nat → Int32} (hL : L ≤ 256) (C0 : lw_At p s m meth c b L xs) {D : va_G} {dA eA eB : ClassId} {xh xn xo xg xl mh mn mo mp mf mb mk mw : Nat} (hKx : va_K D vwCl [(dA, .int)] s) (hKm : va_K D vwCl [(eA, .int), (eB, .boolean)] s) :
    ∀ (n i : Nat) (nx : Nat → Nat) (ou : Nat → Int32) (rd ro : Nat) (gr le : Nat → Nat) (wl : Nat) (pa : Nat → Nat) (fr : Nat → Int32) (bb kn : Nat → Nat) (pn : Nat) (wo : Nat → Nat), i ≤ L → L + 1 ≤ i + n → pm_xv nx ou rd ro gr → (∀ i, nx i < 16) → (∀ z, kn z < 2) → ∀ (H : Heap) (locs : List Loc), va_P D vwCl (xwf xh xn xo xg xl dA (nx, ou, rd, ro, gr, le, wl) ++ mwf mh mn mo mp mf mb mk mw eA eB (nx, ou, pa, fr, bb, kn, pn, wo)) H → va_D (fun q : Nat => s.heap.size ≤ q) (xwf xh xn xo xg xl dA (nx, ou, rd, ro, gr, le, wl) ++ mwf mh mn mo mp mf mb mk mw eA eB (nx, ou, pa, fr, bb, kn, pn, wo)) → va_S (fun q : Nat => s.heap.size ≤ q) s.heap H locs → ∀ (ls : Array Slot), lv_has ls 4 [(0, .ref b), (1, .ref xh), (2, .ref mh), (3, .int (nI i))] → W p l e room_1 s m #[Value.ref b] below meth c H locs 13 1791 (lw_Z below #[Value.ref b] s) (F0 m 18 ls []) := by
  obtain ⟨hx, hb, hr, hml, hown, hts0, hX, hbl, hlocks, hgv⟩ := C0
  have hts : ∀ w ∈ lw_all, w.before #[Value.ref b] s = true := fun w h => hts0 w (lw_all_tbl h)
  have hA : ∀ q : Nat, s.heap.size ≤ q → (fun q : Nat => s.heap.size ≤ q) q := fun _ h => h
  have hbA : ¬ (fun q : Nat => s.heap.size ≤ q) b := Nat.not_le.mpr hbl
  intro n
  induction n with
  | zero =>
    intro i nx ou rd ro gr le wl pa fr bb kn pn wo hi hf
    exact absurd hf (by omega)
  | succ n ih =>
    intro i nx ou rd ro gr le wl pa fr bb kn pn wo hi hf hv hnx hk2 H locs hP hD hS ls hl
    refine lv_iload_n hx hb dL_law_18 rfl (lv_at hl 3 rfl) ?_
    refine lv_aload_n hx hb dL_law_19 rfl (lv_at hl 0 rfl) ?_
    refine va_slen hx hb hX hbl hbA hS dL_law_20 ?_
    refine n_top _ (nI L) rfl ?_
    refine lv_iconst (v := nI 4) hx hb dL_law_21 (by decide) ?_
    refine lv_isub hx hb dL_law_22 ?_
    refine lv_icmp_gt (tgt := 404) hx hb dL_law_23 (by decide) (fun c_23 => ?_) (fun c_23 => ?_)
    · refine lv_iconst (v := 1) hx hb dL_law_404 (by decide) ?_
      refine va_forget (fun q hq => hS.2.2 q hq) ?_
      refine W.widen (k := 600000) (n := 7290000) (by decide) (by decide) ?_
      exact lw_ret hx hb hr hlocks dL_law_405
    · have h4 := pm_four hL hi c_23
      refine lv_aload_n hx hb dL_law_26 rfl (lv_at hl 0 rfl) ?_
      refine lv_iload_n hx hb dL_law_27 rfl (lv_at hl 3 rfl) ?_
      refine n_sld hx hb hX hbl hbA hS (by omega) (by omega) dL_law_28 ?_
      refine lv_bipush (v := nI 15) hx hb dL_law_29 (by decide) ?_
      refine lv_iand hx hb dL_law_31 ?_
      obtain ⟨kk, hkk, ekk⟩ := pk_andE (xs i) (m := nI 15) 4 (by decide)
      refine n_top _ (nI kk) ekk ?_
      have hkk : kk < 16 := hkk
      rcases (show kk = 0 ∨ kk = 1 ∨ kk = 2 ∨ kk = 3 ∨ kk = 4 ∨ kk = 5 ∨ kk = 6 ∨ kk = 7 ∨ kk = 8 ∨ kk = 9 ∨ 10 ≤ kk by omega) with rfl | rfl | rfl | rfl | rfl | rfl | rfl | rfl | rfl | rfl | hbig
      · refine lv_tableIn (off := 56) (tgt := 88) hx hb dL_law_32 (by decide) (by decide) (by decide) (by decide) ?_
        refine lv_aload_n hx hb dL_law_88 rfl (lv_at hl 1 rfl) ?_
        refine lv_aload_n hx hb dL_law_89 rfl (lv_at hl 0 rfl) ?_
        refine lv_iload_n hx hb dL_law_90 rfl (lv_at hl 3 rfl) ?_
        refine lv_iconst (v := nI 1) hx hb dL_law_91 (by decide) ?_
        refine n_iadd hx hb dL_law_92 ?_
        refine n_sld hx hb hX hbl hbA hS (by omega) (by omega) dL_law_93 ?_
        refine lv_aload_n hx hb dL_law_94 rfl (lv_at hl 0 rfl) ?_
        refine lv_iload_n hx hb dL_law_95 rfl (lv_at hl 3 rfl) ?_
        refine lv_iconst (v := nI 2) hx hb dL_law_96 (by decide) ?_
        refine n_iadd hx hb dL_law_97 ?_
        refine n_sld hx hb hX hbl hbA hS (by omega) (by omega) dL_law_98 ?_
        refine lv_aload_n hx hb dL_law_99 rfl (lv_at hl 0 rfl) ?_
        refine lv_iload_n hx hb dL_law_100 rfl (lv_at hl 3 rfl) ?_
        refine lv_iconst (v := nI 3) hx hb dL_law_101 (by decide) ?_
        refine n_iadd hx hb dL_law_102 ?_
        refine n_sld hx hb hX hbl hbA hS (by omega) (by omega) dL_law_103 ?_
        refine cx_VL (As := [.int (xs (i + 1)), .int (xs (i + 2)), .int (xs (i + 3))]) (rest := []) (wr := mwf mh mn mo mp mf mb mk mw eA eB (nx, ou, pa, fr, bb, kn, pn, wo)) (q0 := 0) (ci := 0) (C := RX0) (T := TX0) (N := 7) ⟨hx, hb, hml, hown, hts⟩ (mX0_transition l D dA xh xn xo xg xl H.size nx ou rd ro gr le wl (xs (i + 1)) (xs (i + 2)) (xs (i + 3)) ) (cwV 3 hts (lw_V q47 q48 q49 q14 q50) rfl rfl rfl (by decide +kernel) ⟨Nat.le_of_ble_eq_true rfl, Nat.le_of_ble_eq_true rfl⟩) hKx hP hD hS hA [0, 1, 2, 3, 4] [5, 6, 7, 8, 9, 10, 11, 12] rfl rfl (by decide) (by decide) (by decide) rfl rfl rfl rfl hl.1 (Nat.le_of_ble_eq_true rfl) dL_law_104 rfl rfl ⟨Nat.le_of_ble_eq_true rfl, Nat.le_of_ble_eq_true rfl⟩ (fun rv uv H locs hw hP hD hS => ?_)
        obtain ⟨hr1, rd1, rfl, hrd⟩ := hw
        refine lv_aload_n hx hb dL_law_107 rfl (lv_at hl 2 rfl) ?_
        refine lv_aload_n hx hb dL_law_108 rfl (lv_at hl 0 rfl) ?_
        refine lv_iload_n hx hb dL_law_109 rfl (lv_at hl 3 rfl) ?_
        refine lv_iconst (v := nI 1) hx hb dL_law_110 (by decide) ?_
        refine n_iadd hx hb dL_law_111 ?_
        refine n_sld hx hb hX hbl hbA hS (by omega) (by omega) dL_law_112 ?_
        refine lv_aload_n hx hb dL_law_113 rfl (lv_at hl 0 rfl) ?_
        refine lv_iload_n hx hb dL_law_114 rfl (lv_at hl 3 rfl) ?_
        refine lv_iconst (v := nI 2) hx hb dL_law_115 (by decide) ?_
        refine n_iadd hx hb dL_law_116 ?_
        refine n_sld hx hb hX hbl hbA hS (by omega) (by omega) dL_law_117 ?_
        refine lv_aload_n hx hb dL_law_118 rfl (lv_at hl 0 rfl) ?_
        refine lv_iload_n hx hb dL_law_119 rfl (lv_at hl 3 rfl) ?_
        refine lv_iconst (v := nI 3) hx hb dL_law_120 (by decide) ?_
        refine n_iadd hx hb dL_law_121 ?_
        refine n_sld hx hb hX hbl hbA hS (by omega) (by omega) dL_law_122 ?_
        refine cx_VL (As := [.int (xs (i + 1)), .int (xs (i + 2)), .int (xs (i + 3))]) (rest := [.int rv]) (wr := xwf xh xn xo xg xl dA (pm_trN nx (xs (i + 1)) (xs (i + 2)) (xs (i + 3)), pm_trO ou (xs (i + 1)) (xs (i + 2)) (xs (i + 3)), rd1, ro, gr, le, wl)) (q0 := 0) (ci := 1) (C := RX1) (T := TX1) (N := 8) ⟨hx, hb, hml, hown, hts⟩ (mX1_transition l D eA eB mh mn mo mp mf mb mk mw H.size nx ou pa fr bb kn pn wo (xs (i + 1)) (xs (i + 2)) (xs (i + 3)) ) (cwV 3 hts (lw_V q154 q155 q156 q15 q157) rfl rfl rfl (by decide +kernel) ⟨Nat.le_of_ble_eq_true rfl, Nat.le_of_ble_eq_true rfl⟩) hKm hP hD hS hA [0, 1, 2, 3, 4, 5, 6, 7] [8, 9, 10, 11, 12] rfl rfl (by decide) (by decide) (by decide) rfl rfl rfl rfl hl.1 (Nat.le_of_ble_eq_true rfl) dL_law_123 rfl rfl ⟨Nat.le_of_ble_eq_true rfl, Nat.le_of_ble_eq_true rfl⟩ (fun rw2 uv H locs hw hP hD hS => ?_)
        obtain ⟨hr2, rfl⟩ := hw
        refine lv_icmp_eq (tgt := 398) hx hb dL_law_126 (by decide) (fun c_e => ?_) (fun c_e => absurd (hr1.trans hr2.symm) c_e)
        refine lv_iinc (v := nI (i + 4)) (lv' := [(3, .int (nI (i + 4))), (0, .ref b), (1, .ref xh), (2, .ref mh)]) hx hb dL_law_398 hl (k := 3) rfl (nI_inc4 _) (by decide) rfl (fun ls hl => ?_)
        refine lv_goto (tgt := 18) hx hb dL_law_401 (by decide) ?_
        exact ih (i + 4) (pm_trN nx (xs (i + 1)) (xs (i + 2)) (xs (i + 3))) (pm_trO ou (xs (i + 1)) (xs (i + 2)) (xs (i + 3))) rd1 ro gr le wl pa fr bb kn pn wo (by omega) (by omega) (by rcases hrd with q | ⟨q1, q2, q3⟩; exact Or.inl q; rw [q1, q2, q3]; exact hv) (pm_trN_lt hnx _ _ _) hk2 H locs hP hD hS ls (lv_sub hl [1, 2, 3, 0] rfl)
      · refine lv_tableIn (off := 99) (tgt := 131) hx hb dL_law_32 (by decide) (by decide) (by decide) (by decide) ?_
        refine lv_aload_n hx hb dL_law_131 rfl (lv_at hl 1 rfl) ?_
        refine lv_aload_n hx hb dL_law_132 rfl (lv_at hl 0 rfl) ?_
        refine lv_iload_n hx hb dL_law_133 rfl (lv_at hl 3 rfl) ?_
        refine lv_iconst (v := nI 1) hx hb dL_law_134 (by decide) ?_
        refine n_iadd hx hb dL_law_135 ?_
        refine n_sld hx hb hX hbl hbA hS (by omega) (by omega) dL_law_136 ?_
        refine lv_aload_n hx hb dL_law_137 rfl (lv_at hl 0 rfl) ?_
        refine lv_iload_n hx hb dL_law_138 rfl (lv_at hl 3 rfl) ?_
        refine lv_iconst (v := nI 2) hx hb dL_law_139 (by decide) ?_
        refine n_iadd hx hb dL_law_140 ?_
        refine n_sld hx hb hX hbl hbA hS (by omega) (by omega) dL_law_141 ?_
        refine lv_aload_n hx hb dL_law_142 rfl (lv_at hl 0 rfl) ?_
        refine lv_iload_n hx hb dL_law_143 rfl (lv_at hl 3 rfl) ?_
        refine lv_iconst (v := nI 3) hx hb dL_law_144 (by decide) ?_
        refine n_iadd hx hb dL_law_145 ?_
        refine n_sld hx hb hX hbl hbA hS (by omega) (by omega) dL_law_146 ?_
        refine cx_VL (As := [.int (xs (i + 1)), .int (xs (i + 2)), .int (xs (i + 3))]) (rest := []) (wr := mwf mh mn mo mp mf mb mk mw eA eB (nx, ou, pa, fr, bb, kn, pn, wo)) (q0 := 0) (ci := 0) (C := RX0) (T := TX0) (N := 7) ⟨hx, hb, hml, hown, hts⟩ (mX0_exchange l D dA xh xn xo xg xl H.size nx ou rd ro gr le wl (xs (i + 1)) (xs (i + 2)) (xs (i + 3)) ) (cwV 3 hts (lw_V q54 q55 q56 q14 q57) rfl rfl rfl (by decide +kernel) ⟨Nat.le_of_ble_eq_true rfl, Nat.le_of_ble_eq_true rfl⟩) hKx hP hD hS hA [0, 1, 2, 3, 4] [5, 6, 7, 8, 9, 10, 11, 12] rfl rfl (by decide) (by decide) (by decide) rfl rfl rfl rfl hl.1 (Nat.le_of_ble_eq_true rfl) dL_law_147 rfl rfl ⟨Nat.le_of_ble_eq_true rfl, Nat.le_of_ble_eq_true rfl⟩ (fun rv uv H locs hw hP hD hS => ?_)
        obtain ⟨hr1, rd1, rfl, hrd⟩ := hw
        refine lv_aload_n hx hb dL_law_150 rfl (lv_at hl 2 rfl) ?_
        refine lv_aload_n hx hb dL_law_151 rfl (lv_at hl 0 rfl) ?_
        refine lv_iload_n hx hb dL_law_152 rfl (lv_at hl 3 rfl) ?_
        refine lv_iconst (v := nI 1) hx hb dL_law_153 (by decide) ?_
        refine n_iadd hx hb dL_law_154 ?_
        refine n_sld hx hb hX hbl hbA hS (by omega) (by omega) dL_law_155 ?_
        refine lv_aload_n hx hb dL_law_156 rfl (lv_at hl 0 rfl) ?_
        refine lv_iload_n hx hb dL_law_157 rfl (lv_at hl 3 rfl) ?_
        refine lv_iconst (v := nI 2) hx hb dL_law_158 (by decide) ?_
        refine n_iadd hx hb dL_law_159 ?_
        refine n_sld hx hb hX hbl hbA hS (by omega) (by omega) dL_law_160 ?_
        refine lv_aload_n hx hb dL_law_161 rfl (lv_at hl 0 rfl) ?_
        refine lv_iload_n hx hb dL_law_162 rfl (lv_at hl 3 rfl) ?_
        refine lv_iconst (v := nI 3) hx hb dL_law_163 (by decide) ?_
        refine n_iadd hx hb dL_law_164 ?_
        refine n_sld hx hb hX hbl hbA hS (by omega) (by omega) dL_law_165 ?_
        refine cx_VL (As := [.int (xs (i + 1)), .int (xs (i + 2)), .int (xs (i + 3))]) (rest := [.int rv]) (wr := xwf xh xn xo xg xl dA (nx, pm_exO ou (xs (i + 1)) (xs (i + 2)) (xs (i + 3)), rd1, ro, gr, le, wl)) (q0 := 0) (ci := 1) (C := RX1) (T := TX1) (N := 8) ⟨hx, hb, hml, hown, hts⟩ (mX1_exchange l D eA eB mh mn mo mp mf mb mk mw H.size nx ou pa fr bb kn pn wo (xs (i + 1)) (xs (i + 2)) (xs (i + 3)) ) (cwV 3 hts (lw_V q166 q167 q168 q15 q169) rfl rfl rfl (by decide +kernel) ⟨Nat.le_of_ble_eq_true rfl, Nat.le_of_ble_eq_true rfl⟩) hKm hP hD hS hA [0, 1, 2, 3, 4, 5, 6, 7] [8, 9, 10, 11, 12] rfl rfl (by decide) (by decide) (by decide) rfl rfl rfl rfl hl.1 (Nat.le_of_ble_eq_true rfl) dL_law_166 rfl rfl ⟨Nat.le_of_ble_eq_true rfl, Nat.le_of_ble_eq_true rfl⟩ (fun rw2 uv H locs hw hP hD hS => ?_)
        obtain ⟨hr2, rfl⟩ := hw
        refine lv_icmp_eq (tgt := 398) hx hb dL_law_169 (by decide) (fun c_e => ?_) (fun c_e => absurd (hr1.trans hr2.symm) c_e)
        refine lv_iinc (v := nI (i + 4)) (lv' := [(3, .int (nI (i + 4))), (0, .ref b), (1, .ref xh), (2, .ref mh)]) hx hb dL_law_398 hl (k := 3) rfl (nI_inc4 _) (by decide) rfl (fun ls hl => ?_)
        refine lv_goto (tgt := 18) hx hb dL_law_401 (by decide) ?_
        exact ih (i + 4) nx (pm_exO ou (xs (i + 1)) (xs (i + 2)) (xs (i + 3))) rd1 ro gr le wl pa fr bb kn pn wo (by omega) (by omega) (by rcases hrd with q | ⟨q1, q3⟩; exact Or.inl q; rw [q1, q3]; exact hv) hnx hk2 H locs hP hD hS ls (lv_sub hl [1, 2, 3, 0] rfl)
      · refine lv_tableIn (off := 142) (tgt := 174) hx hb dL_law_32 (by decide) (by decide) (by decide) (by decide) ?_
        refine lv_aload_n hx hb dL_law_174 rfl (lv_at hl 1 rfl) ?_
        refine lv_aload_n hx hb dL_law_175 rfl (lv_at hl 0 rfl) ?_
        refine lv_iload_n hx hb dL_law_176 rfl (lv_at hl 3 rfl) ?_
        refine lv_iconst (v := nI 1) hx hb dL_law_177 (by decide) ?_
        refine n_iadd hx hb dL_law_178 ?_
        refine n_sld hx hb hX hbl hbA hS (by omega) (by omega) dL_law_179 ?_
        refine lv_aload_n hx hb dL_law_180 rfl (lv_at hl 0 rfl) ?_
        refine lv_iload_n hx hb dL_law_181 rfl (lv_at hl 3 rfl) ?_
        refine lv_iconst (v := nI 2) hx hb dL_law_182 (by decide) ?_
        refine n_iadd hx hb dL_law_183 ?_
        refine n_sld hx hb hX hbl hbA hS (by omega) (by omega) dL_law_184 ?_
        refine cx_VL (As := [.int (xs (i + 1)), .int (xs (i + 2))]) (rest := []) (wr := mwf mh mn mo mp mf mb mk mw eA eB (nx, ou, pa, fr, bb, kn, pn, wo)) (q0 := 0) (ci := 0) (C := RX0) (T := TX0) (N := 7) ⟨hx, hb, hml, hown, hts⟩ (mX0_alike l D dA xh xn xo xg xl H.size nx ou rd ro gr le wl (xs (i + 1)) (xs (i + 2)) hv hnx) (cwV 2 hts (lw_V q58 q59 q60 q14 q61) rfl rfl rfl (by decide +kernel) ⟨Nat.le_of_ble_eq_true rfl, Nat.le_of_ble_eq_true rfl⟩) hKx hP hD hS hA [0, 1, 2, 3, 4] [5, 6, 7, 8, 9, 10, 11, 12] rfl rfl (by decide) (by decide) (by decide) rfl rfl rfl rfl hl.1 (Nat.le_of_ble_eq_true rfl) dL_law_185 rfl rfl ⟨Nat.le_of_ble_eq_true rfl, Nat.le_of_ble_eq_true rfl⟩ (fun rv uv H locs hw hP hD hS => ?_)
        obtain ⟨hr1, rd1, ro1, gr1, le1, wl1, rfl, hv1⟩ := hw
        refine lv_aload_n hx hb dL_law_188 rfl (lv_at hl 2 rfl) ?_
        refine lv_aload_n hx hb dL_law_189 rfl (lv_at hl 0 rfl) ?_
        refine lv_iload_n hx hb dL_law_190 rfl (lv_at hl 3 rfl) ?_
        refine lv_iconst (v := nI 1) hx hb dL_law_191 (by decide) ?_
        refine n_iadd hx hb dL_law_192 ?_
        refine n_sld hx hb hX hbl hbA hS (by omega) (by omega) dL_law_193 ?_
        refine lv_aload_n hx hb dL_law_194 rfl (lv_at hl 0 rfl) ?_
        refine lv_iload_n hx hb dL_law_195 rfl (lv_at hl 3 rfl) ?_
        refine lv_iconst (v := nI 2) hx hb dL_law_196 (by decide) ?_
        refine n_iadd hx hb dL_law_197 ?_
        refine n_sld hx hb hX hbl hbA hS (by omega) (by omega) dL_law_198 ?_
        refine cx_VL (As := [.int (xs (i + 1)), .int (xs (i + 2))]) (rest := [.int rv]) (wr := xwf xh xn xo xg xl dA (nx, ou, rd1, ro1, gr1, le1, wl1)) (q0 := 0) (ci := 1) (C := RX1) (T := TX1) (N := 8) ⟨hx, hb, hml, hown, hts⟩ (mX1_alike l D eA eB mh mn mo mp mf mb mk mw H.size nx ou pa fr bb kn pn wo (xs (i + 1)) (xs (i + 2)) hk2 hnx) (cwV 2 hts (lw_V q170 q171 q172 q15 q173) rfl rfl rfl (by decide +kernel) ⟨Nat.le_of_ble_eq_true rfl, Nat.le_of_ble_eq_true rfl⟩) hKm hP hD hS hA [0, 1, 2, 3, 4, 5, 6, 7] [8, 9, 10, 11, 12] rfl rfl (by decide) (by decide) (by decide) rfl rfl rfl rfl hl.1 (Nat.le_of_ble_eq_true rfl) dL_law_199 rfl rfl ⟨Nat.le_of_ble_eq_true rfl, Nat.le_of_ble_eq_true rfl⟩ (fun rw2 uv H locs hw hP hD hS => ?_)
        obtain ⟨hr2, pa1, fr1, bb1, kn1, pn1, wo1, rfl, hk21⟩ := hw
        refine lv_icmp_eq (tgt := 398) hx hb dL_law_202 (by decide) (fun c_e => ?_) (fun c_e => absurd (hr1.trans hr2.symm) c_e)
        refine lv_iinc (v := nI (i + 4)) (lv' := [(3, .int (nI (i + 4))), (0, .ref b), (1, .ref xh), (2, .ref mh)]) hx hb dL_law_398 hl (k := 3) rfl (nI_inc4 _) (by decide) rfl (fun ls hl => ?_)
        refine lv_goto (tgt := 18) hx hb dL_law_401 (by decide) ?_
        exact ih (i + 4) nx ou rd1 ro1 gr1 le1 wl1 pa1 fr1 bb1 kn1 pn1 wo1 (by omega) (by omega) hv1 hnx hk21 H locs hP hD hS ls (lv_sub hl [1, 2, 3, 0] rfl)
      · refine lv_tableIn (off := 175) (tgt := 207) hx hb dL_law_32 (by decide) (by decide) (by decide) (by decide) ?_
        refine lv_aload_n hx hb dL_law_207 rfl (lv_at hl 1 rfl) ?_
        refine lv_aload_n hx hb dL_law_208 rfl (lv_at hl 0 rfl) ?_
        refine lv_iload_n hx hb dL_law_209 rfl (lv_at hl 3 rfl) ?_
        refine lv_iconst (v := nI 1) hx hb dL_law_210 (by decide) ?_
        refine n_iadd hx hb dL_law_211 ?_
        refine n_sld hx hb hX hbl hbA hS (by omega) (by omega) dL_law_212 ?_
        refine lv_aload_n hx hb dL_law_213 rfl (lv_at hl 0 rfl) ?_
        refine lv_iload_n hx hb dL_law_214 rfl (lv_at hl 3 rfl) ?_
        refine lv_iconst (v := nI 2) hx hb dL_law_215 (by decide) ?_
        refine n_iadd hx hb dL_law_216 ?_
        refine n_sld hx hb hX hbl hbA hS (by omega) (by omega) dL_law_217 ?_
        refine cx_VL (As := [.int (xs (i + 1)), .int (xs (i + 2))]) (rest := []) (wr := mwf mh mn mo mp mf mb mk mw eA eB (nx, ou, pa, fr, bb, kn, pn, wo)) (q0 := 0) (ci := 0) (C := RX0) (T := TX0) (N := 7) ⟨hx, hb, hml, hown, hts⟩ (mX0_distance l D dA xh xn xo xg xl H.size nx ou rd ro gr le wl (xs (i + 1)) (xs (i + 2)) hv hnx) (cwV 2 hts (lw_V q82 q83 q84 q14 q85) rfl rfl rfl (by decide +kernel) ⟨Nat.le_of_ble_eq_true rfl, Nat.le_of_ble_eq_true rfl⟩) hKx hP hD hS hA [0, 1, 2, 3, 4] [5, 6, 7, 8, 9, 10, 11, 12] rfl rfl (by decide) (by decide) (by decide) rfl rfl rfl rfl hl.1 (Nat.le_of_ble_eq_true rfl) dL_law_218 rfl rfl ⟨Nat.le_of_ble_eq_true rfl, Nat.le_of_ble_eq_true rfl⟩ (fun rv uv H locs hw hP hD hS => ?_)
        obtain ⟨hr1, rd1, ro1, gr1, le1, wl1, rfl, hv1⟩ := hw
        refine lv_aload_n hx hb dL_law_221 rfl (lv_at hl 2 rfl) ?_
        refine lv_aload_n hx hb dL_law_222 rfl (lv_at hl 0 rfl) ?_
        refine lv_iload_n hx hb dL_law_223 rfl (lv_at hl 3 rfl) ?_
        refine lv_iconst (v := nI 1) hx hb dL_law_224 (by decide) ?_
        refine n_iadd hx hb dL_law_225 ?_
        refine n_sld hx hb hX hbl hbA hS (by omega) (by omega) dL_law_226 ?_
        refine lv_aload_n hx hb dL_law_227 rfl (lv_at hl 0 rfl) ?_
        refine lv_iload_n hx hb dL_law_228 rfl (lv_at hl 3 rfl) ?_
        refine lv_iconst (v := nI 2) hx hb dL_law_229 (by decide) ?_
        refine n_iadd hx hb dL_law_230 ?_
        refine n_sld hx hb hX hbl hbA hS (by omega) (by omega) dL_law_231 ?_
        refine cx_VL (As := [.int (xs (i + 1)), .int (xs (i + 2))]) (rest := [.int rv]) (wr := xwf xh xn xo xg xl dA (nx, ou, rd1, ro1, gr1, le1, wl1)) (q0 := 0) (ci := 1) (C := RX1) (T := TX1) (N := 8) ⟨hx, hb, hml, hown, hts⟩ (mX1_distance l D eA eB mh mn mo mp mf mb mk mw H.size nx ou pa fr bb kn pn wo (xs (i + 1)) (xs (i + 2)) hk2 hnx) (cwV 2 hts (lw_V q186 q187 q188 q15 q189) rfl rfl rfl (by decide +kernel) ⟨Nat.le_of_ble_eq_true rfl, Nat.le_of_ble_eq_true rfl⟩) hKm hP hD hS hA [0, 1, 2, 3, 4, 5, 6, 7] [8, 9, 10, 11, 12] rfl rfl (by decide) (by decide) (by decide) rfl rfl rfl rfl hl.1 (Nat.le_of_ble_eq_true rfl) dL_law_232 rfl rfl ⟨Nat.le_of_ble_eq_true rfl, Nat.le_of_ble_eq_true rfl⟩ (fun rw2 uv H locs hw hP hD hS => ?_)
        obtain ⟨hr2, pa1, fr1, bb1, kn1, pn1, wo1, rfl, hk21⟩ := hw
        refine lv_icmp_eq (tgt := 398) hx hb dL_law_235 (by decide) (fun c_e => ?_) (fun c_e => absurd (hr1.trans hr2.symm) c_e)
        refine lv_iinc (v := nI (i + 4)) (lv' := [(3, .int (nI (i + 4))), (0, .ref b), (1, .ref xh), (2, .ref mh)]) hx hb dL_law_398 hl (k := 3) rfl (nI_inc4 _) (by decide) rfl (fun ls hl => ?_)
        refine lv_goto (tgt := 18) hx hb dL_law_401 (by decide) ?_
        exact ih (i + 4) nx ou rd1 ro1 gr1 le1 wl1 pa1 fr1 bb1 kn1 pn1 wo1 (by omega) (by omega) hv1 hnx hk21 H locs hP hD hS ls (lv_sub hl [1, 2, 3, 0] rfl)
      · refine lv_tableIn (off := 208) (tgt := 240) hx hb dL_law_32 (by decide) (by decide) (by decide) (by decide) ?_
        refine lv_aload_n hx hb dL_law_240 rfl (lv_at hl 1 rfl) ?_
        refine lv_aload_n hx hb dL_law_241 rfl (lv_at hl 0 rfl) ?_
        refine lv_iload_n hx hb dL_law_242 rfl (lv_at hl 3 rfl) ?_
        refine lv_iconst (v := nI 1) hx hb dL_law_243 (by decide) ?_
        refine n_iadd hx hb dL_law_244 ?_
        refine n_sld hx hb hX hbl hbA hS (by omega) (by omega) dL_law_245 ?_
        refine lv_aload_n hx hb dL_law_246 rfl (lv_at hl 0 rfl) ?_
        refine lv_iload_n hx hb dL_law_247 rfl (lv_at hl 3 rfl) ?_
        refine lv_iconst (v := nI 2) hx hb dL_law_248 (by decide) ?_
        refine n_iadd hx hb dL_law_249 ?_
        refine n_sld hx hb hX hbl hbA hS (by omega) (by omega) dL_law_250 ?_
        refine lv_aload_n hx hb dL_law_251 rfl (lv_at hl 0 rfl) ?_
        refine lv_iload_n hx hb dL_law_252 rfl (lv_at hl 3 rfl) ?_
        refine lv_iconst (v := nI 3) hx hb dL_law_253 (by decide) ?_
        refine n_iadd hx hb dL_law_254 ?_
        refine n_sld hx hb hX hbl hbA hS (by omega) (by omega) dL_law_255 ?_
        refine cx_VL (As := [.int (xs (i + 1)), .int (xs (i + 2)), .int (xs (i + 3))]) (rest := []) (wr := mwf mh mn mo mp mf mb mk mw eA eB (nx, ou, pa, fr, bb, kn, pn, wo)) (q0 := 0) (ci := 0) (C := RX0) (T := TX0) (N := 7) ⟨hx, hb, hml, hown, hts⟩ (mX0_teller l D dA xh xn xo xg xl H.size nx ou rd ro gr le wl (xs (i + 1)) (xs (i + 2)) (xs (i + 3)) hv hnx) (cwV 3 hts (lw_V q86 q87 q88 q14 q89) rfl rfl rfl (by decide +kernel) ⟨Nat.le_of_ble_eq_true rfl, Nat.le_of_ble_eq_true rfl⟩) hKx hP hD hS hA [0, 1, 2, 3, 4] [5, 6, 7, 8, 9, 10, 11, 12] rfl rfl (by decide) (by decide) (by decide) rfl rfl rfl rfl hl.1 (Nat.le_of_ble_eq_true rfl) dL_law_256 rfl rfl ⟨Nat.le_of_ble_eq_true rfl, Nat.le_of_ble_eq_true rfl⟩ (fun rv uv H locs hw hP hD hS => ?_)
        obtain ⟨hr1, rd1, ro1, gr1, le1, wl1, rfl, hv1⟩ := hw
        refine lv_aload_n hx hb dL_law_259 rfl (lv_at hl 2 rfl) ?_
        refine lv_aload_n hx hb dL_law_260 rfl (lv_at hl 0 rfl) ?_
        refine lv_iload_n hx hb dL_law_261 rfl (lv_at hl 3 rfl) ?_
        refine lv_iconst (v := nI 1) hx hb dL_law_262 (by decide) ?_
        refine n_iadd hx hb dL_law_263 ?_
        refine n_sld hx hb hX hbl hbA hS (by omega) (by omega) dL_law_264 ?_
        refine lv_aload_n hx hb dL_law_265 rfl (lv_at hl 0 rfl) ?_
        refine lv_iload_n hx hb dL_law_266 rfl (lv_at hl 3 rfl) ?_
        refine lv_iconst (v := nI 2) hx hb dL_law_267 (by decide) ?_
        refine n_iadd hx hb dL_law_268 ?_
        refine n_sld hx hb hX hbl hbA hS (by omega) (by omega) dL_law_269 ?_
        refine lv_aload_n hx hb dL_law_270 rfl (lv_at hl 0 rfl) ?_
        refine lv_iload_n hx hb dL_law_271 rfl (lv_at hl 3 rfl) ?_
        refine lv_iconst (v := nI 3) hx hb dL_law_272 (by decide) ?_
        refine n_iadd hx hb dL_law_273 ?_
        refine n_sld hx hb hX hbl hbA hS (by omega) (by omega) dL_law_274 ?_
        refine cx_VL (As := [.int (xs (i + 1)), .int (xs (i + 2)), .int (xs (i + 3))]) (rest := [.int rv]) (wr := xwf xh xn xo xg xl dA (nx, ou, rd1, ro1, gr1, le1, wl1)) (q0 := 0) (ci := 1) (C := RX1) (T := TX1) (N := 8) ⟨hx, hb, hml, hown, hts⟩ (mX1_teller l D eA eB mh mn mo mp mf mb mk mw H.size nx ou pa fr bb kn pn wo (xs (i + 1)) (xs (i + 2)) (xs (i + 3)) hk2 hnx) (cwV 3 hts (lw_V q190 q191 q192 q15 q193) rfl rfl rfl (by decide +kernel) ⟨Nat.le_of_ble_eq_true rfl, Nat.le_of_ble_eq_true rfl⟩) hKm hP hD hS hA [0, 1, 2, 3, 4, 5, 6, 7] [8, 9, 10, 11, 12] rfl rfl (by decide) (by decide) (by decide) rfl rfl rfl rfl hl.1 (Nat.le_of_ble_eq_true rfl) dL_law_275 rfl rfl ⟨Nat.le_of_ble_eq_true rfl, Nat.le_of_ble_eq_true rfl⟩ (fun rw2 uv H locs hw hP hD hS => ?_)
        obtain ⟨hr2, pa1, fr1, bb1, kn1, pn1, wo1, rfl, hk21⟩ := hw
        refine lv_icmp_eq (tgt := 398) hx hb dL_law_278 (by decide) (fun c_e => ?_) (fun c_e => absurd (hr1.trans hr2.symm) c_e)
        refine lv_iinc (v := nI (i + 4)) (lv' := [(3, .int (nI (i + 4))), (0, .ref b), (1, .ref xh), (2, .ref mh)]) hx hb dL_law_398 hl (k := 3) rfl (nI_inc4 _) (by decide) rfl (fun ls hl => ?_)
        refine lv_goto (tgt := 18) hx hb dL_law_401 (by decide) ?_
        exact ih (i + 4) nx ou rd1 ro1 gr1 le1 wl1 pa1 fr1 bb1 kn1 pn1 wo1 (by omega) (by omega) hv1 hnx hk21 H locs hP hD hS ls (lv_sub hl [1, 2, 3, 0] rfl)
      · refine lv_tableIn (off := 251) (tgt := 283) hx hb dL_law_32 (by decide) (by decide) (by decide) (by decide) ?_
        refine lv_aload_n hx hb dL_law_283 rfl (lv_at hl 1 rfl) ?_
        refine lv_aload_n hx hb dL_law_284 rfl (lv_at hl 0 rfl) ?_
        refine lv_iload_n hx hb dL_law_285 rfl (lv_at hl 3 rfl) ?_
        refine lv_iconst (v := nI 1) hx hb dL_law_286 (by decide) ?_
        refine n_iadd hx hb dL_law_287 ?_
        refine n_sld hx hb hX hbl hbA hS (by omega) (by omega) dL_law_288 ?_
        refine cx_VL (As := [.int (xs (i + 1))]) (rest := []) (wr := mwf mh mn mo mp mf mb mk mw eA eB (nx, ou, pa, fr, bb, kn, pn, wo)) (q0 := 0) (ci := 0) (C := RX0) (T := TX0) (N := 7) ⟨hx, hb, hml, hown, hts⟩ (mX0_kind l D dA xh xn xo xg xl H.size nx ou rd ro gr le wl (xs (i + 1)) hv hnx) (cwV 1 hts (lw_V q98 q99 q100 q14 q101) rfl rfl rfl (by decide +kernel) ⟨Nat.le_of_ble_eq_true rfl, Nat.le_of_ble_eq_true rfl⟩) hKx hP hD hS hA [0, 1, 2, 3, 4] [5, 6, 7, 8, 9, 10, 11, 12] rfl rfl (by decide) (by decide) (by decide) rfl rfl rfl rfl hl.1 (Nat.le_of_ble_eq_true rfl) dL_law_289 rfl rfl ⟨Nat.le_of_ble_eq_true rfl, Nat.le_of_ble_eq_true rfl⟩ (fun rv uv H locs hw hP hD hS => ?_)
        obtain ⟨hr1, rd1, ro1, gr1, le1, wl1, rfl, hv1⟩ := hw
        refine lv_aload_n hx hb dL_law_292 rfl (lv_at hl 2 rfl) ?_
        refine lv_aload_n hx hb dL_law_293 rfl (lv_at hl 0 rfl) ?_
        refine lv_iload_n hx hb dL_law_294 rfl (lv_at hl 3 rfl) ?_
        refine lv_iconst (v := nI 1) hx hb dL_law_295 (by decide) ?_
        refine n_iadd hx hb dL_law_296 ?_
        refine n_sld hx hb hX hbl hbA hS (by omega) (by omega) dL_law_297 ?_
        refine cx_VL (As := [.int (xs (i + 1))]) (rest := [.int rv]) (wr := xwf xh xn xo xg xl dA (nx, ou, rd1, ro1, gr1, le1, wl1)) (q0 := 0) (ci := 1) (C := RX1) (T := TX1) (N := 8) ⟨hx, hb, hml, hown, hts⟩ (mX1_kind l D eA eB mh mn mo mp mf mb mk mw H.size nx ou pa fr bb kn pn wo (xs (i + 1)) hk2 hnx) (cwV 1 hts (lw_V q194 q195 q196 q15 q197) rfl rfl rfl (by decide +kernel) ⟨Nat.le_of_ble_eq_true rfl, Nat.le_of_ble_eq_true rfl⟩) hKm hP hD hS hA [0, 1, 2, 3, 4, 5, 6, 7] [8, 9, 10, 11, 12] rfl rfl (by decide) (by decide) (by decide) rfl rfl rfl rfl hl.1 (Nat.le_of_ble_eq_true rfl) dL_law_298 rfl rfl ⟨Nat.le_of_ble_eq_true rfl, Nat.le_of_ble_eq_true rfl⟩ (fun rw2 uv H locs hw hP hD hS => ?_)
        obtain ⟨hr2, pa1, fr1, bb1, kn1, pn1, wo1, rfl, hk21⟩ := hw
        refine lv_icmp_eq (tgt := 398) hx hb dL_law_301 (by decide) (fun c_e => ?_) (fun c_e => absurd (hr1.trans hr2.symm) c_e)
        refine lv_iinc (v := nI (i + 4)) (lv' := [(3, .int (nI (i + 4))), (0, .ref b), (1, .ref xh), (2, .ref mh)]) hx hb dL_law_398 hl (k := 3) rfl (nI_inc4 _) (by decide) rfl (fun ls hl => ?_)
        refine lv_goto (tgt := 18) hx hb dL_law_401 (by decide) ?_
        exact ih (i + 4) nx ou rd1 ro1 gr1 le1 wl1 pa1 fr1 bb1 kn1 pn1 wo1 (by omega) (by omega) hv1 hnx hk21 H locs hP hD hS ls (lv_sub hl [1, 2, 3, 0] rfl)
      · refine lv_tableIn (off := 274) (tgt := 306) hx hb dL_law_32 (by decide) (by decide) (by decide) (by decide) ?_
        refine lv_aload_n hx hb dL_law_306 rfl (lv_at hl 1 rfl) ?_
        refine cx_VL (As := []) (rest := []) (wr := mwf mh mn mo mp mf mb mk mw eA eB (nx, ou, pa, fr, bb, kn, pn, wo)) (q0 := 0) (ci := 0) (C := RX0) (T := TX0) (N := 7) ⟨hx, hb, hml, hown, hts⟩ (mX0_kinds l D dA xh xn xo xg xl H.size nx ou rd ro gr le wl  hv hnx) (cwV 0 hts (lw_V q102 q103 q104 q14 q105) rfl rfl rfl (by decide +kernel) ⟨Nat.le_of_ble_eq_true rfl, Nat.le_of_ble_eq_true rfl⟩) hKx hP hD hS hA [0, 1, 2, 3, 4] [5, 6, 7, 8, 9, 10, 11, 12] rfl rfl (by decide) (by decide) (by decide) rfl rfl rfl rfl hl.1 (Nat.le_of_ble_eq_true rfl) dL_law_307 rfl rfl ⟨Nat.le_of_ble_eq_true rfl, Nat.le_of_ble_eq_true rfl⟩ (fun rv uv H locs hw hP hD hS => ?_)
        obtain ⟨hr1, rd1, ro1, gr1, le1, wl1, rfl, hv1⟩ := hw
        refine lv_aload_n hx hb dL_law_310 rfl (lv_at hl 2 rfl) ?_
        refine cx_VL (As := []) (rest := [.int rv]) (wr := xwf xh xn xo xg xl dA (nx, ou, rd1, ro1, gr1, le1, wl1)) (q0 := 0) (ci := 1) (C := RX1) (T := TX1) (N := 8) ⟨hx, hb, hml, hown, hts⟩ (mX1_kinds l D eA eB mh mn mo mp mf mb mk mw H.size nx ou pa fr bb kn pn wo  hk2 hnx) (cwV 0 hts (lw_V q199 q200 q201 q15 q202) rfl rfl rfl (by decide +kernel) ⟨Nat.le_of_ble_eq_true rfl, Nat.le_of_ble_eq_true rfl⟩) hKm hP hD hS hA [0, 1, 2, 3, 4, 5, 6, 7] [8, 9, 10, 11, 12] rfl rfl (by decide) (by decide) (by decide) rfl rfl rfl rfl hl.1 (Nat.le_of_ble_eq_true rfl) dL_law_311 rfl rfl ⟨Nat.le_of_ble_eq_true rfl, Nat.le_of_ble_eq_true rfl⟩ (fun rw2 uv H locs hw hP hD hS => ?_)
        obtain ⟨hr2, pa1, fr1, bb1, kn1, pn1, wo1, rfl, hk21⟩ := hw
        refine lv_icmp_eq (tgt := 398) hx hb dL_law_314 (by decide) (fun c_e => ?_) (fun c_e => absurd (hr1.trans hr2.symm) c_e)
        refine lv_iinc (v := nI (i + 4)) (lv' := [(3, .int (nI (i + 4))), (0, .ref b), (1, .ref xh), (2, .ref mh)]) hx hb dL_law_398 hl (k := 3) rfl (nI_inc4 _) (by decide) rfl (fun ls hl => ?_)
        refine lv_goto (tgt := 18) hx hb dL_law_401 (by decide) ?_
        exact ih (i + 4) nx ou rd1 ro1 gr1 le1 wl1 pa1 fr1 bb1 kn1 pn1 wo1 (by omega) (by omega) hv1 hnx hk21 H locs hP hD hS ls (lv_sub hl [1, 2, 3, 0] rfl)
      · refine lv_tableIn (off := 287) (tgt := 319) hx hb dL_law_32 (by decide) (by decide) (by decide) (by decide) ?_
        refine lv_aload_n hx hb dL_law_319 rfl (lv_at hl 1 rfl) ?_
        refine lv_aload_n hx hb dL_law_320 rfl (lv_at hl 0 rfl) ?_
        refine lv_iload_n hx hb dL_law_321 rfl (lv_at hl 3 rfl) ?_
        refine lv_iconst (v := nI 1) hx hb dL_law_322 (by decide) ?_
        refine n_iadd hx hb dL_law_323 ?_
        refine n_sld hx hb hX hbl hbA hS (by omega) (by omega) dL_law_324 ?_
        refine cx_VL (As := [.int (xs (i + 1))]) (rest := []) (wr := mwf mh mn mo mp mf mb mk mw eA eB (nx, ou, pa, fr, bb, kn, pn, wo)) (q0 := 0) (ci := 0) (C := RX0) (T := TX0) (N := 7) ⟨hx, hb, hml, hown, hts⟩ (mX0_reachableKinds l D dA xh xn xo xg xl H.size nx ou rd ro gr le wl (xs (i + 1)) hv hnx) (cwV 1 hts (lw_V q106 q107 q108 q14 q109) rfl rfl rfl (by decide +kernel) ⟨Nat.le_of_ble_eq_true rfl, Nat.le_of_ble_eq_true rfl⟩) hKx hP hD hS hA [0, 1, 2, 3, 4] [5, 6, 7, 8, 9, 10, 11, 12] rfl rfl (by decide) (by decide) (by decide) rfl rfl rfl rfl hl.1 (Nat.le_of_ble_eq_true rfl) dL_law_325 rfl rfl ⟨Nat.le_of_ble_eq_true rfl, Nat.le_of_ble_eq_true rfl⟩ (fun rv uv H locs hw hP hD hS => ?_)
        obtain ⟨hr1, rd1, ro1, gr1, le1, wl1, rfl, hv1⟩ := hw
        refine lv_aload_n hx hb dL_law_328 rfl (lv_at hl 2 rfl) ?_
        refine lv_aload_n hx hb dL_law_329 rfl (lv_at hl 0 rfl) ?_
        refine lv_iload_n hx hb dL_law_330 rfl (lv_at hl 3 rfl) ?_
        refine lv_iconst (v := nI 1) hx hb dL_law_331 (by decide) ?_
        refine n_iadd hx hb dL_law_332 ?_
        refine n_sld hx hb hX hbl hbA hS (by omega) (by omega) dL_law_333 ?_
        refine cx_VL (As := [.int (xs (i + 1))]) (rest := [.int rv]) (wr := xwf xh xn xo xg xl dA (nx, ou, rd1, ro1, gr1, le1, wl1)) (q0 := 0) (ci := 1) (C := RX1) (T := TX1) (N := 8) ⟨hx, hb, hml, hown, hts⟩ (mX1_reachableKinds l D eA eB mh mn mo mp mf mb mk mw H.size nx ou pa fr bb kn pn wo (xs (i + 1)) hk2 hnx) (cwV 1 hts (lw_V q204 q205 q206 q15 q207) rfl rfl rfl (by decide +kernel) ⟨Nat.le_of_ble_eq_true rfl, Nat.le_of_ble_eq_true rfl⟩) hKm hP hD hS hA [0, 1, 2, 3, 4, 5, 6, 7] [8, 9, 10, 11, 12] rfl rfl (by decide) (by decide) (by decide) rfl rfl rfl rfl hl.1 (Nat.le_of_ble_eq_true rfl) dL_law_334 rfl rfl ⟨Nat.le_of_ble_eq_true rfl, Nat.le_of_ble_eq_true rfl⟩ (fun rw2 uv H locs hw hP hD hS => ?_)
        obtain ⟨hr2, pa1, fr1, bb1, kn1, pn1, wo1, rfl, hk21⟩ := hw
        refine lv_icmp_eq (tgt := 398) hx hb dL_law_337 (by decide) (fun c_e => ?_) (fun c_e => absurd (pm_rk_one hr1 hr2) c_e)
        refine lv_iinc (v := nI (i + 4)) (lv' := [(3, .int (nI (i + 4))), (0, .ref b), (1, .ref xh), (2, .ref mh)]) hx hb dL_law_398 hl (k := 3) rfl (nI_inc4 _) (by decide) rfl (fun ls hl => ?_)
        refine lv_goto (tgt := 18) hx hb dL_law_401 (by decide) ?_
        exact ih (i + 4) nx ou rd1 ro1 gr1 le1 wl1 pa1 fr1 bb1 kn1 pn1 wo1 (by omega) (by omega) hv1 hnx hk21 H locs hP hD hS ls (lv_sub hl [1, 2, 3, 0] rfl)
      · refine lv_tableIn (off := 310) (tgt := 342) hx hb dL_law_32 (by decide) (by decide) (by decide) (by decide) ?_
        refine lv_aload_n hx hb dL_law_342 rfl (lv_at hl 1 rfl) ?_
        refine cx_VL (As := []) (rest := []) (wr := mwf mh mn mo mp mf mb mk mw eA eB (nx, ou, pa, fr, bb, kn, pn, wo)) (q0 := 0) (ci := 0) (C := RX0) (T := TX0) (N := 7) ⟨hx, hb, hml, hown, hts⟩ (mX0_depth l D dA xh xn xo xg xl H.size nx ou rd ro gr le wl  hv hnx) (cwV 0 hts (lw_V q114 q115 q116 q14 q117) rfl rfl rfl (by decide +kernel) ⟨Nat.le_of_ble_eq_true rfl, Nat.le_of_ble_eq_true rfl⟩) hKx hP hD hS hA [0, 1, 2, 3, 4] [5, 6, 7, 8, 9, 10, 11, 12] rfl rfl (by decide) (by decide) (by decide) rfl rfl rfl rfl hl.1 (Nat.le_of_ble_eq_true rfl) dL_law_343 rfl rfl ⟨Nat.le_of_ble_eq_true rfl, Nat.le_of_ble_eq_true rfl⟩ (fun rv uv H locs hw hP hD hS => ?_)
        obtain ⟨hr1, rd1, ro1, gr1, le1, wl1, rfl, hv1⟩ := hw
        refine lv_aload_n hx hb dL_law_346 rfl (lv_at hl 2 rfl) ?_
        refine cx_VL (As := []) (rest := [.int rv]) (wr := xwf xh xn xo xg xl dA (nx, ou, rd1, ro1, gr1, le1, wl1)) (q0 := 0) (ci := 1) (C := RX1) (T := TX1) (N := 8) ⟨hx, hb, hml, hown, hts⟩ (mX1_depth l D eA eB mh mn mo mp mf mb mk mw H.size nx ou pa fr bb kn pn wo  hk2 hnx) (cwV 0 hts (lw_V q208 q209 q210 q15 q211) rfl rfl rfl (by decide +kernel) ⟨Nat.le_of_ble_eq_true rfl, Nat.le_of_ble_eq_true rfl⟩) hKm hP hD hS hA [0, 1, 2, 3, 4, 5, 6, 7] [8, 9, 10, 11, 12] rfl rfl (by decide) (by decide) (by decide) rfl rfl rfl rfl hl.1 (Nat.le_of_ble_eq_true rfl) dL_law_347 rfl rfl ⟨Nat.le_of_ble_eq_true rfl, Nat.le_of_ble_eq_true rfl⟩ (fun rw2 uv H locs hw hP hD hS => ?_)
        obtain ⟨hr2, pa1, fr1, bb1, kn1, pn1, wo1, rfl, hk21⟩ := hw
        refine lv_icmp_eq (tgt := 398) hx hb dL_law_350 (by decide) (fun c_e => ?_) (fun c_e => absurd (hr1.trans hr2.symm) c_e)
        refine lv_iinc (v := nI (i + 4)) (lv' := [(3, .int (nI (i + 4))), (0, .ref b), (1, .ref xh), (2, .ref mh)]) hx hb dL_law_398 hl (k := 3) rfl (nI_inc4 _) (by decide) rfl (fun ls hl => ?_)
        refine lv_goto (tgt := 18) hx hb dL_law_401 (by decide) ?_
        exact ih (i + 4) nx ou rd1 ro1 gr1 le1 wl1 pa1 fr1 bb1 kn1 pn1 wo1 (by omega) (by omega) hv1 hnx hk21 H locs hP hD hS ls (lv_sub hl [1, 2, 3, 0] rfl)
      · refine lv_tableIn (off := 323) (tgt := 355) hx hb dL_law_32 (by decide) (by decide) (by decide) (by decide) ?_
        refine lv_aload_n hx hb dL_law_355 rfl (lv_at hl 1 rfl) ?_
        refine lv_aload_n hx hb dL_law_356 rfl (lv_at hl 0 rfl) ?_
        refine lv_iload_n hx hb dL_law_357 rfl (lv_at hl 3 rfl) ?_
        refine lv_iconst (v := nI 1) hx hb dL_law_358 (by decide) ?_
        refine n_iadd hx hb dL_law_359 ?_
        refine n_sld hx hb hX hbl hbA hS (by omega) (by omega) dL_law_360 ?_
        refine lv_aload_n hx hb dL_law_361 rfl (lv_at hl 0 rfl) ?_
        refine lv_iload_n hx hb dL_law_362 rfl (lv_at hl 3 rfl) ?_
        refine lv_iconst (v := nI 2) hx hb dL_law_363 (by decide) ?_
        refine n_iadd hx hb dL_law_364 ?_
        refine n_sld hx hb hX hbl hbA hS (by omega) (by omega) dL_law_365 ?_
        refine lv_aload_n hx hb dL_law_366 rfl (lv_at hl 0 rfl) ?_
        refine lv_iload_n hx hb dL_law_367 rfl (lv_at hl 3 rfl) ?_
        refine lv_iconst (v := nI 3) hx hb dL_law_368 (by decide) ?_
        refine n_iadd hx hb dL_law_369 ?_
        refine n_sld hx hb hX hbl hbA hS (by omega) (by omega) dL_law_370 ?_
        refine cx_VL (As := [.int (xs (i + 1)), .int (xs (i + 2)), .int (xs (i + 3))]) (rest := []) (wr := mwf mh mn mo mp mf mb mk mw eA eB (nx, ou, pa, fr, bb, kn, pn, wo)) (q0 := 0) (ci := 0) (C := RX0) (T := TX0) (N := 7) ⟨hx, hb, hml, hown, hts⟩ (mX0_run l D dA xh xn xo xg xl H.size nx ou rd ro gr le wl (xs (i + 1)) (xs (i + 2)) (xs (i + 3)) hnx) (cwV 3 hts (lw_V q118 q119 q120 q14 q121) rfl rfl rfl (by decide +kernel) ⟨Nat.le_of_ble_eq_true rfl, Nat.le_of_ble_eq_true rfl⟩) hKx hP hD hS hA [0, 1, 2, 3, 4] [5, 6, 7, 8, 9, 10, 11, 12] rfl rfl (by decide) (by decide) (by decide) rfl rfl rfl rfl hl.1 (Nat.le_of_ble_eq_true rfl) dL_law_371 rfl rfl ⟨Nat.le_of_ble_eq_true rfl, Nat.le_of_ble_eq_true rfl⟩ (fun rv uv H locs hw hP hD hS => ?_)
        obtain ⟨hr1, rfl⟩ := hw
        refine lv_aload_n hx hb dL_law_374 rfl (lv_at hl 2 rfl) ?_
        refine lv_aload_n hx hb dL_law_375 rfl (lv_at hl 0 rfl) ?_
        refine lv_iload_n hx hb dL_law_376 rfl (lv_at hl 3 rfl) ?_
        refine lv_iconst (v := nI 1) hx hb dL_law_377 (by decide) ?_
        refine n_iadd hx hb dL_law_378 ?_
        refine n_sld hx hb hX hbl hbA hS (by omega) (by omega) dL_law_379 ?_
        refine lv_aload_n hx hb dL_law_380 rfl (lv_at hl 0 rfl) ?_
        refine lv_iload_n hx hb dL_law_381 rfl (lv_at hl 3 rfl) ?_
        refine lv_iconst (v := nI 2) hx hb dL_law_382 (by decide) ?_
        refine n_iadd hx hb dL_law_383 ?_
        refine n_sld hx hb hX hbl hbA hS (by omega) (by omega) dL_law_384 ?_
        refine lv_aload_n hx hb dL_law_385 rfl (lv_at hl 0 rfl) ?_
        refine lv_iload_n hx hb dL_law_386 rfl (lv_at hl 3 rfl) ?_
        refine lv_iconst (v := nI 3) hx hb dL_law_387 (by decide) ?_
        refine n_iadd hx hb dL_law_388 ?_
        refine n_sld hx hb hX hbl hbA hS (by omega) (by omega) dL_law_389 ?_
        refine cx_VL (As := [.int (xs (i + 1)), .int (xs (i + 2)), .int (xs (i + 3))]) (rest := [.int rv]) (wr := xwf xh xn xo xg xl dA (nx, ou, rd, ro, gr, le, wl)) (q0 := 0) (ci := 1) (C := RX1) (T := TX1) (N := 8) ⟨hx, hb, hml, hown, hts⟩ (mX1_run l D eA eB mh mn mo mp mf mb mk mw H.size nx ou pa fr bb kn pn wo (xs (i + 1)) (xs (i + 2)) (xs (i + 3)) hnx) (cwV 3 hts (lw_V q212 q213 q214 q15 q215) rfl rfl rfl (by decide +kernel) ⟨Nat.le_of_ble_eq_true rfl, Nat.le_of_ble_eq_true rfl⟩) hKm hP hD hS hA [0, 1, 2, 3, 4, 5, 6, 7] [8, 9, 10, 11, 12] rfl rfl (by decide) (by decide) (by decide) rfl rfl rfl rfl hl.1 (Nat.le_of_ble_eq_true rfl) dL_law_390 rfl rfl ⟨Nat.le_of_ble_eq_true rfl, Nat.le_of_ble_eq_true rfl⟩ (fun rw2 uv H locs hw hP hD hS => ?_)
        obtain ⟨hr2, rfl⟩ := hw
        refine lv_icmp_eq (tgt := 398) hx hb dL_law_393 (by decide) (fun c_e => ?_) (fun c_e => absurd (hr1.trans hr2.symm) c_e)
        refine lv_iinc (v := nI (i + 4)) (lv' := [(3, .int (nI (i + 4))), (0, .ref b), (1, .ref xh), (2, .ref mh)]) hx hb dL_law_398 hl (k := 3) rfl (nI_inc4 _) (by decide) rfl (fun ls hl => ?_)
        refine lv_goto (tgt := 18) hx hb dL_law_401 (by decide) ?_
        exact ih (i + 4) nx ou rd ro gr le wl pa fr bb kn pn wo (by omega) (by omega) hv hnx hk2 H locs hP hD hS ls (lv_sub hl [1, 2, 3, 0] rfl)
      · refine lv_tableOut (tgt := 398) hx hb dL_law_32 (Or.inr (by rw [nI_toInt (by omega)]; omega)) (by decide) ?_
        refine lv_iinc (v := nI (i + 4)) (lv' := [(3, .int (nI (i + 4))), (0, .ref b), (1, .ref xh), (2, .ref mh)]) hx hb dL_law_398 hl (k := 3) rfl (nI_inc4 _) (by decide) rfl (fun ls hl => ?_)
        refine lv_goto (tgt := 18) hx hb dL_law_401 (by decide) ?_
        exact ih (i + 4) nx ou rd ro gr le wl pa fr bb kn pn wo (by omega) (by omega) hv hnx hk2 H locs hP hD hS ls (lv_sub hl [1, 2, 3, 0] rfl)
end
section
set_option maxHeartbeats 1000000 in
set_option maxRecDepth 100000 in
theorem whole_start {p : Program} {e : Env} {s : State} {m : MethodId} {below : List Frame} {meth : Method} {c : Code} (l : Launch) {b L : Nat} {xs : Nat → Int32} (hL : L ≤ 256) (C0 : lw_At p s m meth c b L xs) : W p l e room_1 s m #[Value.ref b] below meth c s.heap [] 0 0 (lw_Z below #[Value.ref b] s) (entryFrame m ([Value.ref b] : List Value).toArray 4) := by
  obtain ⟨hx, hb, hr, hml, hown, hts0, hX, hbl, hlocks, hgv⟩ := id C0
  have hts : ∀ w ∈ lw_all, w.before #[Value.ref b] s = true := fun w h => hts0 w (lw_all_tbl h)
  have hA : ∀ q : Nat, s.heap.size ≤ q → (fun q : Nat => s.heap.size ≤ q) q := fun _ h => h
  obtain ⟨c0_, iS0, hKn0⟩ := u_known (C := RX0) (T := TX0) (N := 7) (n := 7) hts in_X0 (hts _ q17)
  obtain ⟨c1_, iS1, hKn1⟩ := u_known (C := RX1) (T := TX1) (N := 8) (n := 8) hts in_X1 (hts _ q123)
  obtain ⟨D, hKc⟩ : ∃ D : va_G, ∀ (k : Nat) (q : vw_C), vwCl[k]? = some q → u_Kn s q.1 q.2.1 q.2.2 (D.1 k) (D.2 k) := by
    refine ⟨(fun k => if k = 0 then c0_ else c1_, fun k => if k = 0 then iS0 else iS1), ?_⟩
    intro k q hq
    match k, hq with
    | 0, hq => cases hq; exact hKn0
    | 1, hq => cases hq; exact hKn1
    | k + 2, hq => simp [vwCl] at hq
  have hS : va_S (fun q : Nat => s.heap.size ≤ q) s.heap s.heap [] := va_S.rf
  have hK : va_K D vwCl [] s := ⟨hKc, fun k q h => by simp at h⟩
  have hP : va_P D vwCl [] s.heap := fun k q h => by simp at h
  have hD : va_D (fun q : Nat => s.heap.size ≤ q) [] := ⟨fun i j p q h => by simp at h, fun k q h => by simp at h⟩
  have hl := lv_entry ([.ref b]) (n := 4) (Nat.le_of_ble_eq_true rfl)
  rw [lg_entry_eq]
  generalize (lg_sl ([.ref b]) ++ List.replicate (4 - (lg_sl ([.ref b])).length) Slot.unset).toArray = ls at hl ⊢
  have hl : lv_has ls 4 [(0, .ref b)] := hl
  refine va_new (ci := 0) (fs := [.null, .null, .int 0, .int 0, .null, .null, .int 0]) (C := RX0) (T := TX0) (N := 7) hx hb hts in_X0 tyX0 tyX0_ok hown (hts _ q16) (hts _ q17) (hts _ q14) hK hP hD hS hA rfl (fun j hj => by rcases (show j = 0 ∨ j = 1 ∨ j = 2 ∨ j = 3 ∨ j = 4 ∨ j = 5 ∨ j = 6 by omega) with rfl | rfl | rfl | rfl | rfl | rfl | rfl <;> rfl) (Nat.le_of_ble_eq_true rfl) (Nat.le_of_ble_eq_true rfl) dL_law_0 (fun xh H hP hD hS => ?_)
  refine W.widen (k := 1) (n := 7) (Nat.le_refl _) (Nat.le_refl _) ?_
  have hP : va_P D vwCl ([(xh, .inr (0, [.null, .null, .int 0, .int 0, .null, .null, .int 0]))]) H := hP
  have hD : va_D (fun q : Nat => s.heap.size ≤ q) ([(xh, .inr (0, [.null, .null, .int 0, .int 0, .null, .null, .int 0]))]) := hD
  refine lv_dup hx hb dL_law_3 rfl ?_
  have hPc := hP.sub (ws' := [(xh, .inr (0, [.null, .null, .int 0, .int 0, .null, .null, .int 0]))]) [0] rfl
  have hDc := hD.sub (ws' := [(xh, .inr (0, [.null, .null, .int 0, .int 0, .null, .null, .int 0]))]) [0] (by decide) rfl
  have hFc := va_free (wc := [(xh, .inr (0, [.null, .null, .int 0, .int 0, .null, .null, .int 0]))]) hD hS hA [0] rfl
  refine va_callv (va_runI (As := []) (rest := [.ref xh]) ⟨hx, hb, hml, hown, hts⟩ (mX0_init l D xh H.size) (cwI 0 hts (lw_meth q20) rfl rfl rfl (hts _ q14) (hts _ q18) (hts _ q19) rfl (by decide +kernel) ⟨Nat.le_of_ble_eq_true rfl, Nat.le_of_ble_eq_true rfl⟩) ⟨cx_blind, fun U hU hW => ⟨rfl, by rw [hU], by rw [hU]; exact hPc, va_K.moved hW.alike hK, hDc.weaken (fun _ _ _ _ => trivial)⟩⟩ rfl rfl hl.1 rfl (lv_room (Nat.le_of_ble_eq_true rfl)) dL_law_4 ⟨Nat.le_of_ble_eq_true rfl, Nat.le_of_ble_eq_true rfl⟩) hS (fun q _ h => hFc q h) hFc (fun uv t H1 locs ht hvm hw hB hz1 hk1 hS => ?_)
  obtain ⟨xn, xo, xg, xl, dA, hP1, hK1, hD1⟩ := hB
  rw [ht] at hP1
  have hKx := va_K.moved hvm.symm hK1
  obtain ⟨hP, hD⟩ := va_join (wr := []) (w1 := xwf xh xn xo xg xl dA xu0) hP hD [0] [] rfl rfl (by decide) (by decide) hk1 hFc hP1 hD1
  generalize H1 = H at hP hS ⊢
  have hP : va_P D vwCl (xwf xh xn xo xg xl dA xu0) H := hP
  have hD : va_D (fun q : Nat => s.heap.size ≤ q) (xwf xh xn xo xg xl dA xu0) := hD
  refine W.widen (k := 5) (n := 407) (Nat.le_refl _) (Nat.le_refl _) ?_
  refine lv_astore_n (lv' := [(1, .ref xh), (0, .ref b)]) hx hb dL_law_7 rfl hl (by decide) rfl (fun ls hl => ?_)
  refine va_new (ci := 1) (fs := [.null, .null, .null, .null, .null, .null, .int 0, .null]) (C := RX1) (T := TX1) (N := 8) hx hb hts in_X1 tyX1 tyX1_ok hown (hts _ q122) (hts _ q123) (hts _ q15) hK hP hD hS hA rfl (fun j hj => by rcases (show j = 0 ∨ j = 1 ∨ j = 2 ∨ j = 3 ∨ j = 4 ∨ j = 5 ∨ j = 6 ∨ j = 7 by omega) with rfl | rfl | rfl | rfl | rfl | rfl | rfl | rfl <;> rfl) (Nat.le_of_ble_eq_true rfl) (Nat.le_of_ble_eq_true rfl) dL_law_8 (fun mh H hP hD hS => ?_)
  refine W.widen (k := 6) (n := 415) (Nat.le_refl _) (Nat.le_refl _) ?_
  have hP : va_P D vwCl (xwf xh xn xo xg xl dA xu0 ++ [(mh, .inr (1, [.null, .null, .null, .null, .null, .null, .int 0, .null]))]) H := hP
  have hD : va_D (fun q : Nat => s.heap.size ≤ q) (xwf xh xn xo xg xl dA xu0 ++ [(mh, .inr (1, [.null, .null, .null, .null, .null, .null, .int 0, .null]))]) := hD
  refine lv_dup hx hb dL_law_11 rfl ?_
  have hPc := hP.sub (ws' := [(mh, .inr (1, [.null, .null, .null, .null, .null, .null, .int 0, .null]))]) [5] rfl
  have hDc := hD.sub (ws' := [(mh, .inr (1, [.null, .null, .null, .null, .null, .null, .int 0, .null]))]) [5] (by decide) rfl
  have hFc := va_free (wc := [(mh, .inr (1, [.null, .null, .null, .null, .null, .null, .int 0, .null]))]) hD hS hA [5] rfl
  refine va_callv (va_runI (As := []) (rest := [.ref mh]) ⟨hx, hb, hml, hown, hts⟩ (mX1_init l D mh H.size) (cwI 0 hts (lw_meth q126) rfl rfl rfl (hts _ q15) (hts _ q124) (hts _ q125) rfl (by decide +kernel) ⟨Nat.le_of_ble_eq_true rfl, Nat.le_of_ble_eq_true rfl⟩) ⟨cx_blind, fun U hU hW => ⟨rfl, by rw [hU], by rw [hU]; exact hPc, va_K.moved hW.alike hK, hDc.weaken (fun _ _ _ _ => trivial)⟩⟩ rfl rfl hl.1 rfl (lv_room (Nat.le_of_ble_eq_true rfl)) dL_law_12 ⟨Nat.le_of_ble_eq_true rfl, Nat.le_of_ble_eq_true rfl⟩) hS (fun q _ h => hFc q h) hFc (fun uv t H1 locs ht hvm hw hB hz1 hk1 hS => ?_)
  obtain ⟨mn, mo, mp, mf, mb, mk, mw, eA, eB, hP1, hK1, hD1⟩ := hB
  rw [ht] at hP1
  have hKm := va_K.moved hvm.symm hK1
  obtain ⟨hP, hD⟩ := va_join (wr := xwf xh xn xo xg xl dA xu0) (w1 := mwf mh mn mo mp mf mb mk mw eA eB mu0) hP hD [5] [0, 1, 2, 3, 4] rfl rfl (by decide) (by decide) hk1 hFc hP1 hD1
  generalize H1 = H at hP hS ⊢
  have hP : va_P D vwCl (xwf xh xn xo xg xl dA xu0 ++ mwf mh mn mo mp mf mb mk mw eA eB mu0) H := hP
  have hD : va_D (fun q : Nat => s.heap.size ≤ q) (xwf xh xn xo xg xl dA xu0 ++ mwf mh mn mo mp mf mb mk mw eA eB mu0) := hD
  refine W.widen (k := 13) (n := 1791) (Nat.le_refl _) (Nat.le_refl _) ?_
  refine lv_astore_n (lv' := [(2, .ref mh), (1, .ref xh), (0, .ref b)]) hx hb dL_law_15 rfl hl (by decide) rfl (fun ls hl => ?_)
  refine lv_iconst (v := nI 0) hx hb dL_law_16 (by decide) ?_
  refine lv_istore_n (lv' := [(3, .int (nI 0)), (2, .ref mh), (1, .ref xh), (0, .ref b)]) hx hb dL_law_17 rfl hl (by decide) rfl (fun ls hl => ?_)
  exact law_loop l hL C0 hKx hKm (L + 1) 0 (pm_nn 48) (fun _ => 0) 0 0 (fun _ => 0) (fun _ => 0) 0 (fun _ => 0) (fun _ => 0) (fun _ => 0) (fun _ => 0) 0 (fun _ => 0) (Nat.zero_le L) (by omega) (Or.inl rfl) pm_nn_lt (fun _ => by decide) H locs hP hD hS ls (lv_sub hl [3, 2, 1, 0] rfl)
set_option maxHeartbeats 4000000 in
theorem lw_walk (l : Launch) (b : Addr) (xs : List Int32) : MetFree l x (headSpec (Jvm.Cond.code x code maxLocals ret :: tables_1) room_1) (lw_P b xs) (fun _ _ _ _ _ => True) lw_Q := by
  refine MetFree.of_bodyS (code := code) (maxLocals := maxLocals) (ret := ret) (by decide) ?_ ?_
  · intro args s m h hn
    obtain ⟨meth, c, h1, h2, h3, h4, h5, h6, -, -⟩ := Cond.code_spec hn (atoms_spec (ws := Jvm.Cond.code x code maxLocals ret :: tables_1) h _ List.mem_cons_self)
    exact ⟨meth, c, h1, h2, h3, h4, h5, h6⟩
  · intro p e s m args below meth c s₁ B hml0 hP _
    obtain ⟨rfl, hx, hbd, hgv⟩ := hP
    obtain ⟨scr, harrAt, hlist, hof, hsmall⟩ := hx
    obtain ⟨hcb, hkn, -, -⟩ := State.arrayAt?_spec harrAt
    have hown : s.vm.findClass R_law = some m.cls := findClass_of_methodNamed B.named
    have hts0 : ∀ c ∈ (Jvm.Cond.code x code maxLocals ret :: tables_1), c.before #[Value.ref b] s = true := atoms_spec (ws := Jvm.Cond.code x code maxLocals ret :: tables_1) B.pre
    have hts : ∀ w ∈ lw_tbl, w.before #[Value.ref b] s = true := k2_hts_sels lw_privs (fun w hw => hts0 w (List.mem_cons_of_mem _ hw)) lw_privs_ok
    have hml : c.maxLocals = 4 := B.maxLocals_eq (hts0 _ List.mem_cons_self)
    have X₀ : Stand p l e room_1 s m #[Value.ref b] below meth c s₁ [] 0 0 := Stand.of_body B
    have hh0 : s₁.heap = s.heap := by rw [B.state]; rfl
    have hsz : scr.slots.size = xs.length := by rw [← Array.length_toList, hlist, List.length_map]
    have hval : ∀ j : Nat, j < xs.length → scr.slots[j]? = some (.int (xs.getD j 0)) := fun j hj => by
      rw [← Array.getElem?_toList, hlist]
      simp [hj]
    have hbl : b < s.heap.size := (Array.getElem?_eq_some_iff.mp hcb).1
    have hX : va_X b xs.length (fun j => xs.getD j 0) s s.heap := ⟨scr, hcb, hof, hkn, hsz, hval⟩
    have K : W p l e room_1 s m #[Value.ref b] below meth c s₁.heap [] 0 0 (lw_Z below #[Value.ref b] s) (entryFrame m ([Value.ref b] : List Value).toArray 4) := by
      rw [hh0]
      exact whole_start l hbd ⟨B.exec, B.bytes, B.returns, hml, hown, hts, hX, hbl, B.notSynchronized, hgv⟩
    obtain ⟨t, a1, o, b1, b2, b3⟩ := K s₁ rfl X₀
    exact ⟨t, o, a1, b1, b2, b3⟩
theorem lw_pre_spec {args : Array Value} {s : State} (h : (Jvm.Cond.and given_1 narrow_1).before args s = true) (hr : rest_1_c.before args s = true) : ∃ (b : Addr) (xs : List Int32), lw_P b xs args s := by
  have hs := flat_of_before _ h
  have hq := flat_of_before _ hr
  have hc : (Cond.count 1).before args s = true := hs _ (by decide +kernel)
  have harr : (Cond.arrayOf (.arg 0) .int).before args s = true := hs _ (by decide +kernel)
  have hle : (Cond.le (.length (.arg 0)) (.int 256)).before args s = true := hs _ (by decide +kernel)
  have hlen : (Cond.isInt (.length (.arg 0))).before args s = true := hq _ (by decide +kernel)
  have hall : (Cond.all (.arg 0) (.isInt (.elem (.arg 0) (.index 0)))).before args s = true := hq _ (by decide +kernel)
  obtain ⟨b, xs, hb, hx⟩ := State.ints_of_pre rfl harr hlen hall
  have hsm : xs.length < 2 ^ 31 := hx.choose_spec.2.2.2
  have hev : (Term.length (.arg 0)).eval args s none [] s = some (.int xs.length.toInt32) := hx.length_eval hb
  have hv := Cond.le_ints hev (show (Term.int 256).eval args s none [] s = some (.int 256) from rfl)
  have hd : xs.length.toInt32 ≤ 256 := by
    simpa [Cond.before, Cond.holds, hv] using hle
  have hN : xs.length ≤ 256 := (Int32.ofNat_le_ofNat hsm (by decide)).mp (show Int32.ofNat xs.length ≤ Int32.ofNat 256 from hd)
  exact ⟨b, xs, Cond.one_arg hc (show args[0]? = some (.ref b) from hb), hx, hN, h⟩
theorem lw_comes (l : Launch) : Comes l x (Jvm.Cond.code x code maxLocals ret :: tables_1) room_1 (fun tb e args s => Calls_1 tb e args s ∧ rest_1 tb e args s ∧ Pre_1 tb e args s)
    (fun _ _ args s o t => lw_Q args s o t) := by
  intro p e ha hc hk s m args below hf hfit hheap happ hpre
  obtain ⟨b, xs, hP⟩ := lw_pre_spec hpre.2.2 hpre.2.1
  obtain ⟨k, o, h1, h2, h3, hQ⟩ := lw_walk l b xs p e ha hc hk s m args below hf ((Spec.applies_iff_loose hf).mp happ).1 hP trivial
  exact ⟨k, o, h1, h2, h3, hQ⟩
theorem lw_frame {s t : State} {o : Outcome} {args : Array Value} (h : Framed s o t [] 600000 7290000) :
    Framed s o t (fieldLocs frame_1_writes args s ++ arrayLocs frame_1_arrays args s ++ staticLocs frame_1_statics s) 600000 7290000 := h
theorem lw_limb (L : Cond) (hL : ∀ (args : Array Value) (s t : State), L.after args s (.returned (some (.int 1))) t = true) :
    ArmFor flags0 classFile x code maxLocals ret World_1 tables_1 room_1 Calls_1 rest_1 Pre_1
      (fun tb e a s o t => postC L tb e a s o t ∧ Framed s o t (fieldLocs frame_1_writes a s ++ arrayLocs frame_1_arrays a s ++ staticLocs frame_1_statics s) 600000 7290000) := by
  intro l _ _ _ p e ha hc hk s m args below hf hfit hheap happ hpre
  obtain ⟨k, o, h1, h2, h3, rfl, hF⟩ := lw_comes l p e ha hc hk s m args below hf hfit hheap happ hpre
  exact ⟨k, _, h1, h2, h3, hL args s _, lw_frame hF⟩
theorem i_vc : Claimed_1_1 ∧ Claimed_1_2 := ⟨lw_limb limb_1_1 (fun args s t => by simp [limb_1_1, Cond.after, Cond.holds, Cond.value]), lw_limb limb_1_2 (fun args s t => Cond.after_iff.mpr (by
  first | (rw [show limb_1_2 = Cond.eq .result (.int 1) from rfl, Cond.eq_ints (x := 1) (y := 1) rfl rfl]; simp; done) | (simp [limb_1_2, Cond.value, Term.eval]; done)))⟩
end
