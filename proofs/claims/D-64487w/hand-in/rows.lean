section
-- ===== PART A: goes FIRST, ahead of the names: the tables' words, and 'selects' of the private methods out of them =====
/-- a private method of a class that the tables say can be made, by its rows of tables_1 -/
def lw_okq (q : MethodName × Nat) : Prop := (q.1.cls ≠ "java/lang/invoke/MethodHandle" ∧ q.1.cls ≠ "java/lang/invoke/VarHandle") ∧ Cond.instantiable q.1.cls q.2 ∈ tables_1 ∧ Cond.privateMethod q.1 ∈ tables_1 ∧ Cond.instanceMethod q.1 ∈ tables_1
set_option maxRecDepth 100000
theorem lw_p0 : lw_okq (⟨"CutFinder", "put", "(III)V"⟩, 9) := ⟨⟨by decide +kernel, by decide +kernel⟩, List.mem_of_getElem? (i := 4) rfl, List.mem_of_getElem? (i := 52) rfl, List.mem_of_getElem? (i := 53) rfl⟩
theorem lw_p1 : lw_okq (⟨"CutFinder", "tightest", "(II)I"⟩, 9) := ⟨⟨by decide +kernel, by decide +kernel⟩, List.mem_of_getElem? (i := 4) rfl, List.mem_of_getElem? (i := 72) rfl, List.mem_of_getElem? (i := 73) rfl⟩
theorem lw_p2 : lw_okq (⟨"CutFinder", "merge", "(II)V"⟩, 9) := ⟨⟨by decide +kernel, by decide +kernel⟩, List.mem_of_getElem? (i := 4) rfl, List.mem_of_getElem? (i := 76) rfl, List.mem_of_getElem? (i := 77) rfl⟩
theorem lw_p3 : lw_okq (⟨"CutFinder", "flow", "(II)I"⟩, 9) := ⟨⟨by decide +kernel, by decide +kernel⟩, List.mem_of_getElem? (i := 4) rfl, List.mem_of_getElem? (i := 85) rfl, List.mem_of_getElem? (i := 86) rfl⟩
theorem lw_p4 : lw_okq (⟨"CutFinder", "spread", "(II)I"⟩, 9) := ⟨⟨by decide +kernel, by decide +kernel⟩, List.mem_of_getElem? (i := 4) rfl, List.mem_of_getElem? (i := 89) rfl, List.mem_of_getElem? (i := 90) rfl⟩
theorem lw_p5 : lw_okq (⟨"CutFinder", "push", "(I)I"⟩, 9) := ⟨⟨by decide +kernel, by decide +kernel⟩, List.mem_of_getElem? (i := 4) rfl, List.mem_of_getElem? (i := 93) rfl, List.mem_of_getElem? (i := 94) rfl⟩
theorem lw_p6 : lw_okq (⟨"CutFinder", "leastAgainst", "(I)I"⟩, 9) := ⟨⟨by decide +kernel, by decide +kernel⟩, List.mem_of_getElem? (i := 4) rfl, List.mem_of_getElem? (i := 114) rfl, List.mem_of_getElem? (i := 115) rfl⟩
theorem lw_p7 : lw_okq (⟨"CutFinder", "grow", "()V"⟩, 9) := ⟨⟨by decide +kernel, by decide +kernel⟩, List.mem_of_getElem? (i := 4) rfl, List.mem_of_getElem? (i := 122) rfl, List.mem_of_getElem? (i := 123) rfl⟩
theorem lw_p8 : lw_okq (⟨"CutFinder", "onTree", "(II)I"⟩, 9) := ⟨⟨by decide +kernel, by decide +kernel⟩, List.mem_of_getElem? (i := 4) rfl, List.mem_of_getElem? (i := 126) rfl, List.mem_of_getElem? (i := 127) rfl⟩
theorem lw_p9 : lw_okq (⟨"CutFinderModel", "pair", "(II)Z"⟩, 1) := ⟨⟨by decide +kernel, by decide +kernel⟩, List.mem_of_getElem? (i := 143) rfl, List.mem_of_getElem? (i := 157) rfl, List.mem_of_getElem? (i := 158) rfl⟩
theorem lw_p10 : lw_okq (⟨"CutFinderModel", "put", "(III)V"⟩, 1) := ⟨⟨by decide +kernel, by decide +kernel⟩, List.mem_of_getElem? (i := 143) rfl, List.mem_of_getElem? (i := 161) rfl, List.mem_of_getElem? (i := 162) rfl⟩
theorem lw_p11 : lw_okq (⟨"CutFinderModel", "costOf", "(I)I"⟩, 1) := ⟨⟨by decide +kernel, by decide +kernel⟩, List.mem_of_getElem? (i := 143) rfl, List.mem_of_getElem? (i := 173) rfl, List.mem_of_getElem? (i := 174) rfl⟩
theorem lw_p12 : lw_okq (⟨"CutFinderModel", "cheapest", "(II)I"⟩, 1) := ⟨⟨by decide +kernel, by decide +kernel⟩, List.mem_of_getElem? (i := 143) rfl, List.mem_of_getElem? (i := 181) rfl, List.mem_of_getElem? (i := 182) rfl⟩
def lw_privs_1 : List (MethodName × Nat) := [(⟨"CutFinder", "put", "(III)V"⟩, 9), (⟨"CutFinder", "tightest", "(II)I"⟩, 9), (⟨"CutFinder", "merge", "(II)V"⟩, 9), (⟨"CutFinder", "flow", "(II)I"⟩, 9), (⟨"CutFinder", "spread", "(II)I"⟩, 9), (⟨"CutFinder", "push", "(I)I"⟩, 9), (⟨"CutFinder", "leastAgainst", "(I)I"⟩, 9), (⟨"CutFinder", "grow", "()V"⟩, 9), (⟨"CutFinder", "onTree", "(II)I"⟩, 9), (⟨"CutFinderModel", "pair", "(II)Z"⟩, 1), (⟨"CutFinderModel", "put", "(III)V"⟩, 1), (⟨"CutFinderModel", "costOf", "(I)I"⟩, 1), (⟨"CutFinderModel", "cheapest", "(II)I"⟩, 1)]
theorem lw_r1 : ∀ q ∈ lw_privs_1, lw_okq q := List.forall_mem_cons.mpr ⟨lw_p0, List.forall_mem_cons.mpr ⟨lw_p1, List.forall_mem_cons.mpr ⟨lw_p2, List.forall_mem_cons.mpr ⟨lw_p3, List.forall_mem_cons.mpr ⟨lw_p4, List.forall_mem_cons.mpr ⟨lw_p5, List.forall_mem_cons.mpr ⟨lw_p6, List.forall_mem_cons.mpr ⟨lw_p7, List.forall_mem_cons.mpr ⟨lw_p8, List.forall_mem_cons.mpr ⟨lw_p9, List.forall_mem_cons.mpr ⟨lw_p10, List.forall_mem_cons.mpr ⟨lw_p11, List.forall_mem_cons.mpr ⟨lw_p12, fun _ h => absurd h List.not_mem_nil⟩⟩⟩⟩⟩⟩⟩⟩⟩⟩⟩⟩⟩
def lw_privs : List (MethodName × Nat) := lw_privs_1
def lw_tbl : List Cond := k2_sels lw_privs ++ tables_1
theorem lw_privs_ok : ∀ q ∈ lw_privs, lw_okq q := lw_r1
-- ===== ONE list of words for every method: the tables' words that hold all through a run =====
def lw_all : List Cond := lw_tbl.filter goodWord
/-- a word of the tables by its place: claim/WORDS.tsv -/
theorem lw_w {w : Cond} (i : Nat) (h : lw_tbl[i]? = some w) (g : goodWord w = true) : w ∈ lw_all := List.mem_filter.mpr ⟨List.mem_of_getElem? h, g⟩
theorem lw_all_tbl {w : Cond} (h : w ∈ lw_all) : w ∈ lw_tbl := (List.mem_filter.mp h).1
theorem lw_self : GoodIn lw_all lw_all := fun w h => ⟨h, good_of_word (List.mem_filter.mp h).2⟩
/-- a class's field words, by their places -/
theorem lw_in (ws : List Cond) (ps : List Nat) (hp : ws = ps.filterMap (fun i => lw_tbl[i]?)) (hg : ws.all goodWord = true) : ∀ w ∈ ws, w ∈ lw_all := by
  intro w h
  have h1 := List.all_eq_true.mp hg w h
  rw [hp] at h
  obtain ⟨i, -, hi⟩ := List.mem_filterMap.mp h
  exact lw_w i hi h1
/-- the words of a contract for the method y with code b, L locals, answer r -/
abbrev ws_ (y : MethodName) (b : ByteArray) (L : Nat) (r : Option FieldType) : List Cond := Cond.code y b L r :: lw_all
theorem lw_meth {y : MethodName} {b : ByteArray} {L : Nat} {r : Option FieldType} (h : Cond.code y b L r ∈ lw_all) : GoodIn lw_all (ws_ y b L r) := by
  intro w hw
  rcases List.mem_cons.mp hw with e | e
  · rw [e]
    exact lw_self _ h
  · exact lw_self _ e
theorem lw_app {a c : List Cond} (ha : ∀ w ∈ a, w ∈ lw_all) (hc : GoodIn lw_all c) : GoodIn lw_all (a ++ c) := by
  intro w hw
  rcases List.mem_append.mp hw with e | e
  · exact lw_self w (ha w e)
  · exact hc w e
/-- what a call through an object asks: cwV n hts (lw_V ..) -/
theorem lw_V {own : String} {idx : Nat} {C : String} {y : MethodName} {b : ByteArray} {L : Nat} {r : Option FieldType} (h1 : Cond.methodLink own idx y ∈ lw_all) (h2 : Cond.instanceMethod y ∈ lw_all) (h3 : Cond.selects C y y ∈ lw_all) (h4 : Cond.initialized C ∈ lw_all) (h5 : Cond.code y b L r ∈ lw_all) : GoodIn lw_all (wsV own idx C y (ws_ y b L r)) := by
  refine lw_app ?_ (lw_meth h5)
  intro w hw
  simp only [List.mem_cons, List.not_mem_nil, or_false] at hw
  rcases hw with e | e | e | e
  · rw [e]; exact h1
  · rw [e]; exact h2
  · rw [e]; exact h3
  · rw [e]; exact h4
/-- what a static call asks: va_cwS n hts (lw_S ..) -/
theorem lw_S {own : String} {idx : Nat} {y : MethodName} {b : ByteArray} {L : Nat} {r : Option FieldType} (h1 : Cond.methodLink own idx y ∈ lw_all) (h2 : Cond.static y ∈ lw_all) (h3 : Cond.initialized y.cls ∈ lw_all) (h4 : Cond.code y b L r ∈ lw_all) : GoodIn lw_all (va_wsS own idx y (ws_ y b L r)) := by
  refine lw_app ?_ (lw_meth h4)
  intro w hw
  simp only [List.mem_cons, List.not_mem_nil, or_false] at hw
  rcases hw with e | e | e
  · rw [e]; exact h1
  · rw [e]; exact h2
  · rw [e]; exact h3
/-- the words of a contract for a method WITH HANDLERS (hh: its table) -/
abbrev wsW_ (y : MethodName) (b : ByteArray) (L : Nat) (r : Option FieldType) (hh : List (Nat × Nat × Nat × Nat)) : List Cond := Cond.codeWith y b L r hh :: lw_all
theorem lw_methW {y : MethodName} {b : ByteArray} {L : Nat} {r : Option FieldType} {hh : List (Nat × Nat × Nat × Nat)} (h : Cond.codeWith y b L r hh ∈ lw_all) : GoodIn lw_all (wsW_ y b L r hh) := by
  intro w hw
  rcases List.mem_cons.mp hw with e | e
  · rw [e]
    exact lw_self _ h
  · exact lw_self _ e
/-- any list of words by their places (lw_in), good -/
theorem lw_good {ws : List Cond} (h : ∀ w ∈ ws, w ∈ lw_all) : GoodIn lw_all ws := fun w hw => lw_self w (h w hw)
/-- what a call of a method with handlers asks: vx_cwVW n hts (lw_VW ..), vx_cwSW n hts (lw_SW ..) -/
theorem lw_VW {own : String} {idx : Nat} {C : String} {y : MethodName} {b : ByteArray} {L : Nat} {r : Option FieldType} {hh : List (Nat × Nat × Nat × Nat)} (h1 : Cond.methodLink own idx y ∈ lw_all) (h2 : Cond.instanceMethod y ∈ lw_all) (h3 : Cond.selects C y y ∈ lw_all) (h4 : Cond.initialized C ∈ lw_all) (h5 : Cond.codeWith y b L r hh ∈ lw_all) : GoodIn lw_all (wsV own idx C y (wsW_ y b L r hh)) := by
  refine lw_app ?_ (lw_methW h5)
  intro w hw
  simp only [List.mem_cons, List.not_mem_nil, or_false] at hw
  rcases hw with e | e | e | e
  · rw [e]; exact h1
  · rw [e]; exact h2
  · rw [e]; exact h3
  · rw [e]; exact h4
theorem lw_SW {own : String} {idx : Nat} {y : MethodName} {b : ByteArray} {L : Nat} {r : Option FieldType} {hh : List (Nat × Nat × Nat × Nat)} (h1 : Cond.methodLink own idx y ∈ lw_all) (h2 : Cond.static y ∈ lw_all) (h3 : Cond.initialized y.cls ∈ lw_all) (h4 : Cond.codeWith y b L r hh ∈ lw_all) : GoodIn lw_all (va_wsS own idx y (wsW_ y b L r hh)) := by
  refine lw_app ?_ (lw_methW h4)
  intro w hw
  simp only [List.mem_cons, List.not_mem_nil, or_false] at hw
  rcases hw with e | e | e
  · rw [e]; exact h1
  · rw [e]; exact h2
  · rw [e]; exact h3
/-- a word by its place in its run of the tables -/
theorem lw_at {r : List Cond} (hr : ∀ w ∈ r, w ∈ lw_tbl) {w : Cond} (i : Nat) (h : r[i]? = some w) : w ∈ lw_tbl := hr w (List.mem_of_getElem? h)
theorem lw_g {w : Cond} (h : w ∈ lw_tbl) (g : goodWord w = true) : w ∈ lw_all := List.mem_filter.mpr ⟨h, g⟩
theorem lw_ms : ∀ w ∈ k2_sels lw_privs, w ∈ lw_tbl := fun w h => show w ∈ k2_sels lw_privs ++ tables_1 from List.mem_append_left _ h
theorem lw_m0 : ∀ w ∈ tables_1, w ∈ lw_tbl := fun w h => show w ∈ k2_sels lw_privs ++ tables_1 from List.mem_append_right (k2_sels lw_privs) h
theorem qs0 : (Cond.selects "CutFinder" ⟨"CutFinder", "put", "(III)V"⟩ ⟨"CutFinder", "put", "(III)V"⟩) ∈ lw_all := lw_g (lw_at lw_ms 0 rfl) rfl
theorem qs1 : (Cond.selects "CutFinder" ⟨"CutFinder", "tightest", "(II)I"⟩ ⟨"CutFinder", "tightest", "(II)I"⟩) ∈ lw_all := lw_g (lw_at lw_ms 1 rfl) rfl
theorem qs2 : (Cond.selects "CutFinder" ⟨"CutFinder", "merge", "(II)V"⟩ ⟨"CutFinder", "merge", "(II)V"⟩) ∈ lw_all := lw_g (lw_at lw_ms 2 rfl) rfl
theorem qs3 : (Cond.selects "CutFinder" ⟨"CutFinder", "flow", "(II)I"⟩ ⟨"CutFinder", "flow", "(II)I"⟩) ∈ lw_all := lw_g (lw_at lw_ms 3 rfl) rfl
theorem qs4 : (Cond.selects "CutFinder" ⟨"CutFinder", "spread", "(II)I"⟩ ⟨"CutFinder", "spread", "(II)I"⟩) ∈ lw_all := lw_g (lw_at lw_ms 4 rfl) rfl
theorem qs5 : (Cond.selects "CutFinder" ⟨"CutFinder", "push", "(I)I"⟩ ⟨"CutFinder", "push", "(I)I"⟩) ∈ lw_all := lw_g (lw_at lw_ms 5 rfl) rfl
theorem qs6 : (Cond.selects "CutFinder" ⟨"CutFinder", "leastAgainst", "(I)I"⟩ ⟨"CutFinder", "leastAgainst", "(I)I"⟩) ∈ lw_all := lw_g (lw_at lw_ms 6 rfl) rfl
theorem qs7 : (Cond.selects "CutFinder" ⟨"CutFinder", "grow", "()V"⟩ ⟨"CutFinder", "grow", "()V"⟩) ∈ lw_all := lw_g (lw_at lw_ms 7 rfl) rfl
theorem qs8 : (Cond.selects "CutFinder" ⟨"CutFinder", "onTree", "(II)I"⟩ ⟨"CutFinder", "onTree", "(II)I"⟩) ∈ lw_all := lw_g (lw_at lw_ms 8 rfl) rfl
theorem qs9 : (Cond.selects "CutFinderModel" ⟨"CutFinderModel", "pair", "(II)Z"⟩ ⟨"CutFinderModel", "pair", "(II)Z"⟩) ∈ lw_all := lw_g (lw_at lw_ms 9 rfl) rfl
theorem qs10 : (Cond.selects "CutFinderModel" ⟨"CutFinderModel", "put", "(III)V"⟩ ⟨"CutFinderModel", "put", "(III)V"⟩) ∈ lw_all := lw_g (lw_at lw_ms 10 rfl) rfl
theorem qs11 : (Cond.selects "CutFinderModel" ⟨"CutFinderModel", "costOf", "(I)I"⟩ ⟨"CutFinderModel", "costOf", "(I)I"⟩) ∈ lw_all := lw_g (lw_at lw_ms 11 rfl) rfl
theorem qs12 : (Cond.selects "CutFinderModel" ⟨"CutFinderModel", "cheapest", "(II)I"⟩ ⟨"CutFinderModel", "cheapest", "(II)I"⟩) ∈ lw_all := lw_g (lw_at lw_ms 12 rfl) rfl
end
section
set_option maxRecDepth 100000
theorem q52 : (Jvm.Cond.arrayClass Jvm.ClassFile.FieldType.int) ∈ lw_all := lw_g (lw_at lw_m0 39 rfl) rfl
theorem q53 : (Jvm.Cond.arrayClass Jvm.ClassFile.FieldType.byte) ∈ lw_all := lw_g (lw_at lw_m0 40 rfl) rfl

theorem q13 : (Jvm.Cond.initialized "CutFinderLaw") ∈ lw_all := lw_g (lw_at lw_m0 0 rfl) rfl
theorem q16 : (Jvm.Cond.classLink "CutFinderLaw" (7 : Nat) "CutFinder") ∈ lw_all := lw_g (lw_at lw_m0 3 rfl) rfl
theorem q18 : (Jvm.Cond.methodLink "CutFinderLaw" (9 : Nat) ({ cls := "CutFinder", name := "<init>", desc := "()V" } : Jvm.MethodName)) ∈ lw_all := lw_g (lw_at lw_m0 5 rfl) rfl
theorem q54 : (Jvm.Cond.methodLink "CutFinderLaw" (13 : Nat) ({ cls := "CutFinder", name := "set", desc := "(III)Z" } : Jvm.MethodName)) ∈ lw_all := lw_g (lw_at lw_m0 41 rfl) rfl
theorem q68 : (Jvm.Cond.methodLink "CutFinderLaw" (18 : Nat) ({ cls := "CutFinder", name := "capacity", desc := "(II)I" } : Jvm.MethodName)) ∈ lw_all := lw_g (lw_at lw_m0 55 rfl) rfl
theorem q72 : (Jvm.Cond.methodLink "CutFinderLaw" (23 : Nat) ({ cls := "CutFinder", name := "cost", desc := "(I)I" } : Jvm.MethodName)) ∈ lw_all := lw_g (lw_at lw_m0 59 rfl) rfl
theorem q79 : (Jvm.Cond.methodLink "CutFinderLaw" (28 : Nat) ({ cls := "CutFinder", name := "least", desc := "()I" } : Jvm.MethodName)) ∈ lw_all := lw_g (lw_at lw_m0 66 rfl) rfl
theorem q92 : (Jvm.Cond.methodLink "CutFinderLaw" (33 : Nat) ({ cls := "CutFinder", name := "leastSide", desc := "()I" } : Jvm.MethodName)) ∈ lw_all := lw_g (lw_at lw_m0 79 rfl) rfl
theorem q109 : (Jvm.Cond.methodLink "CutFinderLaw" (37 : Nat) ({ cls := "CutFinder", name := "between", desc := "(II)I" } : Jvm.MethodName)) ∈ lw_all := lw_g (lw_at lw_m0 96 rfl) rfl
theorem q113 : (Jvm.Cond.methodLink "CutFinderLaw" (41 : Nat) ({ cls := "CutFinder", name := "core", desc := "(II)I" } : Jvm.MethodName)) ∈ lw_all := lw_g (lw_at lw_m0 100 rfl) rfl
theorem q117 : (Jvm.Cond.methodLink "CutFinderLaw" (45 : Nat) ({ cls := "CutFinder", name := "reach", desc := "(II)I" } : Jvm.MethodName)) ∈ lw_all := lw_g (lw_at lw_m0 104 rfl) rfl
theorem q122 : (Jvm.Cond.methodLink "CutFinderLaw" (49 : Nat) ({ cls := "CutFinder", name := "forced", desc := "(II)I" } : Jvm.MethodName)) ∈ lw_all := lw_g (lw_at lw_m0 109 rfl) rfl
theorem q130 : (Jvm.Cond.methodLink "CutFinderLaw" (53 : Nat) ({ cls := "CutFinder", name := "pairsAtLeast", desc := "(I)I" } : Jvm.MethodName)) ∈ lw_all := lw_g (lw_at lw_m0 117 rfl) rfl
theorem q142 : (Jvm.Cond.methodLink "CutFinderLaw" (57 : Nat) ({ cls := "CutFinder", name := "group", desc := "(II)I" } : Jvm.MethodName)) ∈ lw_all := lw_g (lw_at lw_m0 129 rfl) rfl
theorem q146 : (Jvm.Cond.methodLink "CutFinderLaw" (61 : Nat) ({ cls := "CutFinder", name := "loss", desc := "(II)I" } : Jvm.MethodName)) ∈ lw_all := lw_g (lw_at lw_m0 133 rfl) rfl
theorem q150 : (Jvm.Cond.methodLink "CutFinderLaw" (65 : Nat) ({ cls := "CutFinder", name := "tight", desc := "(IIII)Z" } : Jvm.MethodName)) ∈ lw_all := lw_g (lw_at lw_m0 137 rfl) rfl
theorem q155 : (Jvm.Cond.classLink "CutFinderLaw" (10 : Nat) "CutFinderModel") ∈ lw_all := lw_g (lw_at lw_m0 142 rfl) rfl
theorem q157 : (Jvm.Cond.methodLink "CutFinderLaw" (12 : Nat) ({ cls := "CutFinderModel", name := "<init>", desc := "()V" } : Jvm.MethodName)) ∈ lw_all := lw_g (lw_at lw_m0 144 rfl) rfl
theorem q165 : (Jvm.Cond.methodLink "CutFinderLaw" (17 : Nat) ({ cls := "CutFinderModel", name := "set", desc := "(III)Z" } : Jvm.MethodName)) ∈ lw_all := lw_g (lw_at lw_m0 152 rfl) rfl
theorem q177 : (Jvm.Cond.methodLink "CutFinderLaw" (22 : Nat) ({ cls := "CutFinderModel", name := "capacity", desc := "(II)I" } : Jvm.MethodName)) ∈ lw_all := lw_g (lw_at lw_m0 164 rfl) rfl
theorem q181 : (Jvm.Cond.methodLink "CutFinderLaw" (27 : Nat) ({ cls := "CutFinderModel", name := "cost", desc := "(I)I" } : Jvm.MethodName)) ∈ lw_all := lw_g (lw_at lw_m0 168 rfl) rfl
theorem q189 : (Jvm.Cond.methodLink "CutFinderLaw" (32 : Nat) ({ cls := "CutFinderModel", name := "least", desc := "()I" } : Jvm.MethodName)) ∈ lw_all := lw_g (lw_at lw_m0 176 rfl) rfl
theorem q197 : (Jvm.Cond.methodLink "CutFinderLaw" (36 : Nat) ({ cls := "CutFinderModel", name := "leastSide", desc := "()I" } : Jvm.MethodName)) ∈ lw_all := lw_g (lw_at lw_m0 184 rfl) rfl
theorem q201 : (Jvm.Cond.methodLink "CutFinderLaw" (40 : Nat) ({ cls := "CutFinderModel", name := "between", desc := "(II)I" } : Jvm.MethodName)) ∈ lw_all := lw_g (lw_at lw_m0 188 rfl) rfl
theorem q205 : (Jvm.Cond.methodLink "CutFinderLaw" (44 : Nat) ({ cls := "CutFinderModel", name := "core", desc := "(II)I" } : Jvm.MethodName)) ∈ lw_all := lw_g (lw_at lw_m0 192 rfl) rfl
theorem q210 : (Jvm.Cond.methodLink "CutFinderLaw" (48 : Nat) ({ cls := "CutFinderModel", name := "reach", desc := "(II)I" } : Jvm.MethodName)) ∈ lw_all := lw_g (lw_at lw_m0 197 rfl) rfl
theorem q214 : (Jvm.Cond.methodLink "CutFinderLaw" (52 : Nat) ({ cls := "CutFinderModel", name := "forced", desc := "(II)I" } : Jvm.MethodName)) ∈ lw_all := lw_g (lw_at lw_m0 201 rfl) rfl
theorem q218 : (Jvm.Cond.methodLink "CutFinderLaw" (56 : Nat) ({ cls := "CutFinderModel", name := "pairsAtLeast", desc := "(I)I" } : Jvm.MethodName)) ∈ lw_all := lw_g (lw_at lw_m0 205 rfl) rfl
theorem q222 : (Jvm.Cond.methodLink "CutFinderLaw" (60 : Nat) ({ cls := "CutFinderModel", name := "group", desc := "(II)I" } : Jvm.MethodName)) ∈ lw_all := lw_g (lw_at lw_m0 209 rfl) rfl
theorem q226 : (Jvm.Cond.methodLink "CutFinderLaw" (64 : Nat) ({ cls := "CutFinderModel", name := "loss", desc := "(II)I" } : Jvm.MethodName)) ∈ lw_all := lw_g (lw_at lw_m0 213 rfl) rfl
theorem q231 : (Jvm.Cond.methodLink "CutFinderLaw" (69 : Nat) ({ cls := "CutFinderModel", name := "tight", desc := "(IIII)Z" } : Jvm.MethodName)) ∈ lw_all := lw_g (lw_at lw_m0 218 rfl) rfl

/-! java/lang/Object -/
def RJ0 : String := "java/lang/Object"
abbrev cJ0_init : ByteArray := object_method_1_code
def yJ0_init : MethodName := ⟨RJ0, "<init>", "()V"⟩
theorem dJ0_init_0 : decode cJ0_init 0 = .ok (.return_, 1) := by decide +kernel
theorem q22 : (Jvm.Cond.instanceMethod ({ cls := "java/lang/Object", name := "<init>", desc := "()V" } : Jvm.MethodName)) ∈ lw_all := lw_g (lw_at lw_m0 9 rfl) rfl
theorem q23 : (Jvm.Cond.code ({ cls := "java/lang/Object", name := "<init>", desc := "()V" } : Jvm.MethodName) object_method_1_code (1 : Nat) (Option.none : Option Jvm.ClassFile.FieldType)) ∈ lw_all := lw_g (lw_at lw_m0 10 rfl) rfl

/-! CutFinder -/
def RX0 : String := "CutFinder"
def TX0 : u_T := fun k => match k with
  | 0 => ("CutFinder", "capacities", "[I", true)
  | 1 => ("CutFinder", "room", "[I", true)
  | 2 => ("CutFinder", "foundSet", "I", false)
  | 3 => ("CutFinder", "foundFrom", "[B", true)
  | 4 => ("CutFinder", "line", "[B", true)
  | 5 => ("CutFinder", "joined", "[I", true)
  | 6 => ("CutFinder", "tightness", "[I", true)
  | 7 => ("CutFinder", "above", "[B", true)
  | _ => ("CutFinder", "strength", "[I", true)
def tyX0 : Nat → FieldType := fun k => match k with
  | 0 => .array .int
  | 1 => .array .int
  | 2 => .int
  | 3 => .array .byte
  | 4 => .array .byte
  | 5 => .array .int
  | 6 => .array .int
  | 7 => .array .byte
  | _ => .array .int
abbrev wsX00 : List Cond := u_ws RX0 TX0 9
theorem nmX0 : ∀ a, a < 9 → ∀ b, b < 9 → a ≠ b → (TX0 a).2.1 ≠ (TX0 b).2.1 := by decide +kernel
theorem tyX0_ok : ∀ k, k < 9 → parseFieldDescriptor (TX0 k).2.2.1 = some (tyX0 k) := by decide +kernel
abbrev cX0_init : ByteArray := prog_1_method_1_code
def yX0_init : MethodName := ⟨RX0, "<init>", "()V"⟩
abbrev cX0_set : ByteArray := prog_1_method_5_code
def yX0_set : MethodName := ⟨RX0, "set", "(III)Z"⟩
abbrev cX0_isPair : ByteArray := prog_1_method_3_code
def yX0_isPair : MethodName := ⟨RX0, "isPair", "(II)Z"⟩
abbrev cX0_isPlace : ByteArray := prog_1_method_2_code
def yX0_isPlace : MethodName := ⟨RX0, "isPlace", "(I)Z"⟩
abbrev cX0_put : ByteArray := prog_1_method_6_code
def yX0_put : MethodName := ⟨RX0, "put", "(III)V"⟩
abbrev cX0_capacity : ByteArray := prog_1_method_7_code
def yX0_capacity : MethodName := ⟨RX0, "capacity", "(II)I"⟩
abbrev cX0_cost : ByteArray := prog_1_method_8_code
def yX0_cost : MethodName := ⟨RX0, "cost", "(I)I"⟩
abbrev cX0_in : ByteArray := prog_1_method_4_code
def yX0_in : MethodName := ⟨RX0, "in", "(II)Z"⟩
abbrev cX0_least : ByteArray := prog_1_method_9_code
def yX0_least : MethodName := ⟨RX0, "least", "()I"⟩
abbrev cX0_tightest : ByteArray := prog_1_method_10_code
def yX0_tightest : MethodName := ⟨RX0, "tightest", "(II)I"⟩
abbrev cX0_merge : ByteArray := prog_1_method_11_code
def yX0_merge : MethodName := ⟨RX0, "merge", "(II)V"⟩
abbrev cX0_leastSide : ByteArray := prog_1_method_15_code
def yX0_leastSide : MethodName := ⟨RX0, "leastSide", "()I"⟩
abbrev cX0_flow : ByteArray := prog_1_method_14_code
def yX0_flow : MethodName := ⟨RX0, "flow", "(II)I"⟩
abbrev cX0_spread : ByteArray := prog_1_method_12_code
def yX0_spread : MethodName := ⟨RX0, "spread", "(II)I"⟩
abbrev cX0_push : ByteArray := prog_1_method_13_code
def yX0_push : MethodName := ⟨RX0, "push", "(I)I"⟩
abbrev cX0_between : ByteArray := prog_1_method_16_code
def yX0_between : MethodName := ⟨RX0, "between", "(II)I"⟩
abbrev cX0_core : ByteArray := prog_1_method_17_code
def yX0_core : MethodName := ⟨RX0, "core", "(II)I"⟩
abbrev cX0_reach : ByteArray := prog_1_method_18_code
def yX0_reach : MethodName := ⟨RX0, "reach", "(II)I"⟩
abbrev cX0_forced : ByteArray := prog_1_method_20_code
def yX0_forced : MethodName := ⟨RX0, "forced", "(II)I"⟩
abbrev cX0_leastAgainst : ByteArray := prog_1_method_19_code
def yX0_leastAgainst : MethodName := ⟨RX0, "leastAgainst", "(I)I"⟩
abbrev cX0_pairsAtLeast : ByteArray := prog_1_method_23_code
def yX0_pairsAtLeast : MethodName := ⟨RX0, "pairsAtLeast", "(I)I"⟩
abbrev cX0_grow : ByteArray := prog_1_method_21_code
def yX0_grow : MethodName := ⟨RX0, "grow", "()V"⟩
abbrev cX0_onTree : ByteArray := prog_1_method_22_code
def yX0_onTree : MethodName := ⟨RX0, "onTree", "(II)I"⟩
abbrev cX0_group : ByteArray := prog_1_method_24_code
def yX0_group : MethodName := ⟨RX0, "group", "(II)I"⟩
abbrev cX0_loss : ByteArray := prog_1_method_25_code
def yX0_loss : MethodName := ⟨RX0, "loss", "(II)I"⟩
abbrev cX0_tight : ByteArray := prog_1_method_26_code
def yX0_tight : MethodName := ⟨RX0, "tight", "(IIII)Z"⟩
theorem q14 : (Jvm.Cond.initialized "CutFinder") ∈ lw_all := lw_g (lw_at lw_m0 1 rfl) rfl
theorem q17 : (Jvm.Cond.instantiable "CutFinder" (9 : Nat)) ∈ lw_all := lw_g (lw_at lw_m0 4 rfl) rfl
theorem q19 : (Jvm.Cond.instanceMethod ({ cls := "CutFinder", name := "<init>", desc := "()V" } : Jvm.MethodName)) ∈ lw_all := lw_g (lw_at lw_m0 6 rfl) rfl
theorem q20 : (Jvm.Cond.code ({ cls := "CutFinder", name := "<init>", desc := "()V" } : Jvm.MethodName) prog_1_method_1_code (1 : Nat) (Option.none : Option Jvm.ClassFile.FieldType)) ∈ lw_all := lw_g (lw_at lw_m0 7 rfl) rfl
theorem q21 : (Jvm.Cond.methodLink "CutFinder" (1 : Nat) ({ cls := "java/lang/Object", name := "<init>", desc := "()V" } : Jvm.MethodName)) ∈ lw_all := lw_g (lw_at lw_m0 8 rfl) rfl
theorem q24 : (Jvm.Cond.fieldLink "CutFinder" (7 : Nat) "CutFinder" "capacities" "[I") ∈ lw_all := lw_g (lw_at lw_m0 11 rfl) rfl
theorem q25 : (Jvm.Cond.fieldLink "CutFinder" (13 : Nat) "CutFinder" "room" "[I") ∈ lw_all := lw_g (lw_at lw_m0 12 rfl) rfl
theorem q26 : (Jvm.Cond.fieldLink "CutFinder" (59 : Nat) "CutFinder" "foundSet" "I") ∈ lw_all := lw_g (lw_at lw_m0 13 rfl) rfl
theorem q27 : (Jvm.Cond.fieldLink "CutFinder" (16 : Nat) "CutFinder" "foundFrom" "[B") ∈ lw_all := lw_g (lw_at lw_m0 14 rfl) rfl
theorem q28 : (Jvm.Cond.fieldLink "CutFinder" (20 : Nat) "CutFinder" "line" "[B") ∈ lw_all := lw_g (lw_at lw_m0 15 rfl) rfl
theorem q29 : (Jvm.Cond.fieldLink "CutFinder" (23 : Nat) "CutFinder" "joined" "[I") ∈ lw_all := lw_g (lw_at lw_m0 16 rfl) rfl
theorem q30 : (Jvm.Cond.fieldLink "CutFinder" (26 : Nat) "CutFinder" "tightness" "[I") ∈ lw_all := lw_g (lw_at lw_m0 17 rfl) rfl
theorem q31 : (Jvm.Cond.fieldLink "CutFinder" (29 : Nat) "CutFinder" "above" "[B") ∈ lw_all := lw_g (lw_at lw_m0 18 rfl) rfl
theorem q32 : (Jvm.Cond.fieldLink "CutFinder" (32 : Nat) "CutFinder" "strength" "[I") ∈ lw_all := lw_g (lw_at lw_m0 19 rfl) rfl
theorem q33 : (Jvm.Cond.laysFinal "CutFinder" "CutFinder" "capacities" "[I") ∈ lw_all := lw_g (lw_at lw_m0 20 rfl) rfl
theorem q34 : (Jvm.Cond.soleField "CutFinder" "capacities") ∈ lw_all := lw_g (lw_at lw_m0 21 rfl) rfl
theorem q35 : (Jvm.Cond.laysFinal "CutFinder" "CutFinder" "room" "[I") ∈ lw_all := lw_g (lw_at lw_m0 22 rfl) rfl
theorem q36 : (Jvm.Cond.soleField "CutFinder" "room") ∈ lw_all := lw_g (lw_at lw_m0 23 rfl) rfl
theorem q37 : (Jvm.Cond.lays "CutFinder" "CutFinder" "foundSet" "I") ∈ lw_all := lw_g (lw_at lw_m0 24 rfl) rfl
theorem q38 : (Jvm.Cond.soleField "CutFinder" "foundSet") ∈ lw_all := lw_g (lw_at lw_m0 25 rfl) rfl
theorem q39 : (Jvm.Cond.laysFinal "CutFinder" "CutFinder" "foundFrom" "[B") ∈ lw_all := lw_g (lw_at lw_m0 26 rfl) rfl
theorem q40 : (Jvm.Cond.soleField "CutFinder" "foundFrom") ∈ lw_all := lw_g (lw_at lw_m0 27 rfl) rfl
theorem q41 : (Jvm.Cond.laysFinal "CutFinder" "CutFinder" "line" "[B") ∈ lw_all := lw_g (lw_at lw_m0 28 rfl) rfl
theorem q42 : (Jvm.Cond.soleField "CutFinder" "line") ∈ lw_all := lw_g (lw_at lw_m0 29 rfl) rfl
theorem q43 : (Jvm.Cond.laysFinal "CutFinder" "CutFinder" "joined" "[I") ∈ lw_all := lw_g (lw_at lw_m0 30 rfl) rfl
theorem q44 : (Jvm.Cond.soleField "CutFinder" "joined") ∈ lw_all := lw_g (lw_at lw_m0 31 rfl) rfl
theorem q45 : (Jvm.Cond.laysFinal "CutFinder" "CutFinder" "tightness" "[I") ∈ lw_all := lw_g (lw_at lw_m0 32 rfl) rfl
theorem q46 : (Jvm.Cond.soleField "CutFinder" "tightness") ∈ lw_all := lw_g (lw_at lw_m0 33 rfl) rfl
theorem q47 : (Jvm.Cond.laysFinal "CutFinder" "CutFinder" "above" "[B") ∈ lw_all := lw_g (lw_at lw_m0 34 rfl) rfl
theorem q48 : (Jvm.Cond.soleField "CutFinder" "above") ∈ lw_all := lw_g (lw_at lw_m0 35 rfl) rfl
theorem q49 : (Jvm.Cond.laysFinal "CutFinder" "CutFinder" "strength" "[I") ∈ lw_all := lw_g (lw_at lw_m0 36 rfl) rfl
theorem q50 : (Jvm.Cond.soleField "CutFinder" "strength") ∈ lw_all := lw_g (lw_at lw_m0 37 rfl) rfl
theorem q51 : (Jvm.Cond.superclass "CutFinder" "java/lang/Object") ∈ lw_all := lw_g (lw_at lw_m0 38 rfl) rfl
theorem q55 : (Jvm.Cond.instanceMethod ({ cls := "CutFinder", name := "set", desc := "(III)Z" } : Jvm.MethodName)) ∈ lw_all := lw_g (lw_at lw_m0 42 rfl) rfl
theorem q56 : (Jvm.Cond.selects "CutFinder" ({ cls := "CutFinder", name := "set", desc := "(III)Z" } : Jvm.MethodName) ({ cls := "CutFinder", name := "set", desc := "(III)Z" } : Jvm.MethodName)) ∈ lw_all := lw_g (lw_at lw_m0 43 rfl) rfl
theorem q57 : (Jvm.Cond.code ({ cls := "CutFinder", name := "set", desc := "(III)Z" } : Jvm.MethodName) prog_1_method_5_code (4 : Nat) (Option.some Jvm.ClassFile.FieldType.boolean)) ∈ lw_all := lw_g (lw_at lw_m0 44 rfl) rfl
theorem q58 : (Jvm.Cond.methodLink "CutFinder" (39 : Nat) ({ cls := "CutFinder", name := "isPair", desc := "(II)Z" } : Jvm.MethodName)) ∈ lw_all := lw_g (lw_at lw_m0 45 rfl) rfl
theorem q59 : (Jvm.Cond.static ({ cls := "CutFinder", name := "isPair", desc := "(II)Z" } : Jvm.MethodName)) ∈ lw_all := lw_g (lw_at lw_m0 46 rfl) rfl
theorem q60 : (Jvm.Cond.code ({ cls := "CutFinder", name := "isPair", desc := "(II)Z" } : Jvm.MethodName) prog_1_method_3_code (2 : Nat) (Option.some Jvm.ClassFile.FieldType.boolean)) ∈ lw_all := lw_g (lw_at lw_m0 47 rfl) rfl
theorem q61 : (Jvm.Cond.methodLink "CutFinder" (35 : Nat) ({ cls := "CutFinder", name := "isPlace", desc := "(I)Z" } : Jvm.MethodName)) ∈ lw_all := lw_g (lw_at lw_m0 48 rfl) rfl
theorem q62 : (Jvm.Cond.static ({ cls := "CutFinder", name := "isPlace", desc := "(I)Z" } : Jvm.MethodName)) ∈ lw_all := lw_g (lw_at lw_m0 49 rfl) rfl
theorem q63 : (Jvm.Cond.code ({ cls := "CutFinder", name := "isPlace", desc := "(I)Z" } : Jvm.MethodName) prog_1_method_2_code (1 : Nat) (Option.some Jvm.ClassFile.FieldType.boolean)) ∈ lw_all := lw_g (lw_at lw_m0 50 rfl) rfl
theorem q64 : (Jvm.Cond.methodLink "CutFinder" (43 : Nat) ({ cls := "CutFinder", name := "put", desc := "(III)V" } : Jvm.MethodName)) ∈ lw_all := lw_g (lw_at lw_m0 51 rfl) rfl
theorem q65 : (Jvm.Cond.privateMethod ({ cls := "CutFinder", name := "put", desc := "(III)V" } : Jvm.MethodName)) ∈ lw_tbl := lw_at lw_m0 52 rfl
theorem q66 : (Jvm.Cond.instanceMethod ({ cls := "CutFinder", name := "put", desc := "(III)V" } : Jvm.MethodName)) ∈ lw_all := lw_g (lw_at lw_m0 53 rfl) rfl
theorem q67 : (Jvm.Cond.code ({ cls := "CutFinder", name := "put", desc := "(III)V" } : Jvm.MethodName) prog_1_method_6_code (4 : Nat) (Option.none : Option Jvm.ClassFile.FieldType)) ∈ lw_all := lw_g (lw_at lw_m0 54 rfl) rfl
theorem q69 : (Jvm.Cond.instanceMethod ({ cls := "CutFinder", name := "capacity", desc := "(II)I" } : Jvm.MethodName)) ∈ lw_all := lw_g (lw_at lw_m0 56 rfl) rfl
theorem q70 : (Jvm.Cond.selects "CutFinder" ({ cls := "CutFinder", name := "capacity", desc := "(II)I" } : Jvm.MethodName) ({ cls := "CutFinder", name := "capacity", desc := "(II)I" } : Jvm.MethodName)) ∈ lw_all := lw_g (lw_at lw_m0 57 rfl) rfl
theorem q71 : (Jvm.Cond.code ({ cls := "CutFinder", name := "capacity", desc := "(II)I" } : Jvm.MethodName) prog_1_method_7_code (3 : Nat) (Option.some Jvm.ClassFile.FieldType.int)) ∈ lw_all := lw_g (lw_at lw_m0 58 rfl) rfl
theorem q73 : (Jvm.Cond.instanceMethod ({ cls := "CutFinder", name := "cost", desc := "(I)I" } : Jvm.MethodName)) ∈ lw_all := lw_g (lw_at lw_m0 60 rfl) rfl
theorem q74 : (Jvm.Cond.selects "CutFinder" ({ cls := "CutFinder", name := "cost", desc := "(I)I" } : Jvm.MethodName) ({ cls := "CutFinder", name := "cost", desc := "(I)I" } : Jvm.MethodName)) ∈ lw_all := lw_g (lw_at lw_m0 61 rfl) rfl
theorem q75 : (Jvm.Cond.code ({ cls := "CutFinder", name := "cost", desc := "(I)I" } : Jvm.MethodName) prog_1_method_8_code (5 : Nat) (Option.some Jvm.ClassFile.FieldType.int)) ∈ lw_all := lw_g (lw_at lw_m0 62 rfl) rfl
theorem q76 : (Jvm.Cond.methodLink "CutFinder" (47 : Nat) ({ cls := "CutFinder", name := "in", desc := "(II)Z" } : Jvm.MethodName)) ∈ lw_all := lw_g (lw_at lw_m0 63 rfl) rfl
theorem q77 : (Jvm.Cond.static ({ cls := "CutFinder", name := "in", desc := "(II)Z" } : Jvm.MethodName)) ∈ lw_all := lw_g (lw_at lw_m0 64 rfl) rfl
theorem q78 : (Jvm.Cond.code ({ cls := "CutFinder", name := "in", desc := "(II)Z" } : Jvm.MethodName) prog_1_method_4_code (2 : Nat) (Option.some Jvm.ClassFile.FieldType.boolean)) ∈ lw_all := lw_g (lw_at lw_m0 65 rfl) rfl
theorem q80 : (Jvm.Cond.instanceMethod ({ cls := "CutFinder", name := "least", desc := "()I" } : Jvm.MethodName)) ∈ lw_all := lw_g (lw_at lw_m0 67 rfl) rfl
theorem q81 : (Jvm.Cond.selects "CutFinder" ({ cls := "CutFinder", name := "least", desc := "()I" } : Jvm.MethodName) ({ cls := "CutFinder", name := "least", desc := "()I" } : Jvm.MethodName)) ∈ lw_all := lw_g (lw_at lw_m0 68 rfl) rfl
theorem q82 : (Jvm.Cond.code ({ cls := "CutFinder", name := "least", desc := "()I" } : Jvm.MethodName) prog_1_method_9_code (8 : Nat) (Option.some Jvm.ClassFile.FieldType.int)) ∈ lw_all := lw_g (lw_at lw_m0 69 rfl) rfl
theorem q83 : (Jvm.Cond.constant "CutFinder" (50 : Nat) (1048576 : Int32)) ∈ lw_all := lw_g (lw_at lw_m0 70 rfl) rfl
theorem q84 : (Jvm.Cond.methodLink "CutFinder" (51 : Nat) ({ cls := "CutFinder", name := "tightest", desc := "(II)I" } : Jvm.MethodName)) ∈ lw_all := lw_g (lw_at lw_m0 71 rfl) rfl
theorem q85 : (Jvm.Cond.privateMethod ({ cls := "CutFinder", name := "tightest", desc := "(II)I" } : Jvm.MethodName)) ∈ lw_tbl := lw_at lw_m0 72 rfl
theorem q86 : (Jvm.Cond.instanceMethod ({ cls := "CutFinder", name := "tightest", desc := "(II)I" } : Jvm.MethodName)) ∈ lw_all := lw_g (lw_at lw_m0 73 rfl) rfl
theorem q87 : (Jvm.Cond.code ({ cls := "CutFinder", name := "tightest", desc := "(II)I" } : Jvm.MethodName) prog_1_method_10_code (7 : Nat) (Option.some Jvm.ClassFile.FieldType.int)) ∈ lw_all := lw_g (lw_at lw_m0 74 rfl) rfl
theorem q88 : (Jvm.Cond.methodLink "CutFinder" (55 : Nat) ({ cls := "CutFinder", name := "merge", desc := "(II)V" } : Jvm.MethodName)) ∈ lw_all := lw_g (lw_at lw_m0 75 rfl) rfl
theorem q89 : (Jvm.Cond.privateMethod ({ cls := "CutFinder", name := "merge", desc := "(II)V" } : Jvm.MethodName)) ∈ lw_tbl := lw_at lw_m0 76 rfl
theorem q90 : (Jvm.Cond.instanceMethod ({ cls := "CutFinder", name := "merge", desc := "(II)V" } : Jvm.MethodName)) ∈ lw_all := lw_g (lw_at lw_m0 77 rfl) rfl
theorem q91 : (Jvm.Cond.code ({ cls := "CutFinder", name := "merge", desc := "(II)V" } : Jvm.MethodName) prog_1_method_11_code (4 : Nat) (Option.none : Option Jvm.ClassFile.FieldType)) ∈ lw_all := lw_g (lw_at lw_m0 78 rfl) rfl
theorem q93 : (Jvm.Cond.instanceMethod ({ cls := "CutFinder", name := "leastSide", desc := "()I" } : Jvm.MethodName)) ∈ lw_all := lw_g (lw_at lw_m0 80 rfl) rfl
theorem q94 : (Jvm.Cond.selects "CutFinder" ({ cls := "CutFinder", name := "leastSide", desc := "()I" } : Jvm.MethodName) ({ cls := "CutFinder", name := "leastSide", desc := "()I" } : Jvm.MethodName)) ∈ lw_all := lw_g (lw_at lw_m0 81 rfl) rfl
theorem q95 : (Jvm.Cond.code ({ cls := "CutFinder", name := "leastSide", desc := "()I" } : Jvm.MethodName) prog_1_method_15_code (6 : Nat) (Option.some Jvm.ClassFile.FieldType.int)) ∈ lw_all := lw_g (lw_at lw_m0 82 rfl) rfl
theorem q96 : (Jvm.Cond.methodLink "CutFinder" (70 : Nat) ({ cls := "CutFinder", name := "least", desc := "()I" } : Jvm.MethodName)) ∈ lw_all := lw_g (lw_at lw_m0 83 rfl) rfl
theorem q97 : (Jvm.Cond.methodLink "CutFinder" (74 : Nat) ({ cls := "CutFinder", name := "flow", desc := "(II)I" } : Jvm.MethodName)) ∈ lw_all := lw_g (lw_at lw_m0 84 rfl) rfl
theorem q98 : (Jvm.Cond.privateMethod ({ cls := "CutFinder", name := "flow", desc := "(II)I" } : Jvm.MethodName)) ∈ lw_tbl := lw_at lw_m0 85 rfl
theorem q99 : (Jvm.Cond.instanceMethod ({ cls := "CutFinder", name := "flow", desc := "(II)I" } : Jvm.MethodName)) ∈ lw_all := lw_g (lw_at lw_m0 86 rfl) rfl
theorem q100 : (Jvm.Cond.code ({ cls := "CutFinder", name := "flow", desc := "(II)I" } : Jvm.MethodName) prog_1_method_14_code (6 : Nat) (Option.some Jvm.ClassFile.FieldType.int)) ∈ lw_all := lw_g (lw_at lw_m0 87 rfl) rfl
theorem q101 : (Jvm.Cond.methodLink "CutFinder" (63 : Nat) ({ cls := "CutFinder", name := "spread", desc := "(II)I" } : Jvm.MethodName)) ∈ lw_all := lw_g (lw_at lw_m0 88 rfl) rfl
theorem q102 : (Jvm.Cond.privateMethod ({ cls := "CutFinder", name := "spread", desc := "(II)I" } : Jvm.MethodName)) ∈ lw_tbl := lw_at lw_m0 89 rfl
theorem q103 : (Jvm.Cond.instanceMethod ({ cls := "CutFinder", name := "spread", desc := "(II)I" } : Jvm.MethodName)) ∈ lw_all := lw_g (lw_at lw_m0 90 rfl) rfl
theorem q104 : (Jvm.Cond.code ({ cls := "CutFinder", name := "spread", desc := "(II)I" } : Jvm.MethodName) prog_1_method_12_code (7 : Nat) (Option.some Jvm.ClassFile.FieldType.int)) ∈ lw_all := lw_g (lw_at lw_m0 91 rfl) rfl
theorem q105 : (Jvm.Cond.methodLink "CutFinder" (66 : Nat) ({ cls := "CutFinder", name := "push", desc := "(I)I" } : Jvm.MethodName)) ∈ lw_all := lw_g (lw_at lw_m0 92 rfl) rfl
theorem q106 : (Jvm.Cond.privateMethod ({ cls := "CutFinder", name := "push", desc := "(I)I" } : Jvm.MethodName)) ∈ lw_tbl := lw_at lw_m0 93 rfl
theorem q107 : (Jvm.Cond.instanceMethod ({ cls := "CutFinder", name := "push", desc := "(I)I" } : Jvm.MethodName)) ∈ lw_all := lw_g (lw_at lw_m0 94 rfl) rfl
theorem q108 : (Jvm.Cond.code ({ cls := "CutFinder", name := "push", desc := "(I)I" } : Jvm.MethodName) prog_1_method_13_code (5 : Nat) (Option.some Jvm.ClassFile.FieldType.int)) ∈ lw_all := lw_g (lw_at lw_m0 95 rfl) rfl
theorem q110 : (Jvm.Cond.instanceMethod ({ cls := "CutFinder", name := "between", desc := "(II)I" } : Jvm.MethodName)) ∈ lw_all := lw_g (lw_at lw_m0 97 rfl) rfl
theorem q111 : (Jvm.Cond.selects "CutFinder" ({ cls := "CutFinder", name := "between", desc := "(II)I" } : Jvm.MethodName) ({ cls := "CutFinder", name := "between", desc := "(II)I" } : Jvm.MethodName)) ∈ lw_all := lw_g (lw_at lw_m0 98 rfl) rfl
theorem q112 : (Jvm.Cond.code ({ cls := "CutFinder", name := "between", desc := "(II)I" } : Jvm.MethodName) prog_1_method_16_code (3 : Nat) (Option.some Jvm.ClassFile.FieldType.int)) ∈ lw_all := lw_g (lw_at lw_m0 99 rfl) rfl
theorem q114 : (Jvm.Cond.instanceMethod ({ cls := "CutFinder", name := "core", desc := "(II)I" } : Jvm.MethodName)) ∈ lw_all := lw_g (lw_at lw_m0 101 rfl) rfl
theorem q115 : (Jvm.Cond.selects "CutFinder" ({ cls := "CutFinder", name := "core", desc := "(II)I" } : Jvm.MethodName) ({ cls := "CutFinder", name := "core", desc := "(II)I" } : Jvm.MethodName)) ∈ lw_all := lw_g (lw_at lw_m0 102 rfl) rfl
theorem q116 : (Jvm.Cond.code ({ cls := "CutFinder", name := "core", desc := "(II)I" } : Jvm.MethodName) prog_1_method_17_code (3 : Nat) (Option.some Jvm.ClassFile.FieldType.int)) ∈ lw_all := lw_g (lw_at lw_m0 103 rfl) rfl
theorem q118 : (Jvm.Cond.instanceMethod ({ cls := "CutFinder", name := "reach", desc := "(II)I" } : Jvm.MethodName)) ∈ lw_all := lw_g (lw_at lw_m0 105 rfl) rfl
theorem q119 : (Jvm.Cond.selects "CutFinder" ({ cls := "CutFinder", name := "reach", desc := "(II)I" } : Jvm.MethodName) ({ cls := "CutFinder", name := "reach", desc := "(II)I" } : Jvm.MethodName)) ∈ lw_all := lw_g (lw_at lw_m0 106 rfl) rfl
theorem q120 : (Jvm.Cond.code ({ cls := "CutFinder", name := "reach", desc := "(II)I" } : Jvm.MethodName) prog_1_method_18_code (3 : Nat) (Option.some Jvm.ClassFile.FieldType.int)) ∈ lw_all := lw_g (lw_at lw_m0 107 rfl) rfl
theorem q121 : (Jvm.Cond.methodLink "CutFinder" (77 : Nat) ({ cls := "CutFinder", name := "core", desc := "(II)I" } : Jvm.MethodName)) ∈ lw_all := lw_g (lw_at lw_m0 108 rfl) rfl
theorem q123 : (Jvm.Cond.instanceMethod ({ cls := "CutFinder", name := "forced", desc := "(II)I" } : Jvm.MethodName)) ∈ lw_all := lw_g (lw_at lw_m0 110 rfl) rfl
theorem q124 : (Jvm.Cond.selects "CutFinder" ({ cls := "CutFinder", name := "forced", desc := "(II)I" } : Jvm.MethodName) ({ cls := "CutFinder", name := "forced", desc := "(II)I" } : Jvm.MethodName)) ∈ lw_all := lw_g (lw_at lw_m0 111 rfl) rfl
theorem q125 : (Jvm.Cond.code ({ cls := "CutFinder", name := "forced", desc := "(II)I" } : Jvm.MethodName) prog_1_method_20_code (3 : Nat) (Option.some Jvm.ClassFile.FieldType.int)) ∈ lw_all := lw_g (lw_at lw_m0 112 rfl) rfl
theorem q126 : (Jvm.Cond.methodLink "CutFinder" (80 : Nat) ({ cls := "CutFinder", name := "leastAgainst", desc := "(I)I" } : Jvm.MethodName)) ∈ lw_all := lw_g (lw_at lw_m0 113 rfl) rfl
theorem q127 : (Jvm.Cond.privateMethod ({ cls := "CutFinder", name := "leastAgainst", desc := "(I)I" } : Jvm.MethodName)) ∈ lw_tbl := lw_at lw_m0 114 rfl
theorem q128 : (Jvm.Cond.instanceMethod ({ cls := "CutFinder", name := "leastAgainst", desc := "(I)I" } : Jvm.MethodName)) ∈ lw_all := lw_g (lw_at lw_m0 115 rfl) rfl
theorem q129 : (Jvm.Cond.code ({ cls := "CutFinder", name := "leastAgainst", desc := "(I)I" } : Jvm.MethodName) prog_1_method_19_code (5 : Nat) (Option.some Jvm.ClassFile.FieldType.int)) ∈ lw_all := lw_g (lw_at lw_m0 116 rfl) rfl
theorem q131 : (Jvm.Cond.instanceMethod ({ cls := "CutFinder", name := "pairsAtLeast", desc := "(I)I" } : Jvm.MethodName)) ∈ lw_all := lw_g (lw_at lw_m0 118 rfl) rfl
theorem q132 : (Jvm.Cond.selects "CutFinder" ({ cls := "CutFinder", name := "pairsAtLeast", desc := "(I)I" } : Jvm.MethodName) ({ cls := "CutFinder", name := "pairsAtLeast", desc := "(I)I" } : Jvm.MethodName)) ∈ lw_all := lw_g (lw_at lw_m0 119 rfl) rfl
theorem q133 : (Jvm.Cond.code ({ cls := "CutFinder", name := "pairsAtLeast", desc := "(I)I" } : Jvm.MethodName) prog_1_method_23_code (6 : Nat) (Option.some Jvm.ClassFile.FieldType.int)) ∈ lw_all := lw_g (lw_at lw_m0 120 rfl) rfl
theorem q134 : (Jvm.Cond.methodLink "CutFinder" (83 : Nat) ({ cls := "CutFinder", name := "grow", desc := "()V" } : Jvm.MethodName)) ∈ lw_all := lw_g (lw_at lw_m0 121 rfl) rfl
theorem q135 : (Jvm.Cond.privateMethod ({ cls := "CutFinder", name := "grow", desc := "()V" } : Jvm.MethodName)) ∈ lw_tbl := lw_at lw_m0 122 rfl
theorem q136 : (Jvm.Cond.instanceMethod ({ cls := "CutFinder", name := "grow", desc := "()V" } : Jvm.MethodName)) ∈ lw_all := lw_g (lw_at lw_m0 123 rfl) rfl
theorem q137 : (Jvm.Cond.code ({ cls := "CutFinder", name := "grow", desc := "()V" } : Jvm.MethodName) prog_1_method_21_code (4 : Nat) (Option.none : Option Jvm.ClassFile.FieldType)) ∈ lw_all := lw_g (lw_at lw_m0 124 rfl) rfl
theorem q138 : (Jvm.Cond.methodLink "CutFinder" (86 : Nat) ({ cls := "CutFinder", name := "onTree", desc := "(II)I" } : Jvm.MethodName)) ∈ lw_all := lw_g (lw_at lw_m0 125 rfl) rfl
theorem q139 : (Jvm.Cond.privateMethod ({ cls := "CutFinder", name := "onTree", desc := "(II)I" } : Jvm.MethodName)) ∈ lw_tbl := lw_at lw_m0 126 rfl
theorem q140 : (Jvm.Cond.instanceMethod ({ cls := "CutFinder", name := "onTree", desc := "(II)I" } : Jvm.MethodName)) ∈ lw_all := lw_g (lw_at lw_m0 127 rfl) rfl
theorem q141 : (Jvm.Cond.code ({ cls := "CutFinder", name := "onTree", desc := "(II)I" } : Jvm.MethodName) prog_1_method_22_code (7 : Nat) (Option.some Jvm.ClassFile.FieldType.int)) ∈ lw_all := lw_g (lw_at lw_m0 128 rfl) rfl
theorem q143 : (Jvm.Cond.instanceMethod ({ cls := "CutFinder", name := "group", desc := "(II)I" } : Jvm.MethodName)) ∈ lw_all := lw_g (lw_at lw_m0 130 rfl) rfl
theorem q144 : (Jvm.Cond.selects "CutFinder" ({ cls := "CutFinder", name := "group", desc := "(II)I" } : Jvm.MethodName) ({ cls := "CutFinder", name := "group", desc := "(II)I" } : Jvm.MethodName)) ∈ lw_all := lw_g (lw_at lw_m0 131 rfl) rfl
theorem q145 : (Jvm.Cond.code ({ cls := "CutFinder", name := "group", desc := "(II)I" } : Jvm.MethodName) prog_1_method_24_code (6 : Nat) (Option.some Jvm.ClassFile.FieldType.int)) ∈ lw_all := lw_g (lw_at lw_m0 132 rfl) rfl
theorem q147 : (Jvm.Cond.instanceMethod ({ cls := "CutFinder", name := "loss", desc := "(II)I" } : Jvm.MethodName)) ∈ lw_all := lw_g (lw_at lw_m0 134 rfl) rfl
theorem q148 : (Jvm.Cond.selects "CutFinder" ({ cls := "CutFinder", name := "loss", desc := "(II)I" } : Jvm.MethodName) ({ cls := "CutFinder", name := "loss", desc := "(II)I" } : Jvm.MethodName)) ∈ lw_all := lw_g (lw_at lw_m0 135 rfl) rfl
theorem q149 : (Jvm.Cond.code ({ cls := "CutFinder", name := "loss", desc := "(II)I" } : Jvm.MethodName) prog_1_method_25_code (6 : Nat) (Option.some Jvm.ClassFile.FieldType.int)) ∈ lw_all := lw_g (lw_at lw_m0 136 rfl) rfl
theorem q151 : (Jvm.Cond.instanceMethod ({ cls := "CutFinder", name := "tight", desc := "(IIII)Z" } : Jvm.MethodName)) ∈ lw_all := lw_g (lw_at lw_m0 138 rfl) rfl
theorem q152 : (Jvm.Cond.selects "CutFinder" ({ cls := "CutFinder", name := "tight", desc := "(IIII)Z" } : Jvm.MethodName) ({ cls := "CutFinder", name := "tight", desc := "(IIII)Z" } : Jvm.MethodName)) ∈ lw_all := lw_g (lw_at lw_m0 139 rfl) rfl
theorem q153 : (Jvm.Cond.code ({ cls := "CutFinder", name := "tight", desc := "(IIII)Z" } : Jvm.MethodName) prog_1_method_26_code (8 : Nat) (Option.some Jvm.ClassFile.FieldType.boolean)) ∈ lw_all := lw_g (lw_at lw_m0 140 rfl) rfl
theorem q154 : (Jvm.Cond.methodLink "CutFinder" (89 : Nat) ({ cls := "CutFinder", name := "between", desc := "(II)I" } : Jvm.MethodName)) ∈ lw_all := lw_g (lw_at lw_m0 141 rfl) rfl
theorem in_X0 : ∀ w ∈ wsX00, w ∈ lw_all := lw_in wsX00 [33, 35, 37, 39, 41, 43, 45, 47, 49] (by decide +kernel) (by decide +kernel)

/-! CutFinderModel -/
def RX1 : String := "CutFinderModel"
def TX1 : u_T := fun k => match k with
  | _ => ("CutFinderModel", "caps", "[I", false)
def tyX1 : Nat → FieldType := fun k => match k with
  | _ => .array .int
abbrev wsX10 : List Cond := u_ws RX1 TX1 1
theorem nmX1 : ∀ a, a < 1 → ∀ b, b < 1 → a ≠ b → (TX1 a).2.1 ≠ (TX1 b).2.1 := by decide +kernel
theorem tyX1_ok : ∀ k, k < 1 → parseFieldDescriptor (TX1 k).2.2.1 = some (tyX1 k) := by decide +kernel
abbrev cX1_init : ByteArray := prog_3_method_1_code
def yX1_init : MethodName := ⟨RX1, "<init>", "()V"⟩
abbrev cX1_set : ByteArray := prog_3_method_4_code
def yX1_set : MethodName := ⟨RX1, "set", "(III)Z"⟩
abbrev cX1_pair : ByteArray := prog_3_method_2_code
def yX1_pair : MethodName := ⟨RX1, "pair", "(II)Z"⟩
abbrev cX1_put : ByteArray := prog_3_method_3_code
def yX1_put : MethodName := ⟨RX1, "put", "(III)V"⟩
abbrev cX1_capacity : ByteArray := prog_3_method_5_code
def yX1_capacity : MethodName := ⟨RX1, "capacity", "(II)I"⟩
abbrev cX1_cost : ByteArray := prog_3_method_7_code
def yX1_cost : MethodName := ⟨RX1, "cost", "(I)I"⟩
abbrev cX1_costOf : ByteArray := prog_3_method_6_code
def yX1_costOf : MethodName := ⟨RX1, "costOf", "(I)I"⟩
abbrev cX1_least : ByteArray := prog_3_method_9_code
def yX1_least : MethodName := ⟨RX1, "least", "()I"⟩
abbrev cX1_cheapest : ByteArray := prog_3_method_8_code
def yX1_cheapest : MethodName := ⟨RX1, "cheapest", "(II)I"⟩
abbrev cX1_leastSide : ByteArray := prog_3_method_10_code
def yX1_leastSide : MethodName := ⟨RX1, "leastSide", "()I"⟩
abbrev cX1_between : ByteArray := prog_3_method_11_code
def yX1_between : MethodName := ⟨RX1, "between", "(II)I"⟩
abbrev cX1_core : ByteArray := prog_3_method_12_code
def yX1_core : MethodName := ⟨RX1, "core", "(II)I"⟩
abbrev cX1_reach : ByteArray := prog_3_method_13_code
def yX1_reach : MethodName := ⟨RX1, "reach", "(II)I"⟩
abbrev cX1_forced : ByteArray := prog_3_method_14_code
def yX1_forced : MethodName := ⟨RX1, "forced", "(II)I"⟩
abbrev cX1_pairsAtLeast : ByteArray := prog_3_method_15_code
def yX1_pairsAtLeast : MethodName := ⟨RX1, "pairsAtLeast", "(I)I"⟩
abbrev cX1_group : ByteArray := prog_3_method_16_code
def yX1_group : MethodName := ⟨RX1, "group", "(II)I"⟩
abbrev cX1_loss : ByteArray := prog_3_method_17_code
def yX1_loss : MethodName := ⟨RX1, "loss", "(II)I"⟩
abbrev cX1_tight : ByteArray := prog_3_method_18_code
def yX1_tight : MethodName := ⟨RX1, "tight", "(IIII)Z"⟩
theorem q15 : (Jvm.Cond.initialized "CutFinderModel") ∈ lw_all := lw_g (lw_at lw_m0 2 rfl) rfl
theorem q156 : (Jvm.Cond.instantiable "CutFinderModel" (1 : Nat)) ∈ lw_all := lw_g (lw_at lw_m0 143 rfl) rfl
theorem q158 : (Jvm.Cond.instanceMethod ({ cls := "CutFinderModel", name := "<init>", desc := "()V" } : Jvm.MethodName)) ∈ lw_all := lw_g (lw_at lw_m0 145 rfl) rfl
theorem q159 : (Jvm.Cond.code ({ cls := "CutFinderModel", name := "<init>", desc := "()V" } : Jvm.MethodName) prog_3_method_1_code (1 : Nat) (Option.none : Option Jvm.ClassFile.FieldType)) ∈ lw_all := lw_g (lw_at lw_m0 146 rfl) rfl
theorem q160 : (Jvm.Cond.methodLink "CutFinderModel" (1 : Nat) ({ cls := "java/lang/Object", name := "<init>", desc := "()V" } : Jvm.MethodName)) ∈ lw_all := lw_g (lw_at lw_m0 147 rfl) rfl
theorem q161 : (Jvm.Cond.fieldLink "CutFinderModel" (7 : Nat) "CutFinderModel" "caps" "[I") ∈ lw_all := lw_g (lw_at lw_m0 148 rfl) rfl
theorem q162 : (Jvm.Cond.lays "CutFinderModel" "CutFinderModel" "caps" "[I") ∈ lw_all := lw_g (lw_at lw_m0 149 rfl) rfl
theorem q163 : (Jvm.Cond.soleField "CutFinderModel" "caps") ∈ lw_all := lw_g (lw_at lw_m0 150 rfl) rfl
theorem q164 : (Jvm.Cond.superclass "CutFinderModel" "java/lang/Object") ∈ lw_all := lw_g (lw_at lw_m0 151 rfl) rfl
theorem q166 : (Jvm.Cond.instanceMethod ({ cls := "CutFinderModel", name := "set", desc := "(III)Z" } : Jvm.MethodName)) ∈ lw_all := lw_g (lw_at lw_m0 153 rfl) rfl
theorem q167 : (Jvm.Cond.selects "CutFinderModel" ({ cls := "CutFinderModel", name := "set", desc := "(III)Z" } : Jvm.MethodName) ({ cls := "CutFinderModel", name := "set", desc := "(III)Z" } : Jvm.MethodName)) ∈ lw_all := lw_g (lw_at lw_m0 154 rfl) rfl
theorem q168 : (Jvm.Cond.code ({ cls := "CutFinderModel", name := "set", desc := "(III)Z" } : Jvm.MethodName) prog_3_method_4_code (4 : Nat) (Option.some Jvm.ClassFile.FieldType.boolean)) ∈ lw_all := lw_g (lw_at lw_m0 155 rfl) rfl
theorem q169 : (Jvm.Cond.methodLink "CutFinderModel" (13 : Nat) ({ cls := "CutFinderModel", name := "pair", desc := "(II)Z" } : Jvm.MethodName)) ∈ lw_all := lw_g (lw_at lw_m0 156 rfl) rfl
theorem q170 : (Jvm.Cond.privateMethod ({ cls := "CutFinderModel", name := "pair", desc := "(II)Z" } : Jvm.MethodName)) ∈ lw_tbl := lw_at lw_m0 157 rfl
theorem q171 : (Jvm.Cond.instanceMethod ({ cls := "CutFinderModel", name := "pair", desc := "(II)Z" } : Jvm.MethodName)) ∈ lw_all := lw_g (lw_at lw_m0 158 rfl) rfl
theorem q172 : (Jvm.Cond.code ({ cls := "CutFinderModel", name := "pair", desc := "(II)Z" } : Jvm.MethodName) prog_3_method_2_code (3 : Nat) (Option.some Jvm.ClassFile.FieldType.boolean)) ∈ lw_all := lw_g (lw_at lw_m0 159 rfl) rfl
theorem q173 : (Jvm.Cond.methodLink "CutFinderModel" (17 : Nat) ({ cls := "CutFinderModel", name := "put", desc := "(III)V" } : Jvm.MethodName)) ∈ lw_all := lw_g (lw_at lw_m0 160 rfl) rfl
theorem q174 : (Jvm.Cond.privateMethod ({ cls := "CutFinderModel", name := "put", desc := "(III)V" } : Jvm.MethodName)) ∈ lw_tbl := lw_at lw_m0 161 rfl
theorem q175 : (Jvm.Cond.instanceMethod ({ cls := "CutFinderModel", name := "put", desc := "(III)V" } : Jvm.MethodName)) ∈ lw_all := lw_g (lw_at lw_m0 162 rfl) rfl
theorem q176 : (Jvm.Cond.code ({ cls := "CutFinderModel", name := "put", desc := "(III)V" } : Jvm.MethodName) prog_3_method_3_code (4 : Nat) (Option.none : Option Jvm.ClassFile.FieldType)) ∈ lw_all := lw_g (lw_at lw_m0 163 rfl) rfl
theorem q178 : (Jvm.Cond.instanceMethod ({ cls := "CutFinderModel", name := "capacity", desc := "(II)I" } : Jvm.MethodName)) ∈ lw_all := lw_g (lw_at lw_m0 165 rfl) rfl
theorem q179 : (Jvm.Cond.selects "CutFinderModel" ({ cls := "CutFinderModel", name := "capacity", desc := "(II)I" } : Jvm.MethodName) ({ cls := "CutFinderModel", name := "capacity", desc := "(II)I" } : Jvm.MethodName)) ∈ lw_all := lw_g (lw_at lw_m0 166 rfl) rfl
theorem q180 : (Jvm.Cond.code ({ cls := "CutFinderModel", name := "capacity", desc := "(II)I" } : Jvm.MethodName) prog_3_method_5_code (3 : Nat) (Option.some Jvm.ClassFile.FieldType.int)) ∈ lw_all := lw_g (lw_at lw_m0 167 rfl) rfl
theorem q182 : (Jvm.Cond.instanceMethod ({ cls := "CutFinderModel", name := "cost", desc := "(I)I" } : Jvm.MethodName)) ∈ lw_all := lw_g (lw_at lw_m0 169 rfl) rfl
theorem q183 : (Jvm.Cond.selects "CutFinderModel" ({ cls := "CutFinderModel", name := "cost", desc := "(I)I" } : Jvm.MethodName) ({ cls := "CutFinderModel", name := "cost", desc := "(I)I" } : Jvm.MethodName)) ∈ lw_all := lw_g (lw_at lw_m0 170 rfl) rfl
theorem q184 : (Jvm.Cond.code ({ cls := "CutFinderModel", name := "cost", desc := "(I)I" } : Jvm.MethodName) prog_3_method_7_code (2 : Nat) (Option.some Jvm.ClassFile.FieldType.int)) ∈ lw_all := lw_g (lw_at lw_m0 171 rfl) rfl
theorem q185 : (Jvm.Cond.methodLink "CutFinderModel" (21 : Nat) ({ cls := "CutFinderModel", name := "costOf", desc := "(I)I" } : Jvm.MethodName)) ∈ lw_all := lw_g (lw_at lw_m0 172 rfl) rfl
theorem q186 : (Jvm.Cond.privateMethod ({ cls := "CutFinderModel", name := "costOf", desc := "(I)I" } : Jvm.MethodName)) ∈ lw_tbl := lw_at lw_m0 173 rfl
theorem q187 : (Jvm.Cond.instanceMethod ({ cls := "CutFinderModel", name := "costOf", desc := "(I)I" } : Jvm.MethodName)) ∈ lw_all := lw_g (lw_at lw_m0 174 rfl) rfl
theorem q188 : (Jvm.Cond.code ({ cls := "CutFinderModel", name := "costOf", desc := "(I)I" } : Jvm.MethodName) prog_3_method_6_code (5 : Nat) (Option.some Jvm.ClassFile.FieldType.int)) ∈ lw_all := lw_g (lw_at lw_m0 175 rfl) rfl
theorem q190 : (Jvm.Cond.instanceMethod ({ cls := "CutFinderModel", name := "least", desc := "()I" } : Jvm.MethodName)) ∈ lw_all := lw_g (lw_at lw_m0 177 rfl) rfl
theorem q191 : (Jvm.Cond.selects "CutFinderModel" ({ cls := "CutFinderModel", name := "least", desc := "()I" } : Jvm.MethodName) ({ cls := "CutFinderModel", name := "least", desc := "()I" } : Jvm.MethodName)) ∈ lw_all := lw_g (lw_at lw_m0 178 rfl) rfl
theorem q192 : (Jvm.Cond.code ({ cls := "CutFinderModel", name := "least", desc := "()I" } : Jvm.MethodName) prog_3_method_9_code (1 : Nat) (Option.some Jvm.ClassFile.FieldType.int)) ∈ lw_all := lw_g (lw_at lw_m0 179 rfl) rfl
theorem q193 : (Jvm.Cond.methodLink "CutFinderModel" (25 : Nat) ({ cls := "CutFinderModel", name := "cheapest", desc := "(II)I" } : Jvm.MethodName)) ∈ lw_all := lw_g (lw_at lw_m0 180 rfl) rfl
theorem q194 : (Jvm.Cond.privateMethod ({ cls := "CutFinderModel", name := "cheapest", desc := "(II)I" } : Jvm.MethodName)) ∈ lw_tbl := lw_at lw_m0 181 rfl
theorem q195 : (Jvm.Cond.instanceMethod ({ cls := "CutFinderModel", name := "cheapest", desc := "(II)I" } : Jvm.MethodName)) ∈ lw_all := lw_g (lw_at lw_m0 182 rfl) rfl
theorem q196 : (Jvm.Cond.code ({ cls := "CutFinderModel", name := "cheapest", desc := "(II)I" } : Jvm.MethodName) prog_3_method_8_code (6 : Nat) (Option.some Jvm.ClassFile.FieldType.int)) ∈ lw_all := lw_g (lw_at lw_m0 183 rfl) rfl
theorem q198 : (Jvm.Cond.instanceMethod ({ cls := "CutFinderModel", name := "leastSide", desc := "()I" } : Jvm.MethodName)) ∈ lw_all := lw_g (lw_at lw_m0 185 rfl) rfl
theorem q199 : (Jvm.Cond.selects "CutFinderModel" ({ cls := "CutFinderModel", name := "leastSide", desc := "()I" } : Jvm.MethodName) ({ cls := "CutFinderModel", name := "leastSide", desc := "()I" } : Jvm.MethodName)) ∈ lw_all := lw_g (lw_at lw_m0 186 rfl) rfl
theorem q200 : (Jvm.Cond.code ({ cls := "CutFinderModel", name := "leastSide", desc := "()I" } : Jvm.MethodName) prog_3_method_10_code (3 : Nat) (Option.some Jvm.ClassFile.FieldType.int)) ∈ lw_all := lw_g (lw_at lw_m0 187 rfl) rfl
theorem q202 : (Jvm.Cond.instanceMethod ({ cls := "CutFinderModel", name := "between", desc := "(II)I" } : Jvm.MethodName)) ∈ lw_all := lw_g (lw_at lw_m0 189 rfl) rfl
theorem q203 : (Jvm.Cond.selects "CutFinderModel" ({ cls := "CutFinderModel", name := "between", desc := "(II)I" } : Jvm.MethodName) ({ cls := "CutFinderModel", name := "between", desc := "(II)I" } : Jvm.MethodName)) ∈ lw_all := lw_g (lw_at lw_m0 190 rfl) rfl
theorem q204 : (Jvm.Cond.code ({ cls := "CutFinderModel", name := "between", desc := "(II)I" } : Jvm.MethodName) prog_3_method_11_code (3 : Nat) (Option.some Jvm.ClassFile.FieldType.int)) ∈ lw_all := lw_g (lw_at lw_m0 191 rfl) rfl
theorem q206 : (Jvm.Cond.instanceMethod ({ cls := "CutFinderModel", name := "core", desc := "(II)I" } : Jvm.MethodName)) ∈ lw_all := lw_g (lw_at lw_m0 193 rfl) rfl
theorem q207 : (Jvm.Cond.selects "CutFinderModel" ({ cls := "CutFinderModel", name := "core", desc := "(II)I" } : Jvm.MethodName) ({ cls := "CutFinderModel", name := "core", desc := "(II)I" } : Jvm.MethodName)) ∈ lw_all := lw_g (lw_at lw_m0 194 rfl) rfl
theorem q208 : (Jvm.Cond.code ({ cls := "CutFinderModel", name := "core", desc := "(II)I" } : Jvm.MethodName) prog_3_method_12_code (6 : Nat) (Option.some Jvm.ClassFile.FieldType.int)) ∈ lw_all := lw_g (lw_at lw_m0 195 rfl) rfl
theorem q209 : (Jvm.Cond.methodLink "CutFinderModel" (29 : Nat) ({ cls := "CutFinderModel", name := "between", desc := "(II)I" } : Jvm.MethodName)) ∈ lw_all := lw_g (lw_at lw_m0 196 rfl) rfl
theorem q211 : (Jvm.Cond.instanceMethod ({ cls := "CutFinderModel", name := "reach", desc := "(II)I" } : Jvm.MethodName)) ∈ lw_all := lw_g (lw_at lw_m0 198 rfl) rfl
theorem q212 : (Jvm.Cond.selects "CutFinderModel" ({ cls := "CutFinderModel", name := "reach", desc := "(II)I" } : Jvm.MethodName) ({ cls := "CutFinderModel", name := "reach", desc := "(II)I" } : Jvm.MethodName)) ∈ lw_all := lw_g (lw_at lw_m0 199 rfl) rfl
theorem q213 : (Jvm.Cond.code ({ cls := "CutFinderModel", name := "reach", desc := "(II)I" } : Jvm.MethodName) prog_3_method_13_code (6 : Nat) (Option.some Jvm.ClassFile.FieldType.int)) ∈ lw_all := lw_g (lw_at lw_m0 200 rfl) rfl
theorem q215 : (Jvm.Cond.instanceMethod ({ cls := "CutFinderModel", name := "forced", desc := "(II)I" } : Jvm.MethodName)) ∈ lw_all := lw_g (lw_at lw_m0 202 rfl) rfl
theorem q216 : (Jvm.Cond.selects "CutFinderModel" ({ cls := "CutFinderModel", name := "forced", desc := "(II)I" } : Jvm.MethodName) ({ cls := "CutFinderModel", name := "forced", desc := "(II)I" } : Jvm.MethodName)) ∈ lw_all := lw_g (lw_at lw_m0 203 rfl) rfl
theorem q217 : (Jvm.Cond.code ({ cls := "CutFinderModel", name := "forced", desc := "(II)I" } : Jvm.MethodName) prog_3_method_14_code (3 : Nat) (Option.some Jvm.ClassFile.FieldType.int)) ∈ lw_all := lw_g (lw_at lw_m0 204 rfl) rfl
theorem q219 : (Jvm.Cond.instanceMethod ({ cls := "CutFinderModel", name := "pairsAtLeast", desc := "(I)I" } : Jvm.MethodName)) ∈ lw_all := lw_g (lw_at lw_m0 206 rfl) rfl
theorem q220 : (Jvm.Cond.selects "CutFinderModel" ({ cls := "CutFinderModel", name := "pairsAtLeast", desc := "(I)I" } : Jvm.MethodName) ({ cls := "CutFinderModel", name := "pairsAtLeast", desc := "(I)I" } : Jvm.MethodName)) ∈ lw_all := lw_g (lw_at lw_m0 207 rfl) rfl
theorem q221 : (Jvm.Cond.code ({ cls := "CutFinderModel", name := "pairsAtLeast", desc := "(I)I" } : Jvm.MethodName) prog_3_method_15_code (4 : Nat) (Option.some Jvm.ClassFile.FieldType.int)) ∈ lw_all := lw_g (lw_at lw_m0 208 rfl) rfl
theorem q223 : (Jvm.Cond.instanceMethod ({ cls := "CutFinderModel", name := "group", desc := "(II)I" } : Jvm.MethodName)) ∈ lw_all := lw_g (lw_at lw_m0 210 rfl) rfl
theorem q224 : (Jvm.Cond.selects "CutFinderModel" ({ cls := "CutFinderModel", name := "group", desc := "(II)I" } : Jvm.MethodName) ({ cls := "CutFinderModel", name := "group", desc := "(II)I" } : Jvm.MethodName)) ∈ lw_all := lw_g (lw_at lw_m0 211 rfl) rfl
theorem q225 : (Jvm.Cond.code ({ cls := "CutFinderModel", name := "group", desc := "(II)I" } : Jvm.MethodName) prog_3_method_16_code (5 : Nat) (Option.some Jvm.ClassFile.FieldType.int)) ∈ lw_all := lw_g (lw_at lw_m0 212 rfl) rfl
theorem q227 : (Jvm.Cond.instanceMethod ({ cls := "CutFinderModel", name := "loss", desc := "(II)I" } : Jvm.MethodName)) ∈ lw_all := lw_g (lw_at lw_m0 214 rfl) rfl
theorem q228 : (Jvm.Cond.selects "CutFinderModel" ({ cls := "CutFinderModel", name := "loss", desc := "(II)I" } : Jvm.MethodName) ({ cls := "CutFinderModel", name := "loss", desc := "(II)I" } : Jvm.MethodName)) ∈ lw_all := lw_g (lw_at lw_m0 215 rfl) rfl
theorem q229 : (Jvm.Cond.code ({ cls := "CutFinderModel", name := "loss", desc := "(II)I" } : Jvm.MethodName) prog_3_method_17_code (6 : Nat) (Option.some Jvm.ClassFile.FieldType.int)) ∈ lw_all := lw_g (lw_at lw_m0 216 rfl) rfl
theorem q230 : (Jvm.Cond.methodLink "CutFinderModel" (32 : Nat) ({ cls := "CutFinderModel", name := "least", desc := "()I" } : Jvm.MethodName)) ∈ lw_all := lw_g (lw_at lw_m0 217 rfl) rfl
theorem q232 : (Jvm.Cond.instanceMethod ({ cls := "CutFinderModel", name := "tight", desc := "(IIII)Z" } : Jvm.MethodName)) ∈ lw_all := lw_g (lw_at lw_m0 219 rfl) rfl
theorem q233 : (Jvm.Cond.selects "CutFinderModel" ({ cls := "CutFinderModel", name := "tight", desc := "(IIII)Z" } : Jvm.MethodName) ({ cls := "CutFinderModel", name := "tight", desc := "(IIII)Z" } : Jvm.MethodName)) ∈ lw_all := lw_g (lw_at lw_m0 220 rfl) rfl
theorem q234 : (Jvm.Cond.code ({ cls := "CutFinderModel", name := "tight", desc := "(IIII)Z" } : Jvm.MethodName) prog_3_method_18_code (8 : Nat) (Option.some Jvm.ClassFile.FieldType.boolean)) ∈ lw_all := lw_g (lw_at lw_m0 221 rfl) rfl
theorem in_X1 : ∀ w ∈ wsX10, w ∈ lw_all := lw_in wsX10 [162] (by decide +kernel) (by decide +kernel)

/-! the law's own entry -/
abbrev cL_law : ByteArray := code
end
section
set_option maxRecDepth 100000
theorem dX0_init_0 : decode cX0_init 0 = .ok (.aload_n 0, 1) := by decide +kernel
theorem dX0_init_1 : decode cX0_init 1 = .ok (.invokespecial 1, 3) := by decide +kernel
theorem dX0_init_4 : decode cX0_init 4 = .ok (.aload_n 0, 1) := by decide +kernel
theorem dX0_init_5 : decode cX0_init 5 = .ok (.bipush 36, 2) := by decide +kernel
theorem dX0_init_7 : decode cX0_init 7 = .ok (.newarray .int, 2) := by decide +kernel
theorem dX0_init_9 : decode cX0_init 9 = .ok (.putfield 7, 3) := by decide +kernel
theorem dX0_init_12 : decode cX0_init 12 = .ok (.aload_n 0, 1) := by decide +kernel
theorem dX0_init_13 : decode cX0_init 13 = .ok (.bipush 36, 2) := by decide +kernel
theorem dX0_init_15 : decode cX0_init 15 = .ok (.newarray .int, 2) := by decide +kernel
theorem dX0_init_17 : decode cX0_init 17 = .ok (.putfield 13, 3) := by decide +kernel
theorem dX0_init_20 : decode cX0_init 20 = .ok (.aload_n 0, 1) := by decide +kernel
theorem dX0_init_21 : decode cX0_init 21 = .ok (.bipush 6, 2) := by decide +kernel
theorem dX0_init_23 : decode cX0_init 23 = .ok (.newarray .byte, 2) := by decide +kernel
theorem dX0_init_25 : decode cX0_init 25 = .ok (.putfield 16, 3) := by decide +kernel
theorem dX0_init_28 : decode cX0_init 28 = .ok (.aload_n 0, 1) := by decide +kernel
theorem dX0_init_29 : decode cX0_init 29 = .ok (.bipush 8, 2) := by decide +kernel
theorem dX0_init_31 : decode cX0_init 31 = .ok (.newarray .byte, 2) := by decide +kernel
theorem dX0_init_33 : decode cX0_init 33 = .ok (.putfield 20, 3) := by decide +kernel
theorem dX0_init_36 : decode cX0_init 36 = .ok (.aload_n 0, 1) := by decide +kernel
theorem dX0_init_37 : decode cX0_init 37 = .ok (.bipush 36, 2) := by decide +kernel
theorem dX0_init_39 : decode cX0_init 39 = .ok (.newarray .int, 2) := by decide +kernel
theorem dX0_init_41 : decode cX0_init 41 = .ok (.putfield 23, 3) := by decide +kernel
theorem dX0_init_44 : decode cX0_init 44 = .ok (.aload_n 0, 1) := by decide +kernel
theorem dX0_init_45 : decode cX0_init 45 = .ok (.bipush 6, 2) := by decide +kernel
theorem dX0_init_47 : decode cX0_init 47 = .ok (.newarray .int, 2) := by decide +kernel
theorem dX0_init_49 : decode cX0_init 49 = .ok (.putfield 26, 3) := by decide +kernel
theorem dX0_init_52 : decode cX0_init 52 = .ok (.aload_n 0, 1) := by decide +kernel
theorem dX0_init_53 : decode cX0_init 53 = .ok (.bipush 6, 2) := by decide +kernel
theorem dX0_init_55 : decode cX0_init 55 = .ok (.newarray .byte, 2) := by decide +kernel
theorem dX0_init_57 : decode cX0_init 57 = .ok (.putfield 29, 3) := by decide +kernel
theorem dX0_init_60 : decode cX0_init 60 = .ok (.aload_n 0, 1) := by decide +kernel
theorem dX0_init_61 : decode cX0_init 61 = .ok (.bipush 6, 2) := by decide +kernel
theorem dX0_init_63 : decode cX0_init 63 = .ok (.newarray .int, 2) := by decide +kernel
theorem dX0_init_65 : decode cX0_init 65 = .ok (.putfield 32, 3) := by decide +kernel
theorem dX0_init_68 : decode cX0_init 68 = .ok (.return_, 1) := by decide +kernel
theorem dX0_set_0 : decode cX0_set 0 = .ok (.iload_n 1, 1) := by decide +kernel
theorem dX0_set_1 : decode cX0_set 1 = .ok (.iload_n 2, 1) := by decide +kernel
theorem dX0_set_2 : decode cX0_set 2 = .ok (.invokestatic 39, 3) := by decide +kernel
theorem dX0_set_5 : decode cX0_set 5 = .ok (.ifCond .eq 13, 3) := by decide +kernel
theorem dX0_set_8 : decode cX0_set 8 = .ok (.iload_n 3, 1) := by decide +kernel
theorem dX0_set_9 : decode cX0_set 9 = .ok (.ifCond .lt 9, 3) := by decide +kernel
theorem dX0_set_12 : decode cX0_set 12 = .ok (.iload_n 3, 1) := by decide +kernel
theorem dX0_set_13 : decode cX0_set 13 = .ok (.bipush 30, 2) := by decide +kernel
theorem dX0_set_15 : decode cX0_set 15 = .ok (.if_icmp .le 5, 3) := by decide +kernel
theorem dX0_set_18 : decode cX0_set 18 = .ok (.iconst 0, 1) := by decide +kernel
theorem dX0_set_19 : decode cX0_set 19 = .ok (.ireturn, 1) := by decide +kernel
theorem dX0_set_20 : decode cX0_set 20 = .ok (.aload_n 0, 1) := by decide +kernel
theorem dX0_set_21 : decode cX0_set 21 = .ok (.iload_n 1, 1) := by decide +kernel
theorem dX0_set_22 : decode cX0_set 22 = .ok (.iload_n 2, 1) := by decide +kernel
theorem dX0_set_23 : decode cX0_set 23 = .ok (.iload_n 3, 1) := by decide +kernel
theorem dX0_set_24 : decode cX0_set 24 = .ok (.invokevirtual 43, 3) := by decide +kernel
theorem dX0_set_27 : decode cX0_set 27 = .ok (.iconst 1, 1) := by decide +kernel
theorem dX0_set_28 : decode cX0_set 28 = .ok (.ireturn, 1) := by decide +kernel
theorem dX0_isPair_0 : decode cX0_isPair 0 = .ok (.iload_n 0, 1) := by decide +kernel
theorem dX0_isPair_1 : decode cX0_isPair 1 = .ok (.invokestatic 35, 3) := by decide +kernel
theorem dX0_isPair_4 : decode cX0_isPair 4 = .ok (.ifCond .eq 19, 3) := by decide +kernel
theorem dX0_isPair_7 : decode cX0_isPair 7 = .ok (.iload_n 1, 1) := by decide +kernel
theorem dX0_isPair_8 : decode cX0_isPair 8 = .ok (.invokestatic 35, 3) := by decide +kernel
theorem dX0_isPair_11 : decode cX0_isPair 11 = .ok (.ifCond .eq 12, 3) := by decide +kernel
theorem dX0_isPair_14 : decode cX0_isPair 14 = .ok (.iload_n 0, 1) := by decide +kernel
theorem dX0_isPair_15 : decode cX0_isPair 15 = .ok (.iload_n 1, 1) := by decide +kernel
theorem dX0_isPair_16 : decode cX0_isPair 16 = .ok (.if_icmp .eq 7, 3) := by decide +kernel
theorem dX0_isPair_19 : decode cX0_isPair 19 = .ok (.iconst 1, 1) := by decide +kernel
theorem dX0_isPair_20 : decode cX0_isPair 20 = .ok (.goto 4, 3) := by decide +kernel
theorem dX0_isPair_23 : decode cX0_isPair 23 = .ok (.iconst 0, 1) := by decide +kernel
theorem dX0_isPair_24 : decode cX0_isPair 24 = .ok (.ireturn, 1) := by decide +kernel
theorem dX0_isPlace_0 : decode cX0_isPlace 0 = .ok (.iload_n 0, 1) := by decide +kernel
theorem dX0_isPlace_1 : decode cX0_isPlace 1 = .ok (.ifCond .lt 13, 3) := by decide +kernel
theorem dX0_isPlace_4 : decode cX0_isPlace 4 = .ok (.iload_n 0, 1) := by decide +kernel
theorem dX0_isPlace_5 : decode cX0_isPlace 5 = .ok (.bipush 6, 2) := by decide +kernel
theorem dX0_isPlace_7 : decode cX0_isPlace 7 = .ok (.if_icmp .ge 7, 3) := by decide +kernel
theorem dX0_isPlace_10 : decode cX0_isPlace 10 = .ok (.iconst 1, 1) := by decide +kernel
theorem dX0_isPlace_11 : decode cX0_isPlace 11 = .ok (.goto 4, 3) := by decide +kernel
theorem dX0_isPlace_14 : decode cX0_isPlace 14 = .ok (.iconst 0, 1) := by decide +kernel
theorem dX0_isPlace_15 : decode cX0_isPlace 15 = .ok (.ireturn, 1) := by decide +kernel
theorem dX0_put_0 : decode cX0_put 0 = .ok (.aload_n 0, 1) := by decide +kernel
theorem dX0_put_1 : decode cX0_put 1 = .ok (.getfield 7, 3) := by decide +kernel
theorem dX0_put_4 : decode cX0_put 4 = .ok (.iload_n 1, 1) := by decide +kernel
theorem dX0_put_5 : decode cX0_put 5 = .ok (.bipush 6, 2) := by decide +kernel
theorem dX0_put_7 : decode cX0_put 7 = .ok (.imul, 1) := by decide +kernel
theorem dX0_put_8 : decode cX0_put 8 = .ok (.iload_n 2, 1) := by decide +kernel
theorem dX0_put_9 : decode cX0_put 9 = .ok (.iadd, 1) := by decide +kernel
theorem dX0_put_10 : decode cX0_put 10 = .ok (.iload_n 3, 1) := by decide +kernel
theorem dX0_put_11 : decode cX0_put 11 = .ok (.iastore, 1) := by decide +kernel
theorem dX0_put_12 : decode cX0_put 12 = .ok (.aload_n 0, 1) := by decide +kernel
theorem dX0_put_13 : decode cX0_put 13 = .ok (.getfield 7, 3) := by decide +kernel
theorem dX0_put_16 : decode cX0_put 16 = .ok (.iload_n 2, 1) := by decide +kernel
theorem dX0_put_17 : decode cX0_put 17 = .ok (.bipush 6, 2) := by decide +kernel
theorem dX0_put_19 : decode cX0_put 19 = .ok (.imul, 1) := by decide +kernel
theorem dX0_put_20 : decode cX0_put 20 = .ok (.iload_n 1, 1) := by decide +kernel
theorem dX0_put_21 : decode cX0_put 21 = .ok (.iadd, 1) := by decide +kernel
theorem dX0_put_22 : decode cX0_put 22 = .ok (.iload_n 3, 1) := by decide +kernel
theorem dX0_put_23 : decode cX0_put 23 = .ok (.iastore, 1) := by decide +kernel
theorem dX0_put_24 : decode cX0_put 24 = .ok (.return_, 1) := by decide +kernel
theorem dX0_capacity_0 : decode cX0_capacity 0 = .ok (.iload_n 1, 1) := by decide +kernel
theorem dX0_capacity_1 : decode cX0_capacity 1 = .ok (.iload_n 2, 1) := by decide +kernel
theorem dX0_capacity_2 : decode cX0_capacity 2 = .ok (.invokestatic 39, 3) := by decide +kernel
theorem dX0_capacity_5 : decode cX0_capacity 5 = .ok (.ifCond .eq 17, 3) := by decide +kernel
theorem dX0_capacity_8 : decode cX0_capacity 8 = .ok (.aload_n 0, 1) := by decide +kernel
theorem dX0_capacity_9 : decode cX0_capacity 9 = .ok (.getfield 7, 3) := by decide +kernel
theorem dX0_capacity_12 : decode cX0_capacity 12 = .ok (.iload_n 1, 1) := by decide +kernel
theorem dX0_capacity_13 : decode cX0_capacity 13 = .ok (.bipush 6, 2) := by decide +kernel
theorem dX0_capacity_15 : decode cX0_capacity 15 = .ok (.imul, 1) := by decide +kernel
theorem dX0_capacity_16 : decode cX0_capacity 16 = .ok (.iload_n 2, 1) := by decide +kernel
theorem dX0_capacity_17 : decode cX0_capacity 17 = .ok (.iadd, 1) := by decide +kernel
theorem dX0_capacity_18 : decode cX0_capacity 18 = .ok (.iaload, 1) := by decide +kernel
theorem dX0_capacity_19 : decode cX0_capacity 19 = .ok (.goto 4, 3) := by decide +kernel
theorem dX0_capacity_22 : decode cX0_capacity 22 = .ok (.iconst (-1), 1) := by decide +kernel
theorem dX0_capacity_23 : decode cX0_capacity 23 = .ok (.ireturn, 1) := by decide +kernel
theorem dX0_cost_0 : decode cX0_cost 0 = .ok (.iload_n 1, 1) := by decide +kernel
theorem dX0_cost_1 : decode cX0_cost 1 = .ok (.iconst 1, 1) := by decide +kernel
theorem dX0_cost_2 : decode cX0_cost 2 = .ok (.if_icmp .lt 9, 3) := by decide +kernel
theorem dX0_cost_5 : decode cX0_cost 5 = .ok (.iload_n 1, 1) := by decide +kernel
theorem dX0_cost_6 : decode cX0_cost 6 = .ok (.bipush 63, 2) := by decide +kernel
theorem dX0_cost_8 : decode cX0_cost 8 = .ok (.if_icmp .lt 5, 3) := by decide +kernel
theorem dX0_cost_11 : decode cX0_cost 11 = .ok (.iconst (-1), 1) := by decide +kernel
theorem dX0_cost_12 : decode cX0_cost 12 = .ok (.ireturn, 1) := by decide +kernel
theorem dX0_cost_13 : decode cX0_cost 13 = .ok (.iconst 0, 1) := by decide +kernel
theorem dX0_cost_14 : decode cX0_cost 14 = .ok (.istore_n 2, 1) := by decide +kernel
theorem dX0_cost_15 : decode cX0_cost 15 = .ok (.iconst 0, 1) := by decide +kernel
theorem dX0_cost_16 : decode cX0_cost 16 = .ok (.istore_n 3, 1) := by decide +kernel
theorem dX0_cost_17 : decode cX0_cost 17 = .ok (.iload_n 3, 1) := by decide +kernel
theorem dX0_cost_18 : decode cX0_cost 18 = .ok (.bipush 6, 2) := by decide +kernel
theorem dX0_cost_20 : decode cX0_cost 20 = .ok (.if_icmp .ge 61, 3) := by decide +kernel
theorem dX0_cost_23 : decode cX0_cost 23 = .ok (.iconst 0, 1) := by decide +kernel
theorem dX0_cost_24 : decode cX0_cost 24 = .ok (.istore 4, 2) := by decide +kernel
theorem dX0_cost_26 : decode cX0_cost 26 = .ok (.iload 4, 2) := by decide +kernel
theorem dX0_cost_28 : decode cX0_cost 28 = .ok (.bipush 6, 2) := by decide +kernel
theorem dX0_cost_30 : decode cX0_cost 30 = .ok (.if_icmp .ge 45, 3) := by decide +kernel
theorem dX0_cost_33 : decode cX0_cost 33 = .ok (.iload_n 2, 1) := by decide +kernel
theorem dX0_cost_34 : decode cX0_cost 34 = .ok (.iload_n 1, 1) := by decide +kernel
theorem dX0_cost_35 : decode cX0_cost 35 = .ok (.iload_n 3, 1) := by decide +kernel
theorem dX0_cost_36 : decode cX0_cost 36 = .ok (.invokestatic 47, 3) := by decide +kernel
theorem dX0_cost_39 : decode cX0_cost 39 = .ok (.ifCond .eq 27, 3) := by decide +kernel
theorem dX0_cost_42 : decode cX0_cost 42 = .ok (.iload_n 1, 1) := by decide +kernel
theorem dX0_cost_43 : decode cX0_cost 43 = .ok (.iload 4, 2) := by decide +kernel
theorem dX0_cost_45 : decode cX0_cost 45 = .ok (.invokestatic 47, 3) := by decide +kernel
theorem dX0_cost_48 : decode cX0_cost 48 = .ok (.ifCond .ne 18, 3) := by decide +kernel
theorem dX0_cost_51 : decode cX0_cost 51 = .ok (.aload_n 0, 1) := by decide +kernel
theorem dX0_cost_52 : decode cX0_cost 52 = .ok (.getfield 7, 3) := by decide +kernel
theorem dX0_cost_55 : decode cX0_cost 55 = .ok (.iload_n 3, 1) := by decide +kernel
theorem dX0_cost_56 : decode cX0_cost 56 = .ok (.bipush 6, 2) := by decide +kernel
theorem dX0_cost_58 : decode cX0_cost 58 = .ok (.imul, 1) := by decide +kernel
theorem dX0_cost_59 : decode cX0_cost 59 = .ok (.iload 4, 2) := by decide +kernel
theorem dX0_cost_61 : decode cX0_cost 61 = .ok (.iadd, 1) := by decide +kernel
theorem dX0_cost_62 : decode cX0_cost 62 = .ok (.iaload, 1) := by decide +kernel
theorem dX0_cost_63 : decode cX0_cost 63 = .ok (.goto 4, 3) := by decide +kernel
theorem dX0_cost_66 : decode cX0_cost 66 = .ok (.iconst 0, 1) := by decide +kernel
theorem dX0_cost_67 : decode cX0_cost 67 = .ok (.iadd, 1) := by decide +kernel
theorem dX0_cost_68 : decode cX0_cost 68 = .ok (.istore_n 2, 1) := by decide +kernel
theorem dX0_cost_69 : decode cX0_cost 69 = .ok (.iinc 4 1, 3) := by decide +kernel
theorem dX0_cost_72 : decode cX0_cost 72 = .ok (.goto (-46), 3) := by decide +kernel
theorem dX0_cost_75 : decode cX0_cost 75 = .ok (.iinc 3 1, 3) := by decide +kernel
theorem dX0_cost_78 : decode cX0_cost 78 = .ok (.goto (-61), 3) := by decide +kernel
theorem dX0_cost_81 : decode cX0_cost 81 = .ok (.iload_n 2, 1) := by decide +kernel
theorem dX0_cost_82 : decode cX0_cost 82 = .ok (.ireturn, 1) := by decide +kernel
theorem dX0_in_0 : decode cX0_in 0 = .ok (.iload_n 0, 1) := by decide +kernel
theorem dX0_in_1 : decode cX0_in 1 = .ok (.iload_n 1, 1) := by decide +kernel
theorem dX0_in_2 : decode cX0_in 2 = .ok (.ishr, 1) := by decide +kernel
theorem dX0_in_3 : decode cX0_in 3 = .ok (.iconst 1, 1) := by decide +kernel
theorem dX0_in_4 : decode cX0_in 4 = .ok (.iand, 1) := by decide +kernel
theorem dX0_in_5 : decode cX0_in 5 = .ok (.ifCond .eq 7, 3) := by decide +kernel
theorem dX0_in_8 : decode cX0_in 8 = .ok (.iconst 1, 1) := by decide +kernel
theorem dX0_in_9 : decode cX0_in 9 = .ok (.goto 4, 3) := by decide +kernel
theorem dX0_in_12 : decode cX0_in 12 = .ok (.iconst 0, 1) := by decide +kernel
theorem dX0_in_13 : decode cX0_in 13 = .ok (.ireturn, 1) := by decide +kernel
theorem dX0_least_0 : decode cX0_least 0 = .ok (.iconst 0, 1) := by decide +kernel
theorem dX0_least_1 : decode cX0_least 1 = .ok (.istore_n 1, 1) := by decide +kernel
theorem dX0_least_2 : decode cX0_least 2 = .ok (.iload_n 1, 1) := by decide +kernel
theorem dX0_least_3 : decode cX0_least 3 = .ok (.bipush 36, 2) := by decide +kernel
theorem dX0_least_5 : decode cX0_least 5 = .ok (.if_icmp .ge 21, 3) := by decide +kernel
theorem dX0_least_8 : decode cX0_least 8 = .ok (.aload_n 0, 1) := by decide +kernel
theorem dX0_least_9 : decode cX0_least 9 = .ok (.getfield 23, 3) := by decide +kernel
theorem dX0_least_12 : decode cX0_least 12 = .ok (.iload_n 1, 1) := by decide +kernel
theorem dX0_least_13 : decode cX0_least 13 = .ok (.aload_n 0, 1) := by decide +kernel
theorem dX0_least_14 : decode cX0_least 14 = .ok (.getfield 7, 3) := by decide +kernel
theorem dX0_least_17 : decode cX0_least 17 = .ok (.iload_n 1, 1) := by decide +kernel
theorem dX0_least_18 : decode cX0_least 18 = .ok (.iaload, 1) := by decide +kernel
theorem dX0_least_19 : decode cX0_least 19 = .ok (.iastore, 1) := by decide +kernel
theorem dX0_least_20 : decode cX0_least 20 = .ok (.iinc 1 1, 3) := by decide +kernel
theorem dX0_least_23 : decode cX0_least 23 = .ok (.goto (-21), 3) := by decide +kernel
theorem dX0_least_26 : decode cX0_least 26 = .ok (.ldc 50, 2) := by decide +kernel
theorem dX0_least_28 : decode cX0_least 28 = .ok (.istore_n 1, 1) := by decide +kernel
theorem dX0_least_29 : decode cX0_least 29 = .ok (.bipush 63, 2) := by decide +kernel
theorem dX0_least_31 : decode cX0_least 31 = .ok (.istore_n 2, 1) := by decide +kernel
theorem dX0_least_32 : decode cX0_least 32 = .ok (.iconst 0, 1) := by decide +kernel
theorem dX0_least_33 : decode cX0_least 33 = .ok (.istore_n 3, 1) := by decide +kernel
theorem dX0_least_34 : decode cX0_least 34 = .ok (.iload_n 3, 1) := by decide +kernel
theorem dX0_least_35 : decode cX0_least 35 = .ok (.iconst 5, 1) := by decide +kernel
theorem dX0_least_36 : decode cX0_least 36 = .ok (.if_icmp .ge 96, 3) := by decide +kernel
theorem dX0_least_39 : decode cX0_least 39 = .ok (.iconst (-1), 1) := by decide +kernel
theorem dX0_least_40 : decode cX0_least 40 = .ok (.istore 4, 2) := by decide +kernel
theorem dX0_least_42 : decode cX0_least 42 = .ok (.iconst (-1), 1) := by decide +kernel
theorem dX0_least_43 : decode cX0_least 43 = .ok (.istore 5, 2) := by decide +kernel
theorem dX0_least_45 : decode cX0_least 45 = .ok (.iconst 0, 1) := by decide +kernel
theorem dX0_least_46 : decode cX0_least 46 = .ok (.istore 6, 2) := by decide +kernel
theorem dX0_least_48 : decode cX0_least 48 = .ok (.iload_n 3, 1) := by decide +kernel
theorem dX0_least_49 : decode cX0_least 49 = .ok (.istore 7, 2) := by decide +kernel
theorem dX0_least_51 : decode cX0_least 51 = .ok (.iload 7, 2) := by decide +kernel
theorem dX0_least_53 : decode cX0_least 53 = .ok (.bipush 6, 2) := by decide +kernel
theorem dX0_least_55 : decode cX0_least 55 = .ok (.if_icmp .ge 31, 3) := by decide +kernel
theorem dX0_least_58 : decode cX0_least 58 = .ok (.iload 4, 2) := by decide +kernel
theorem dX0_least_60 : decode cX0_least 60 = .ok (.istore 5, 2) := by decide +kernel
theorem dX0_least_62 : decode cX0_least 62 = .ok (.aload_n 0, 1) := by decide +kernel
theorem dX0_least_63 : decode cX0_least 63 = .ok (.iload_n 2, 1) := by decide +kernel
theorem dX0_least_64 : decode cX0_least 64 = .ok (.iload 6, 2) := by decide +kernel
theorem dX0_least_66 : decode cX0_least 66 = .ok (.invokevirtual 51, 3) := by decide +kernel
theorem dX0_least_69 : decode cX0_least 69 = .ok (.istore 4, 2) := by decide +kernel
theorem dX0_least_71 : decode cX0_least 71 = .ok (.iload 6, 2) := by decide +kernel
theorem dX0_least_73 : decode cX0_least 73 = .ok (.iconst 1, 1) := by decide +kernel
theorem dX0_least_74 : decode cX0_least 74 = .ok (.iload 4, 2) := by decide +kernel
theorem dX0_least_76 : decode cX0_least 76 = .ok (.ishl, 1) := by decide +kernel
theorem dX0_least_77 : decode cX0_least 77 = .ok (.ior, 1) := by decide +kernel
theorem dX0_least_78 : decode cX0_least 78 = .ok (.istore 6, 2) := by decide +kernel
theorem dX0_least_80 : decode cX0_least 80 = .ok (.iinc 7 1, 3) := by decide +kernel
theorem dX0_least_83 : decode cX0_least 83 = .ok (.goto (-32), 3) := by decide +kernel
theorem dX0_least_86 : decode cX0_least 86 = .ok (.aload_n 0, 1) := by decide +kernel
theorem dX0_least_87 : decode cX0_least 87 = .ok (.getfield 26, 3) := by decide +kernel
theorem dX0_least_90 : decode cX0_least 90 = .ok (.iload 4, 2) := by decide +kernel
theorem dX0_least_92 : decode cX0_least 92 = .ok (.iaload, 1) := by decide +kernel
theorem dX0_least_93 : decode cX0_least 93 = .ok (.iload_n 1, 1) := by decide +kernel
theorem dX0_least_94 : decode cX0_least 94 = .ok (.if_icmp .ge 13, 3) := by decide +kernel
theorem dX0_least_97 : decode cX0_least 97 = .ok (.aload_n 0, 1) := by decide +kernel
theorem dX0_least_98 : decode cX0_least 98 = .ok (.getfield 26, 3) := by decide +kernel
theorem dX0_least_101 : decode cX0_least 101 = .ok (.iload 4, 2) := by decide +kernel
theorem dX0_least_103 : decode cX0_least 103 = .ok (.iaload, 1) := by decide +kernel
theorem dX0_least_104 : decode cX0_least 104 = .ok (.goto 4, 3) := by decide +kernel
theorem dX0_least_107 : decode cX0_least 107 = .ok (.iload_n 1, 1) := by decide +kernel
theorem dX0_least_108 : decode cX0_least 108 = .ok (.istore_n 1, 1) := by decide +kernel
theorem dX0_least_109 : decode cX0_least 109 = .ok (.aload_n 0, 1) := by decide +kernel
theorem dX0_least_110 : decode cX0_least 110 = .ok (.iload 5, 2) := by decide +kernel
theorem dX0_least_112 : decode cX0_least 112 = .ok (.iload 4, 2) := by decide +kernel
theorem dX0_least_114 : decode cX0_least 114 = .ok (.invokevirtual 55, 3) := by decide +kernel
theorem dX0_least_117 : decode cX0_least 117 = .ok (.iload_n 2, 1) := by decide +kernel
theorem dX0_least_118 : decode cX0_least 118 = .ok (.iconst 1, 1) := by decide +kernel
theorem dX0_least_119 : decode cX0_least 119 = .ok (.iload 4, 2) := by decide +kernel
theorem dX0_least_121 : decode cX0_least 121 = .ok (.ishl, 1) := by decide +kernel
theorem dX0_least_122 : decode cX0_least 122 = .ok (.iconst (-1), 1) := by decide +kernel
theorem dX0_least_123 : decode cX0_least 123 = .ok (.ixor, 1) := by decide +kernel
theorem dX0_least_124 : decode cX0_least 124 = .ok (.iand, 1) := by decide +kernel
theorem dX0_least_125 : decode cX0_least 125 = .ok (.istore_n 2, 1) := by decide +kernel
theorem dX0_least_126 : decode cX0_least 126 = .ok (.iinc 3 1, 3) := by decide +kernel
theorem dX0_least_129 : decode cX0_least 129 = .ok (.goto (-95), 3) := by decide +kernel
theorem dX0_least_132 : decode cX0_least 132 = .ok (.iload_n 1, 1) := by decide +kernel
theorem dX0_least_133 : decode cX0_least 133 = .ok (.ireturn, 1) := by decide +kernel
theorem dX0_tightest_0 : decode cX0_tightest 0 = .ok (.iconst (-1), 1) := by decide +kernel
theorem dX0_tightest_1 : decode cX0_tightest 1 = .ok (.istore_n 3, 1) := by decide +kernel
theorem dX0_tightest_2 : decode cX0_tightest 2 = .ok (.iconst 0, 1) := by decide +kernel
theorem dX0_tightest_3 : decode cX0_tightest 3 = .ok (.istore 4, 2) := by decide +kernel
theorem dX0_tightest_5 : decode cX0_tightest 5 = .ok (.iload 4, 2) := by decide +kernel
theorem dX0_tightest_7 : decode cX0_tightest 7 = .ok (.bipush 6, 2) := by decide +kernel
theorem dX0_tightest_9 : decode cX0_tightest 9 = .ok (.if_icmp .ge 108, 3) := by decide +kernel
theorem dX0_tightest_12 : decode cX0_tightest 12 = .ok (.iload_n 1, 1) := by decide +kernel
theorem dX0_tightest_13 : decode cX0_tightest 13 = .ok (.iload 4, 2) := by decide +kernel
theorem dX0_tightest_15 : decode cX0_tightest 15 = .ok (.invokestatic 47, 3) := by decide +kernel
theorem dX0_tightest_18 : decode cX0_tightest 18 = .ok (.ifCond .eq 93, 3) := by decide +kernel
theorem dX0_tightest_21 : decode cX0_tightest 21 = .ok (.iload_n 2, 1) := by decide +kernel
end
section
set_option maxRecDepth 100000
theorem dX0_tightest_22 : decode cX0_tightest 22 = .ok (.iload 4, 2) := by decide +kernel
theorem dX0_tightest_24 : decode cX0_tightest 24 = .ok (.invokestatic 47, 3) := by decide +kernel
theorem dX0_tightest_27 : decode cX0_tightest 27 = .ok (.ifCond .ne 84, 3) := by decide +kernel
theorem dX0_tightest_30 : decode cX0_tightest 30 = .ok (.iconst 0, 1) := by decide +kernel
theorem dX0_tightest_31 : decode cX0_tightest 31 = .ok (.istore 5, 2) := by decide +kernel
theorem dX0_tightest_33 : decode cX0_tightest 33 = .ok (.iconst 0, 1) := by decide +kernel
theorem dX0_tightest_34 : decode cX0_tightest 34 = .ok (.istore 6, 2) := by decide +kernel
theorem dX0_tightest_36 : decode cX0_tightest 36 = .ok (.iload 6, 2) := by decide +kernel
theorem dX0_tightest_38 : decode cX0_tightest 38 = .ok (.bipush 6, 2) := by decide +kernel
theorem dX0_tightest_40 : decode cX0_tightest 40 = .ok (.if_icmp .ge 40, 3) := by decide +kernel
theorem dX0_tightest_43 : decode cX0_tightest 43 = .ok (.iload 5, 2) := by decide +kernel
theorem dX0_tightest_45 : decode cX0_tightest 45 = .ok (.iload_n 2, 1) := by decide +kernel
theorem dX0_tightest_46 : decode cX0_tightest 46 = .ok (.iload 6, 2) := by decide +kernel
theorem dX0_tightest_48 : decode cX0_tightest 48 = .ok (.invokestatic 47, 3) := by decide +kernel
theorem dX0_tightest_51 : decode cX0_tightest 51 = .ok (.ifCond .eq 19, 3) := by decide +kernel
theorem dX0_tightest_54 : decode cX0_tightest 54 = .ok (.aload_n 0, 1) := by decide +kernel
theorem dX0_tightest_55 : decode cX0_tightest 55 = .ok (.getfield 23, 3) := by decide +kernel
theorem dX0_tightest_58 : decode cX0_tightest 58 = .ok (.iload 4, 2) := by decide +kernel
theorem dX0_tightest_60 : decode cX0_tightest 60 = .ok (.bipush 6, 2) := by decide +kernel
theorem dX0_tightest_62 : decode cX0_tightest 62 = .ok (.imul, 1) := by decide +kernel
theorem dX0_tightest_63 : decode cX0_tightest 63 = .ok (.iload 6, 2) := by decide +kernel
theorem dX0_tightest_65 : decode cX0_tightest 65 = .ok (.iadd, 1) := by decide +kernel
theorem dX0_tightest_66 : decode cX0_tightest 66 = .ok (.iaload, 1) := by decide +kernel
theorem dX0_tightest_67 : decode cX0_tightest 67 = .ok (.goto 4, 3) := by decide +kernel
theorem dX0_tightest_70 : decode cX0_tightest 70 = .ok (.iconst 0, 1) := by decide +kernel
theorem dX0_tightest_71 : decode cX0_tightest 71 = .ok (.iadd, 1) := by decide +kernel
theorem dX0_tightest_72 : decode cX0_tightest 72 = .ok (.istore 5, 2) := by decide +kernel
theorem dX0_tightest_74 : decode cX0_tightest 74 = .ok (.iinc 6 1, 3) := by decide +kernel
theorem dX0_tightest_77 : decode cX0_tightest 77 = .ok (.goto (-41), 3) := by decide +kernel
theorem dX0_tightest_80 : decode cX0_tightest 80 = .ok (.aload_n 0, 1) := by decide +kernel
theorem dX0_tightest_81 : decode cX0_tightest 81 = .ok (.getfield 26, 3) := by decide +kernel
theorem dX0_tightest_84 : decode cX0_tightest 84 = .ok (.iload 4, 2) := by decide +kernel
theorem dX0_tightest_86 : decode cX0_tightest 86 = .ok (.iload 5, 2) := by decide +kernel
theorem dX0_tightest_88 : decode cX0_tightest 88 = .ok (.iastore, 1) := by decide +kernel
theorem dX0_tightest_89 : decode cX0_tightest 89 = .ok (.iload_n 3, 1) := by decide +kernel
theorem dX0_tightest_90 : decode cX0_tightest 90 = .ok (.ifCond .lt 14, 3) := by decide +kernel
theorem dX0_tightest_93 : decode cX0_tightest 93 = .ok (.iload 5, 2) := by decide +kernel
theorem dX0_tightest_95 : decode cX0_tightest 95 = .ok (.aload_n 0, 1) := by decide +kernel
theorem dX0_tightest_96 : decode cX0_tightest 96 = .ok (.getfield 26, 3) := by decide +kernel
theorem dX0_tightest_99 : decode cX0_tightest 99 = .ok (.iload_n 3, 1) := by decide +kernel
theorem dX0_tightest_100 : decode cX0_tightest 100 = .ok (.iaload, 1) := by decide +kernel
theorem dX0_tightest_101 : decode cX0_tightest 101 = .ok (.if_icmp .le 8, 3) := by decide +kernel
theorem dX0_tightest_104 : decode cX0_tightest 104 = .ok (.iload 4, 2) := by decide +kernel
theorem dX0_tightest_106 : decode cX0_tightest 106 = .ok (.goto 4, 3) := by decide +kernel
theorem dX0_tightest_109 : decode cX0_tightest 109 = .ok (.iload_n 3, 1) := by decide +kernel
theorem dX0_tightest_110 : decode cX0_tightest 110 = .ok (.istore_n 3, 1) := by decide +kernel
theorem dX0_tightest_111 : decode cX0_tightest 111 = .ok (.iinc 4 1, 3) := by decide +kernel
theorem dX0_tightest_114 : decode cX0_tightest 114 = .ok (.goto (-109), 3) := by decide +kernel
theorem dX0_tightest_117 : decode cX0_tightest 117 = .ok (.iload_n 3, 1) := by decide +kernel
theorem dX0_tightest_118 : decode cX0_tightest 118 = .ok (.ireturn, 1) := by decide +kernel
theorem dX0_merge_0 : decode cX0_merge 0 = .ok (.iconst 0, 1) := by decide +kernel
theorem dX0_merge_1 : decode cX0_merge 1 = .ok (.istore_n 3, 1) := by decide +kernel
theorem dX0_merge_2 : decode cX0_merge 2 = .ok (.iload_n 3, 1) := by decide +kernel
theorem dX0_merge_3 : decode cX0_merge 3 = .ok (.bipush 6, 2) := by decide +kernel
theorem dX0_merge_5 : decode cX0_merge 5 = .ok (.if_icmp .ge 56, 3) := by decide +kernel
theorem dX0_merge_8 : decode cX0_merge 8 = .ok (.aload_n 0, 1) := by decide +kernel
theorem dX0_merge_9 : decode cX0_merge 9 = .ok (.getfield 23, 3) := by decide +kernel
theorem dX0_merge_12 : decode cX0_merge 12 = .ok (.iload_n 1, 1) := by decide +kernel
theorem dX0_merge_13 : decode cX0_merge 13 = .ok (.bipush 6, 2) := by decide +kernel
theorem dX0_merge_15 : decode cX0_merge 15 = .ok (.imul, 1) := by decide +kernel
theorem dX0_merge_16 : decode cX0_merge 16 = .ok (.iload_n 3, 1) := by decide +kernel
theorem dX0_merge_17 : decode cX0_merge 17 = .ok (.iadd, 1) := by decide +kernel
theorem dX0_merge_18 : decode cX0_merge 18 = .ok (.dup2, 1) := by decide +kernel
theorem dX0_merge_19 : decode cX0_merge 19 = .ok (.iaload, 1) := by decide +kernel
theorem dX0_merge_20 : decode cX0_merge 20 = .ok (.aload_n 0, 1) := by decide +kernel
theorem dX0_merge_21 : decode cX0_merge 21 = .ok (.getfield 23, 3) := by decide +kernel
theorem dX0_merge_24 : decode cX0_merge 24 = .ok (.iload_n 2, 1) := by decide +kernel
theorem dX0_merge_25 : decode cX0_merge 25 = .ok (.bipush 6, 2) := by decide +kernel
theorem dX0_merge_27 : decode cX0_merge 27 = .ok (.imul, 1) := by decide +kernel
theorem dX0_merge_28 : decode cX0_merge 28 = .ok (.iload_n 3, 1) := by decide +kernel
theorem dX0_merge_29 : decode cX0_merge 29 = .ok (.iadd, 1) := by decide +kernel
theorem dX0_merge_30 : decode cX0_merge 30 = .ok (.iaload, 1) := by decide +kernel
theorem dX0_merge_31 : decode cX0_merge 31 = .ok (.iadd, 1) := by decide +kernel
theorem dX0_merge_32 : decode cX0_merge 32 = .ok (.iastore, 1) := by decide +kernel
theorem dX0_merge_33 : decode cX0_merge 33 = .ok (.aload_n 0, 1) := by decide +kernel
theorem dX0_merge_34 : decode cX0_merge 34 = .ok (.getfield 23, 3) := by decide +kernel
theorem dX0_merge_37 : decode cX0_merge 37 = .ok (.iload_n 3, 1) := by decide +kernel
theorem dX0_merge_38 : decode cX0_merge 38 = .ok (.bipush 6, 2) := by decide +kernel
theorem dX0_merge_40 : decode cX0_merge 40 = .ok (.imul, 1) := by decide +kernel
theorem dX0_merge_41 : decode cX0_merge 41 = .ok (.iload_n 1, 1) := by decide +kernel
theorem dX0_merge_42 : decode cX0_merge 42 = .ok (.iadd, 1) := by decide +kernel
theorem dX0_merge_43 : decode cX0_merge 43 = .ok (.aload_n 0, 1) := by decide +kernel
theorem dX0_merge_44 : decode cX0_merge 44 = .ok (.getfield 23, 3) := by decide +kernel
theorem dX0_merge_47 : decode cX0_merge 47 = .ok (.iload_n 1, 1) := by decide +kernel
theorem dX0_merge_48 : decode cX0_merge 48 = .ok (.bipush 6, 2) := by decide +kernel
theorem dX0_merge_50 : decode cX0_merge 50 = .ok (.imul, 1) := by decide +kernel
theorem dX0_merge_51 : decode cX0_merge 51 = .ok (.iload_n 3, 1) := by decide +kernel
theorem dX0_merge_52 : decode cX0_merge 52 = .ok (.iadd, 1) := by decide +kernel
theorem dX0_merge_53 : decode cX0_merge 53 = .ok (.iaload, 1) := by decide +kernel
theorem dX0_merge_54 : decode cX0_merge 54 = .ok (.iastore, 1) := by decide +kernel
theorem dX0_merge_55 : decode cX0_merge 55 = .ok (.iinc 3 1, 3) := by decide +kernel
theorem dX0_merge_58 : decode cX0_merge 58 = .ok (.goto (-56), 3) := by decide +kernel
theorem dX0_merge_61 : decode cX0_merge 61 = .ok (.aload_n 0, 1) := by decide +kernel
theorem dX0_merge_62 : decode cX0_merge 62 = .ok (.getfield 23, 3) := by decide +kernel
theorem dX0_merge_65 : decode cX0_merge 65 = .ok (.iload_n 1, 1) := by decide +kernel
theorem dX0_merge_66 : decode cX0_merge 66 = .ok (.bipush 6, 2) := by decide +kernel
theorem dX0_merge_68 : decode cX0_merge 68 = .ok (.imul, 1) := by decide +kernel
theorem dX0_merge_69 : decode cX0_merge 69 = .ok (.iload_n 1, 1) := by decide +kernel
theorem dX0_merge_70 : decode cX0_merge 70 = .ok (.iadd, 1) := by decide +kernel
theorem dX0_merge_71 : decode cX0_merge 71 = .ok (.iconst 0, 1) := by decide +kernel
theorem dX0_merge_72 : decode cX0_merge 72 = .ok (.iastore, 1) := by decide +kernel
theorem dX0_merge_73 : decode cX0_merge 73 = .ok (.return_, 1) := by decide +kernel
theorem dX0_leastSide_0 : decode cX0_leastSide 0 = .ok (.aload_n 0, 1) := by decide +kernel
theorem dX0_leastSide_1 : decode cX0_leastSide 1 = .ok (.invokevirtual 70, 3) := by decide +kernel
theorem dX0_leastSide_4 : decode cX0_leastSide 4 = .ok (.istore_n 1, 1) := by decide +kernel
theorem dX0_leastSide_5 : decode cX0_leastSide 5 = .ok (.iconst 1, 1) := by decide +kernel
theorem dX0_leastSide_6 : decode cX0_leastSide 6 = .ok (.istore_n 2, 1) := by decide +kernel
theorem dX0_leastSide_7 : decode cX0_leastSide 7 = .ok (.iconst 0, 1) := by decide +kernel
theorem dX0_leastSide_8 : decode cX0_leastSide 8 = .ok (.istore_n 3, 1) := by decide +kernel
theorem dX0_leastSide_9 : decode cX0_leastSide 9 = .ok (.iconst 5, 1) := by decide +kernel
theorem dX0_leastSide_10 : decode cX0_leastSide 10 = .ok (.istore 4, 2) := by decide +kernel
theorem dX0_leastSide_12 : decode cX0_leastSide 12 = .ok (.iload 4, 2) := by decide +kernel
theorem dX0_leastSide_14 : decode cX0_leastSide 14 = .ok (.ifCond .le 45, 3) := by decide +kernel
theorem dX0_leastSide_17 : decode cX0_leastSide 17 = .ok (.aload_n 0, 1) := by decide +kernel
theorem dX0_leastSide_18 : decode cX0_leastSide 18 = .ok (.iload_n 2, 1) := by decide +kernel
theorem dX0_leastSide_19 : decode cX0_leastSide 19 = .ok (.iload_n 3, 1) := by decide +kernel
theorem dX0_leastSide_20 : decode cX0_leastSide 20 = .ok (.iconst 1, 1) := by decide +kernel
theorem dX0_leastSide_21 : decode cX0_leastSide 21 = .ok (.iload 4, 2) := by decide +kernel
theorem dX0_leastSide_23 : decode cX0_leastSide 23 = .ok (.ishl, 1) := by decide +kernel
theorem dX0_leastSide_24 : decode cX0_leastSide 24 = .ok (.ior, 1) := by decide +kernel
theorem dX0_leastSide_25 : decode cX0_leastSide 25 = .ok (.invokevirtual 74, 3) := by decide +kernel
theorem dX0_leastSide_28 : decode cX0_leastSide 28 = .ok (.istore 5, 2) := by decide +kernel
theorem dX0_leastSide_30 : decode cX0_leastSide 30 = .ok (.iload 5, 2) := by decide +kernel
theorem dX0_leastSide_32 : decode cX0_leastSide 32 = .ok (.iload_n 1, 1) := by decide +kernel
theorem dX0_leastSide_33 : decode cX0_leastSide 33 = .ok (.if_icmp .ne 13, 3) := by decide +kernel
theorem dX0_leastSide_36 : decode cX0_leastSide 36 = .ok (.iload_n 3, 1) := by decide +kernel
theorem dX0_leastSide_37 : decode cX0_leastSide 37 = .ok (.iconst 1, 1) := by decide +kernel
theorem dX0_leastSide_38 : decode cX0_leastSide 38 = .ok (.iload 4, 2) := by decide +kernel
theorem dX0_leastSide_40 : decode cX0_leastSide 40 = .ok (.ishl, 1) := by decide +kernel
theorem dX0_leastSide_41 : decode cX0_leastSide 41 = .ok (.ior, 1) := by decide +kernel
theorem dX0_leastSide_42 : decode cX0_leastSide 42 = .ok (.istore_n 3, 1) := by decide +kernel
theorem dX0_leastSide_43 : decode cX0_leastSide 43 = .ok (.goto 10, 3) := by decide +kernel
theorem dX0_leastSide_46 : decode cX0_leastSide 46 = .ok (.iload_n 2, 1) := by decide +kernel
theorem dX0_leastSide_47 : decode cX0_leastSide 47 = .ok (.iconst 1, 1) := by decide +kernel
theorem dX0_leastSide_48 : decode cX0_leastSide 48 = .ok (.iload 4, 2) := by decide +kernel
theorem dX0_leastSide_50 : decode cX0_leastSide 50 = .ok (.ishl, 1) := by decide +kernel
theorem dX0_leastSide_51 : decode cX0_leastSide 51 = .ok (.ior, 1) := by decide +kernel
theorem dX0_leastSide_52 : decode cX0_leastSide 52 = .ok (.istore_n 2, 1) := by decide +kernel
theorem dX0_leastSide_53 : decode cX0_leastSide 53 = .ok (.iinc 4 (-1), 3) := by decide +kernel
theorem dX0_leastSide_56 : decode cX0_leastSide 56 = .ok (.goto (-44), 3) := by decide +kernel
theorem dX0_leastSide_59 : decode cX0_leastSide 59 = .ok (.iload_n 2, 1) := by decide +kernel
theorem dX0_leastSide_60 : decode cX0_leastSide 60 = .ok (.ireturn, 1) := by decide +kernel
theorem dX0_flow_0 : decode cX0_flow 0 = .ok (.iconst 0, 1) := by decide +kernel
theorem dX0_flow_1 : decode cX0_flow 1 = .ok (.istore_n 3, 1) := by decide +kernel
theorem dX0_flow_2 : decode cX0_flow 2 = .ok (.iload_n 3, 1) := by decide +kernel
theorem dX0_flow_3 : decode cX0_flow 3 = .ok (.bipush 36, 2) := by decide +kernel
theorem dX0_flow_5 : decode cX0_flow 5 = .ok (.if_icmp .ge 21, 3) := by decide +kernel
theorem dX0_flow_8 : decode cX0_flow 8 = .ok (.aload_n 0, 1) := by decide +kernel
theorem dX0_flow_9 : decode cX0_flow 9 = .ok (.getfield 13, 3) := by decide +kernel
theorem dX0_flow_12 : decode cX0_flow 12 = .ok (.iload_n 3, 1) := by decide +kernel
theorem dX0_flow_13 : decode cX0_flow 13 = .ok (.aload_n 0, 1) := by decide +kernel
theorem dX0_flow_14 : decode cX0_flow 14 = .ok (.getfield 7, 3) := by decide +kernel
theorem dX0_flow_17 : decode cX0_flow 17 = .ok (.iload_n 3, 1) := by decide +kernel
theorem dX0_flow_18 : decode cX0_flow 18 = .ok (.iaload, 1) := by decide +kernel
theorem dX0_flow_19 : decode cX0_flow 19 = .ok (.iastore, 1) := by decide +kernel
theorem dX0_flow_20 : decode cX0_flow 20 = .ok (.iinc 3 1, 3) := by decide +kernel
theorem dX0_flow_23 : decode cX0_flow 23 = .ok (.goto (-21), 3) := by decide +kernel
theorem dX0_flow_26 : decode cX0_flow 26 = .ok (.iconst 0, 1) := by decide +kernel
theorem dX0_flow_27 : decode cX0_flow 27 = .ok (.istore_n 3, 1) := by decide +kernel
theorem dX0_flow_28 : decode cX0_flow 28 = .ok (.iconst 0, 1) := by decide +kernel
theorem dX0_flow_29 : decode cX0_flow 29 = .ok (.istore 4, 2) := by decide +kernel
theorem dX0_flow_31 : decode cX0_flow 31 = .ok (.iload 4, 2) := by decide +kernel
theorem dX0_flow_33 : decode cX0_flow 33 = .ok (.sipush 128, 3) := by decide +kernel
theorem dX0_flow_36 : decode cX0_flow 36 = .ok (.if_icmp .ge 33, 3) := by decide +kernel
theorem dX0_flow_39 : decode cX0_flow 39 = .ok (.aload_n 0, 1) := by decide +kernel
theorem dX0_flow_40 : decode cX0_flow 40 = .ok (.iload_n 1, 1) := by decide +kernel
theorem dX0_flow_41 : decode cX0_flow 41 = .ok (.iload_n 2, 1) := by decide +kernel
theorem dX0_flow_42 : decode cX0_flow 42 = .ok (.invokevirtual 63, 3) := by decide +kernel
theorem dX0_flow_45 : decode cX0_flow 45 = .ok (.istore 5, 2) := by decide +kernel
theorem dX0_flow_47 : decode cX0_flow 47 = .ok (.iload 5, 2) := by decide +kernel
theorem dX0_flow_49 : decode cX0_flow 49 = .ok (.ifCond .ge 5, 3) := by decide +kernel
theorem dX0_flow_52 : decode cX0_flow 52 = .ok (.iload_n 3, 1) := by decide +kernel
theorem dX0_flow_53 : decode cX0_flow 53 = .ok (.ireturn, 1) := by decide +kernel
theorem dX0_flow_54 : decode cX0_flow 54 = .ok (.iload_n 3, 1) := by decide +kernel
theorem dX0_flow_55 : decode cX0_flow 55 = .ok (.aload_n 0, 1) := by decide +kernel
theorem dX0_flow_56 : decode cX0_flow 56 = .ok (.iload 5, 2) := by decide +kernel
theorem dX0_flow_58 : decode cX0_flow 58 = .ok (.invokevirtual 66, 3) := by decide +kernel
theorem dX0_flow_61 : decode cX0_flow 61 = .ok (.iadd, 1) := by decide +kernel
theorem dX0_flow_62 : decode cX0_flow 62 = .ok (.istore_n 3, 1) := by decide +kernel
theorem dX0_flow_63 : decode cX0_flow 63 = .ok (.iinc 4 1, 3) := by decide +kernel
theorem dX0_flow_66 : decode cX0_flow 66 = .ok (.goto (-35), 3) := by decide +kernel
theorem dX0_flow_69 : decode cX0_flow 69 = .ok (.iload_n 3, 1) := by decide +kernel
theorem dX0_flow_70 : decode cX0_flow 70 = .ok (.ireturn, 1) := by decide +kernel
theorem dX0_spread_0 : decode cX0_spread 0 = .ok (.aload_n 0, 1) := by decide +kernel
theorem dX0_spread_1 : decode cX0_spread 1 = .ok (.iconst 0, 1) := by decide +kernel
theorem dX0_spread_2 : decode cX0_spread 2 = .ok (.putfield 59, 3) := by decide +kernel
theorem dX0_spread_5 : decode cX0_spread 5 = .ok (.iconst 0, 1) := by decide +kernel
theorem dX0_spread_6 : decode cX0_spread 6 = .ok (.istore_n 3, 1) := by decide +kernel
theorem dX0_spread_7 : decode cX0_spread 7 = .ok (.iconst 0, 1) := by decide +kernel
theorem dX0_spread_8 : decode cX0_spread 8 = .ok (.istore 4, 2) := by decide +kernel
theorem dX0_spread_10 : decode cX0_spread 10 = .ok (.iload 4, 2) := by decide +kernel
theorem dX0_spread_12 : decode cX0_spread 12 = .ok (.bipush 6, 2) := by decide +kernel
theorem dX0_spread_14 : decode cX0_spread 14 = .ok (.if_icmp .ge 51, 3) := by decide +kernel
theorem dX0_spread_17 : decode cX0_spread 17 = .ok (.iload_n 1, 1) := by decide +kernel
theorem dX0_spread_18 : decode cX0_spread 18 = .ok (.iload 4, 2) := by decide +kernel
theorem dX0_spread_20 : decode cX0_spread 20 = .ok (.invokestatic 47, 3) := by decide +kernel
theorem dX0_spread_23 : decode cX0_spread 23 = .ok (.ifCond .eq 36, 3) := by decide +kernel
theorem dX0_spread_26 : decode cX0_spread 26 = .ok (.aload_n 0, 1) := by decide +kernel
theorem dX0_spread_27 : decode cX0_spread 27 = .ok (.dup, 1) := by decide +kernel
theorem dX0_spread_28 : decode cX0_spread 28 = .ok (.getfield 59, 3) := by decide +kernel
theorem dX0_spread_31 : decode cX0_spread 31 = .ok (.iconst 1, 1) := by decide +kernel
theorem dX0_spread_32 : decode cX0_spread 32 = .ok (.iload 4, 2) := by decide +kernel
theorem dX0_spread_34 : decode cX0_spread 34 = .ok (.ishl, 1) := by decide +kernel
theorem dX0_spread_35 : decode cX0_spread 35 = .ok (.ior, 1) := by decide +kernel
theorem dX0_spread_36 : decode cX0_spread 36 = .ok (.putfield 59, 3) := by decide +kernel
theorem dX0_spread_39 : decode cX0_spread 39 = .ok (.aload_n 0, 1) := by decide +kernel
theorem dX0_spread_40 : decode cX0_spread 40 = .ok (.getfield 16, 3) := by decide +kernel
theorem dX0_spread_43 : decode cX0_spread 43 = .ok (.iload 4, 2) := by decide +kernel
theorem dX0_spread_45 : decode cX0_spread 45 = .ok (.iconst (-1), 1) := by decide +kernel
theorem dX0_spread_46 : decode cX0_spread 46 = .ok (.bastore, 1) := by decide +kernel
theorem dX0_spread_47 : decode cX0_spread 47 = .ok (.aload_n 0, 1) := by decide +kernel
theorem dX0_spread_48 : decode cX0_spread 48 = .ok (.getfield 20, 3) := by decide +kernel
theorem dX0_spread_51 : decode cX0_spread 51 = .ok (.iload_n 3, 1) := by decide +kernel
theorem dX0_spread_52 : decode cX0_spread 52 = .ok (.iload 4, 2) := by decide +kernel
theorem dX0_spread_54 : decode cX0_spread 54 = .ok (.i2b, 1) := by decide +kernel
theorem dX0_spread_55 : decode cX0_spread 55 = .ok (.bastore, 1) := by decide +kernel
theorem dX0_spread_56 : decode cX0_spread 56 = .ok (.iinc 3 1, 3) := by decide +kernel
theorem dX0_spread_59 : decode cX0_spread 59 = .ok (.iinc 4 1, 3) := by decide +kernel
theorem dX0_spread_62 : decode cX0_spread 62 = .ok (.goto (-52), 3) := by decide +kernel
theorem dX0_spread_65 : decode cX0_spread 65 = .ok (.iconst 0, 1) := by decide +kernel
theorem dX0_spread_66 : decode cX0_spread 66 = .ok (.istore 4, 2) := by decide +kernel
theorem dX0_spread_68 : decode cX0_spread 68 = .ok (.iload 4, 2) := by decide +kernel
theorem dX0_spread_70 : decode cX0_spread 70 = .ok (.iload_n 3, 1) := by decide +kernel
theorem dX0_spread_71 : decode cX0_spread 71 = .ok (.if_icmp .ge 116, 3) := by decide +kernel
theorem dX0_spread_74 : decode cX0_spread 74 = .ok (.iload 4, 2) := by decide +kernel
theorem dX0_spread_76 : decode cX0_spread 76 = .ok (.bipush 6, 2) := by decide +kernel
theorem dX0_spread_78 : decode cX0_spread 78 = .ok (.if_icmp .ge 109, 3) := by decide +kernel
theorem dX0_spread_81 : decode cX0_spread 81 = .ok (.aload_n 0, 1) := by decide +kernel
theorem dX0_spread_82 : decode cX0_spread 82 = .ok (.getfield 20, 3) := by decide +kernel
theorem dX0_spread_85 : decode cX0_spread 85 = .ok (.iload 4, 2) := by decide +kernel
theorem dX0_spread_87 : decode cX0_spread 87 = .ok (.baload, 1) := by decide +kernel
theorem dX0_spread_88 : decode cX0_spread 88 = .ok (.istore 5, 2) := by decide +kernel
theorem dX0_spread_90 : decode cX0_spread 90 = .ok (.iconst 0, 1) := by decide +kernel
theorem dX0_spread_91 : decode cX0_spread 91 = .ok (.istore 6, 2) := by decide +kernel
theorem dX0_spread_93 : decode cX0_spread 93 = .ok (.iload 6, 2) := by decide +kernel
theorem dX0_spread_95 : decode cX0_spread 95 = .ok (.bipush 6, 2) := by decide +kernel
theorem dX0_spread_97 : decode cX0_spread 97 = .ok (.if_icmp .ge 84, 3) := by decide +kernel
theorem dX0_spread_100 : decode cX0_spread 100 = .ok (.aload_n 0, 1) := by decide +kernel
theorem dX0_spread_101 : decode cX0_spread 101 = .ok (.getfield 59, 3) := by decide +kernel
theorem dX0_spread_104 : decode cX0_spread 104 = .ok (.iload 6, 2) := by decide +kernel
theorem dX0_spread_106 : decode cX0_spread 106 = .ok (.invokestatic 47, 3) := by decide +kernel
theorem dX0_spread_109 : decode cX0_spread 109 = .ok (.ifCond .ne 66, 3) := by decide +kernel
theorem dX0_spread_112 : decode cX0_spread 112 = .ok (.aload_n 0, 1) := by decide +kernel
theorem dX0_spread_113 : decode cX0_spread 113 = .ok (.getfield 13, 3) := by decide +kernel
theorem dX0_spread_116 : decode cX0_spread 116 = .ok (.iload 5, 2) := by decide +kernel
theorem dX0_spread_118 : decode cX0_spread 118 = .ok (.bipush 6, 2) := by decide +kernel
theorem dX0_spread_120 : decode cX0_spread 120 = .ok (.imul, 1) := by decide +kernel
theorem dX0_spread_121 : decode cX0_spread 121 = .ok (.iload 6, 2) := by decide +kernel
theorem dX0_spread_123 : decode cX0_spread 123 = .ok (.iadd, 1) := by decide +kernel
theorem dX0_spread_124 : decode cX0_spread 124 = .ok (.iaload, 1) := by decide +kernel
theorem dX0_spread_125 : decode cX0_spread 125 = .ok (.ifCond .le 50, 3) := by decide +kernel
theorem dX0_spread_128 : decode cX0_spread 128 = .ok (.aload_n 0, 1) := by decide +kernel
theorem dX0_spread_129 : decode cX0_spread 129 = .ok (.dup, 1) := by decide +kernel
theorem dX0_spread_130 : decode cX0_spread 130 = .ok (.getfield 59, 3) := by decide +kernel
theorem dX0_spread_133 : decode cX0_spread 133 = .ok (.iconst 1, 1) := by decide +kernel
theorem dX0_spread_134 : decode cX0_spread 134 = .ok (.iload 6, 2) := by decide +kernel
theorem dX0_spread_136 : decode cX0_spread 136 = .ok (.ishl, 1) := by decide +kernel
end
section
set_option maxRecDepth 100000
theorem dX0_spread_137 : decode cX0_spread 137 = .ok (.ior, 1) := by decide +kernel
theorem dX0_spread_138 : decode cX0_spread 138 = .ok (.putfield 59, 3) := by decide +kernel
theorem dX0_spread_141 : decode cX0_spread 141 = .ok (.aload_n 0, 1) := by decide +kernel
theorem dX0_spread_142 : decode cX0_spread 142 = .ok (.getfield 16, 3) := by decide +kernel
theorem dX0_spread_145 : decode cX0_spread 145 = .ok (.iload 6, 2) := by decide +kernel
theorem dX0_spread_147 : decode cX0_spread 147 = .ok (.iload 5, 2) := by decide +kernel
theorem dX0_spread_149 : decode cX0_spread 149 = .ok (.i2b, 1) := by decide +kernel
theorem dX0_spread_150 : decode cX0_spread 150 = .ok (.bastore, 1) := by decide +kernel
theorem dX0_spread_151 : decode cX0_spread 151 = .ok (.aload_n 0, 1) := by decide +kernel
theorem dX0_spread_152 : decode cX0_spread 152 = .ok (.getfield 20, 3) := by decide +kernel
theorem dX0_spread_155 : decode cX0_spread 155 = .ok (.iload_n 3, 1) := by decide +kernel
theorem dX0_spread_156 : decode cX0_spread 156 = .ok (.iload 6, 2) := by decide +kernel
theorem dX0_spread_158 : decode cX0_spread 158 = .ok (.i2b, 1) := by decide +kernel
theorem dX0_spread_159 : decode cX0_spread 159 = .ok (.bastore, 1) := by decide +kernel
theorem dX0_spread_160 : decode cX0_spread 160 = .ok (.iinc 3 1, 3) := by decide +kernel
theorem dX0_spread_163 : decode cX0_spread 163 = .ok (.iload_n 2, 1) := by decide +kernel
theorem dX0_spread_164 : decode cX0_spread 164 = .ok (.iload 6, 2) := by decide +kernel
theorem dX0_spread_166 : decode cX0_spread 166 = .ok (.invokestatic 47, 3) := by decide +kernel
theorem dX0_spread_169 : decode cX0_spread 169 = .ok (.ifCond .eq 6, 3) := by decide +kernel
theorem dX0_spread_172 : decode cX0_spread 172 = .ok (.iload 6, 2) := by decide +kernel
theorem dX0_spread_174 : decode cX0_spread 174 = .ok (.ireturn, 1) := by decide +kernel
theorem dX0_spread_175 : decode cX0_spread 175 = .ok (.iinc 6 1, 3) := by decide +kernel
theorem dX0_spread_178 : decode cX0_spread 178 = .ok (.goto (-85), 3) := by decide +kernel
theorem dX0_spread_181 : decode cX0_spread 181 = .ok (.iinc 4 1, 3) := by decide +kernel
theorem dX0_spread_184 : decode cX0_spread 184 = .ok (.goto (-116), 3) := by decide +kernel
theorem dX0_spread_187 : decode cX0_spread 187 = .ok (.iconst (-1), 1) := by decide +kernel
theorem dX0_spread_188 : decode cX0_spread 188 = .ok (.ireturn, 1) := by decide +kernel
theorem dX0_push_0 : decode cX0_push 0 = .ok (.ldc 50, 2) := by decide +kernel
theorem dX0_push_2 : decode cX0_push 2 = .ok (.istore_n 2, 1) := by decide +kernel
theorem dX0_push_3 : decode cX0_push 3 = .ok (.iload_n 1, 1) := by decide +kernel
theorem dX0_push_4 : decode cX0_push 4 = .ok (.istore_n 3, 1) := by decide +kernel
theorem dX0_push_5 : decode cX0_push 5 = .ok (.aload_n 0, 1) := by decide +kernel
theorem dX0_push_6 : decode cX0_push 6 = .ok (.getfield 16, 3) := by decide +kernel
theorem dX0_push_9 : decode cX0_push 9 = .ok (.iload_n 3, 1) := by decide +kernel
theorem dX0_push_10 : decode cX0_push 10 = .ok (.baload, 1) := by decide +kernel
theorem dX0_push_11 : decode cX0_push 11 = .ok (.ifCond .lt 44, 3) := by decide +kernel
theorem dX0_push_14 : decode cX0_push 14 = .ok (.aload_n 0, 1) := by decide +kernel
theorem dX0_push_15 : decode cX0_push 15 = .ok (.getfield 13, 3) := by decide +kernel
theorem dX0_push_18 : decode cX0_push 18 = .ok (.aload_n 0, 1) := by decide +kernel
theorem dX0_push_19 : decode cX0_push 19 = .ok (.getfield 16, 3) := by decide +kernel
theorem dX0_push_22 : decode cX0_push 22 = .ok (.iload_n 3, 1) := by decide +kernel
theorem dX0_push_23 : decode cX0_push 23 = .ok (.baload, 1) := by decide +kernel
theorem dX0_push_24 : decode cX0_push 24 = .ok (.bipush 6, 2) := by decide +kernel
theorem dX0_push_26 : decode cX0_push 26 = .ok (.imul, 1) := by decide +kernel
theorem dX0_push_27 : decode cX0_push 27 = .ok (.iload_n 3, 1) := by decide +kernel
theorem dX0_push_28 : decode cX0_push 28 = .ok (.iadd, 1) := by decide +kernel
theorem dX0_push_29 : decode cX0_push 29 = .ok (.iaload, 1) := by decide +kernel
theorem dX0_push_30 : decode cX0_push 30 = .ok (.istore 4, 2) := by decide +kernel
theorem dX0_push_32 : decode cX0_push 32 = .ok (.iload 4, 2) := by decide +kernel
theorem dX0_push_34 : decode cX0_push 34 = .ok (.iload_n 2, 1) := by decide +kernel
theorem dX0_push_35 : decode cX0_push 35 = .ok (.if_icmp .ge 8, 3) := by decide +kernel
theorem dX0_push_38 : decode cX0_push 38 = .ok (.iload 4, 2) := by decide +kernel
theorem dX0_push_40 : decode cX0_push 40 = .ok (.goto 4, 3) := by decide +kernel
theorem dX0_push_43 : decode cX0_push 43 = .ok (.iload_n 2, 1) := by decide +kernel
theorem dX0_push_44 : decode cX0_push 44 = .ok (.istore_n 2, 1) := by decide +kernel
theorem dX0_push_45 : decode cX0_push 45 = .ok (.aload_n 0, 1) := by decide +kernel
theorem dX0_push_46 : decode cX0_push 46 = .ok (.getfield 16, 3) := by decide +kernel
theorem dX0_push_49 : decode cX0_push 49 = .ok (.iload_n 3, 1) := by decide +kernel
theorem dX0_push_50 : decode cX0_push 50 = .ok (.baload, 1) := by decide +kernel
theorem dX0_push_51 : decode cX0_push 51 = .ok (.istore_n 3, 1) := by decide +kernel
theorem dX0_push_52 : decode cX0_push 52 = .ok (.goto (-47), 3) := by decide +kernel
theorem dX0_push_55 : decode cX0_push 55 = .ok (.iload_n 1, 1) := by decide +kernel
theorem dX0_push_56 : decode cX0_push 56 = .ok (.istore_n 3, 1) := by decide +kernel
theorem dX0_push_57 : decode cX0_push 57 = .ok (.aload_n 0, 1) := by decide +kernel
theorem dX0_push_58 : decode cX0_push 58 = .ok (.getfield 16, 3) := by decide +kernel
theorem dX0_push_61 : decode cX0_push 61 = .ok (.iload_n 3, 1) := by decide +kernel
theorem dX0_push_62 : decode cX0_push 62 = .ok (.baload, 1) := by decide +kernel
theorem dX0_push_63 : decode cX0_push 63 = .ok (.ifCond .lt 53, 3) := by decide +kernel
theorem dX0_push_66 : decode cX0_push 66 = .ok (.aload_n 0, 1) := by decide +kernel
theorem dX0_push_67 : decode cX0_push 67 = .ok (.getfield 16, 3) := by decide +kernel
theorem dX0_push_70 : decode cX0_push 70 = .ok (.iload_n 3, 1) := by decide +kernel
theorem dX0_push_71 : decode cX0_push 71 = .ok (.baload, 1) := by decide +kernel
theorem dX0_push_72 : decode cX0_push 72 = .ok (.istore 4, 2) := by decide +kernel
theorem dX0_push_74 : decode cX0_push 74 = .ok (.aload_n 0, 1) := by decide +kernel
theorem dX0_push_75 : decode cX0_push 75 = .ok (.getfield 13, 3) := by decide +kernel
theorem dX0_push_78 : decode cX0_push 78 = .ok (.iload 4, 2) := by decide +kernel
theorem dX0_push_80 : decode cX0_push 80 = .ok (.bipush 6, 2) := by decide +kernel
theorem dX0_push_82 : decode cX0_push 82 = .ok (.imul, 1) := by decide +kernel
theorem dX0_push_83 : decode cX0_push 83 = .ok (.iload_n 3, 1) := by decide +kernel
theorem dX0_push_84 : decode cX0_push 84 = .ok (.iadd, 1) := by decide +kernel
theorem dX0_push_85 : decode cX0_push 85 = .ok (.dup2, 1) := by decide +kernel
theorem dX0_push_86 : decode cX0_push 86 = .ok (.iaload, 1) := by decide +kernel
theorem dX0_push_87 : decode cX0_push 87 = .ok (.iload_n 2, 1) := by decide +kernel
theorem dX0_push_88 : decode cX0_push 88 = .ok (.isub, 1) := by decide +kernel
theorem dX0_push_89 : decode cX0_push 89 = .ok (.iastore, 1) := by decide +kernel
theorem dX0_push_90 : decode cX0_push 90 = .ok (.aload_n 0, 1) := by decide +kernel
theorem dX0_push_91 : decode cX0_push 91 = .ok (.getfield 13, 3) := by decide +kernel
theorem dX0_push_94 : decode cX0_push 94 = .ok (.iload_n 3, 1) := by decide +kernel
theorem dX0_push_95 : decode cX0_push 95 = .ok (.bipush 6, 2) := by decide +kernel
theorem dX0_push_97 : decode cX0_push 97 = .ok (.imul, 1) := by decide +kernel
theorem dX0_push_98 : decode cX0_push 98 = .ok (.iload 4, 2) := by decide +kernel
theorem dX0_push_100 : decode cX0_push 100 = .ok (.iadd, 1) := by decide +kernel
theorem dX0_push_101 : decode cX0_push 101 = .ok (.dup2, 1) := by decide +kernel
theorem dX0_push_102 : decode cX0_push 102 = .ok (.iaload, 1) := by decide +kernel
theorem dX0_push_103 : decode cX0_push 103 = .ok (.iload_n 2, 1) := by decide +kernel
theorem dX0_push_104 : decode cX0_push 104 = .ok (.iadd, 1) := by decide +kernel
theorem dX0_push_105 : decode cX0_push 105 = .ok (.iastore, 1) := by decide +kernel
theorem dX0_push_106 : decode cX0_push 106 = .ok (.aload_n 0, 1) := by decide +kernel
theorem dX0_push_107 : decode cX0_push 107 = .ok (.getfield 16, 3) := by decide +kernel
theorem dX0_push_110 : decode cX0_push 110 = .ok (.iload_n 3, 1) := by decide +kernel
theorem dX0_push_111 : decode cX0_push 111 = .ok (.baload, 1) := by decide +kernel
theorem dX0_push_112 : decode cX0_push 112 = .ok (.istore_n 3, 1) := by decide +kernel
theorem dX0_push_113 : decode cX0_push 113 = .ok (.goto (-56), 3) := by decide +kernel
theorem dX0_push_116 : decode cX0_push 116 = .ok (.iload_n 2, 1) := by decide +kernel
theorem dX0_push_117 : decode cX0_push 117 = .ok (.ireturn, 1) := by decide +kernel
theorem dX0_between_0 : decode cX0_between 0 = .ok (.iload_n 1, 1) := by decide +kernel
theorem dX0_between_1 : decode cX0_between 1 = .ok (.iload_n 2, 1) := by decide +kernel
theorem dX0_between_2 : decode cX0_between 2 = .ok (.invokestatic 39, 3) := by decide +kernel
theorem dX0_between_5 : decode cX0_between 5 = .ok (.ifCond .eq 16, 3) := by decide +kernel
theorem dX0_between_8 : decode cX0_between 8 = .ok (.aload_n 0, 1) := by decide +kernel
theorem dX0_between_9 : decode cX0_between 9 = .ok (.iconst 1, 1) := by decide +kernel
theorem dX0_between_10 : decode cX0_between 10 = .ok (.iload_n 1, 1) := by decide +kernel
theorem dX0_between_11 : decode cX0_between 11 = .ok (.ishl, 1) := by decide +kernel
theorem dX0_between_12 : decode cX0_between 12 = .ok (.iconst 1, 1) := by decide +kernel
theorem dX0_between_13 : decode cX0_between 13 = .ok (.iload_n 2, 1) := by decide +kernel
theorem dX0_between_14 : decode cX0_between 14 = .ok (.ishl, 1) := by decide +kernel
theorem dX0_between_15 : decode cX0_between 15 = .ok (.invokevirtual 74, 3) := by decide +kernel
theorem dX0_between_18 : decode cX0_between 18 = .ok (.goto 4, 3) := by decide +kernel
theorem dX0_between_21 : decode cX0_between 21 = .ok (.iconst (-1), 1) := by decide +kernel
theorem dX0_between_22 : decode cX0_between 22 = .ok (.ireturn, 1) := by decide +kernel
theorem dX0_core_0 : decode cX0_core 0 = .ok (.iload_n 1, 1) := by decide +kernel
theorem dX0_core_1 : decode cX0_core 1 = .ok (.iload_n 2, 1) := by decide +kernel
theorem dX0_core_2 : decode cX0_core 2 = .ok (.invokestatic 39, 3) := by decide +kernel
theorem dX0_core_5 : decode cX0_core 5 = .ok (.ifCond .ne 5, 3) := by decide +kernel
theorem dX0_core_8 : decode cX0_core 8 = .ok (.iconst 0, 1) := by decide +kernel
theorem dX0_core_9 : decode cX0_core 9 = .ok (.ireturn, 1) := by decide +kernel
theorem dX0_core_10 : decode cX0_core 10 = .ok (.aload_n 0, 1) := by decide +kernel
theorem dX0_core_11 : decode cX0_core 11 = .ok (.iconst 1, 1) := by decide +kernel
theorem dX0_core_12 : decode cX0_core 12 = .ok (.iload_n 1, 1) := by decide +kernel
theorem dX0_core_13 : decode cX0_core 13 = .ok (.ishl, 1) := by decide +kernel
theorem dX0_core_14 : decode cX0_core 14 = .ok (.iconst 1, 1) := by decide +kernel
theorem dX0_core_15 : decode cX0_core 15 = .ok (.iload_n 2, 1) := by decide +kernel
theorem dX0_core_16 : decode cX0_core 16 = .ok (.ishl, 1) := by decide +kernel
theorem dX0_core_17 : decode cX0_core 17 = .ok (.invokevirtual 74, 3) := by decide +kernel
theorem dX0_core_20 : decode cX0_core 20 = .ok (.pop, 1) := by decide +kernel
theorem dX0_core_21 : decode cX0_core 21 = .ok (.aload_n 0, 1) := by decide +kernel
theorem dX0_core_22 : decode cX0_core 22 = .ok (.getfield 59, 3) := by decide +kernel
theorem dX0_core_25 : decode cX0_core 25 = .ok (.ireturn, 1) := by decide +kernel
theorem dX0_reach_0 : decode cX0_reach 0 = .ok (.iload_n 1, 1) := by decide +kernel
theorem dX0_reach_1 : decode cX0_reach 1 = .ok (.iload_n 2, 1) := by decide +kernel
theorem dX0_reach_2 : decode cX0_reach 2 = .ok (.invokestatic 39, 3) := by decide +kernel
theorem dX0_reach_5 : decode cX0_reach 5 = .ok (.ifCond .eq 17, 3) := by decide +kernel
theorem dX0_reach_8 : decode cX0_reach 8 = .ok (.bipush 63, 2) := by decide +kernel
theorem dX0_reach_10 : decode cX0_reach 10 = .ok (.aload_n 0, 1) := by decide +kernel
theorem dX0_reach_11 : decode cX0_reach 11 = .ok (.iload_n 2, 1) := by decide +kernel
theorem dX0_reach_12 : decode cX0_reach 12 = .ok (.iload_n 1, 1) := by decide +kernel
theorem dX0_reach_13 : decode cX0_reach 13 = .ok (.invokevirtual 77, 3) := by decide +kernel
theorem dX0_reach_16 : decode cX0_reach 16 = .ok (.iconst (-1), 1) := by decide +kernel
theorem dX0_reach_17 : decode cX0_reach 17 = .ok (.ixor, 1) := by decide +kernel
theorem dX0_reach_18 : decode cX0_reach 18 = .ok (.iand, 1) := by decide +kernel
theorem dX0_reach_19 : decode cX0_reach 19 = .ok (.goto 4, 3) := by decide +kernel
theorem dX0_reach_22 : decode cX0_reach 22 = .ok (.iconst 0, 1) := by decide +kernel
theorem dX0_reach_23 : decode cX0_reach 23 = .ok (.ireturn, 1) := by decide +kernel
theorem dX0_forced_0 : decode cX0_forced 0 = .ok (.iload_n 1, 1) := by decide +kernel
theorem dX0_forced_1 : decode cX0_forced 1 = .ok (.ifCond .lt 37, 3) := by decide +kernel
theorem dX0_forced_4 : decode cX0_forced 4 = .ok (.iload_n 1, 1) := by decide +kernel
theorem dX0_forced_5 : decode cX0_forced 5 = .ok (.bipush 63, 2) := by decide +kernel
theorem dX0_forced_7 : decode cX0_forced 7 = .ok (.if_icmp .gt 31, 3) := by decide +kernel
theorem dX0_forced_10 : decode cX0_forced 10 = .ok (.iload_n 2, 1) := by decide +kernel
theorem dX0_forced_11 : decode cX0_forced 11 = .ok (.ifCond .lt 27, 3) := by decide +kernel
theorem dX0_forced_14 : decode cX0_forced 14 = .ok (.iload_n 2, 1) := by decide +kernel
theorem dX0_forced_15 : decode cX0_forced 15 = .ok (.bipush 63, 2) := by decide +kernel
theorem dX0_forced_17 : decode cX0_forced 17 = .ok (.if_icmp .gt 21, 3) := by decide +kernel
theorem dX0_forced_20 : decode cX0_forced 20 = .ok (.iload_n 1, 1) := by decide +kernel
theorem dX0_forced_21 : decode cX0_forced 21 = .ok (.iload_n 2, 1) := by decide +kernel
theorem dX0_forced_22 : decode cX0_forced 22 = .ok (.iand, 1) := by decide +kernel
theorem dX0_forced_23 : decode cX0_forced 23 = .ok (.ifCond .ne 15, 3) := by decide +kernel
theorem dX0_forced_26 : decode cX0_forced 26 = .ok (.iload_n 1, 1) := by decide +kernel
theorem dX0_forced_27 : decode cX0_forced 27 = .ok (.bipush 63, 2) := by decide +kernel
theorem dX0_forced_29 : decode cX0_forced 29 = .ok (.if_icmp .eq 9, 3) := by decide +kernel
theorem dX0_forced_32 : decode cX0_forced 32 = .ok (.iload_n 2, 1) := by decide +kernel
theorem dX0_forced_33 : decode cX0_forced 33 = .ok (.bipush 63, 2) := by decide +kernel
theorem dX0_forced_35 : decode cX0_forced 35 = .ok (.if_icmp .ne 5, 3) := by decide +kernel
theorem dX0_forced_38 : decode cX0_forced 38 = .ok (.iconst (-1), 1) := by decide +kernel
theorem dX0_forced_39 : decode cX0_forced 39 = .ok (.ireturn, 1) := by decide +kernel
theorem dX0_forced_40 : decode cX0_forced 40 = .ok (.iload_n 1, 1) := by decide +kernel
theorem dX0_forced_41 : decode cX0_forced 41 = .ok (.ifCond .eq 14, 3) := by decide +kernel
theorem dX0_forced_44 : decode cX0_forced 44 = .ok (.iload_n 2, 1) := by decide +kernel
theorem dX0_forced_45 : decode cX0_forced 45 = .ok (.ifCond .eq 10, 3) := by decide +kernel
theorem dX0_forced_48 : decode cX0_forced 48 = .ok (.aload_n 0, 1) := by decide +kernel
theorem dX0_forced_49 : decode cX0_forced 49 = .ok (.iload_n 1, 1) := by decide +kernel
theorem dX0_forced_50 : decode cX0_forced 50 = .ok (.iload_n 2, 1) := by decide +kernel
theorem dX0_forced_51 : decode cX0_forced 51 = .ok (.invokevirtual 74, 3) := by decide +kernel
theorem dX0_forced_54 : decode cX0_forced 54 = .ok (.ireturn, 1) := by decide +kernel
theorem dX0_forced_55 : decode cX0_forced 55 = .ok (.iload_n 1, 1) := by decide +kernel
theorem dX0_forced_56 : decode cX0_forced 56 = .ok (.ifCond .ne 14, 3) := by decide +kernel
theorem dX0_forced_59 : decode cX0_forced 59 = .ok (.iload_n 2, 1) := by decide +kernel
theorem dX0_forced_60 : decode cX0_forced 60 = .ok (.ifCond .ne 10, 3) := by decide +kernel
theorem dX0_forced_63 : decode cX0_forced 63 = .ok (.aload_n 0, 1) := by decide +kernel
theorem dX0_forced_64 : decode cX0_forced 64 = .ok (.invokevirtual 70, 3) := by decide +kernel
theorem dX0_forced_67 : decode cX0_forced 67 = .ok (.goto 10, 3) := by decide +kernel
theorem dX0_forced_70 : decode cX0_forced 70 = .ok (.aload_n 0, 1) := by decide +kernel
theorem dX0_forced_71 : decode cX0_forced 71 = .ok (.iload_n 1, 1) := by decide +kernel
theorem dX0_forced_72 : decode cX0_forced 72 = .ok (.iload_n 2, 1) := by decide +kernel
theorem dX0_forced_73 : decode cX0_forced 73 = .ok (.ior, 1) := by decide +kernel
theorem dX0_forced_74 : decode cX0_forced 74 = .ok (.invokevirtual 80, 3) := by decide +kernel
theorem dX0_forced_77 : decode cX0_forced 77 = .ok (.ireturn, 1) := by decide +kernel
theorem dX0_leastAgainst_0 : decode cX0_leastAgainst 0 = .ok (.ldc 50, 2) := by decide +kernel
theorem dX0_leastAgainst_2 : decode cX0_leastAgainst 2 = .ok (.istore_n 2, 1) := by decide +kernel
theorem dX0_leastAgainst_3 : decode cX0_leastAgainst 3 = .ok (.iconst 0, 1) := by decide +kernel
theorem dX0_leastAgainst_4 : decode cX0_leastAgainst 4 = .ok (.istore_n 3, 1) := by decide +kernel
theorem dX0_leastAgainst_5 : decode cX0_leastAgainst 5 = .ok (.iload_n 3, 1) := by decide +kernel
theorem dX0_leastAgainst_6 : decode cX0_leastAgainst 6 = .ok (.bipush 6, 2) := by decide +kernel
theorem dX0_leastAgainst_8 : decode cX0_leastAgainst 8 = .ok (.if_icmp .ge 45, 3) := by decide +kernel
theorem dX0_leastAgainst_11 : decode cX0_leastAgainst 11 = .ok (.iload_n 1, 1) := by decide +kernel
theorem dX0_leastAgainst_12 : decode cX0_leastAgainst 12 = .ok (.iload_n 3, 1) := by decide +kernel
theorem dX0_leastAgainst_13 : decode cX0_leastAgainst 13 = .ok (.invokestatic 47, 3) := by decide +kernel
theorem dX0_leastAgainst_16 : decode cX0_leastAgainst 16 = .ok (.ifCond .eq 8, 3) := by decide +kernel
theorem dX0_leastAgainst_19 : decode cX0_leastAgainst 19 = .ok (.ldc 50, 2) := by decide +kernel
theorem dX0_leastAgainst_21 : decode cX0_leastAgainst 21 = .ok (.goto 11, 3) := by decide +kernel
theorem dX0_leastAgainst_24 : decode cX0_leastAgainst 24 = .ok (.aload_n 0, 1) := by decide +kernel
theorem dX0_leastAgainst_25 : decode cX0_leastAgainst 25 = .ok (.iload_n 1, 1) := by decide +kernel
theorem dX0_leastAgainst_26 : decode cX0_leastAgainst 26 = .ok (.iconst 1, 1) := by decide +kernel
theorem dX0_leastAgainst_27 : decode cX0_leastAgainst 27 = .ok (.iload_n 3, 1) := by decide +kernel
theorem dX0_leastAgainst_28 : decode cX0_leastAgainst 28 = .ok (.ishl, 1) := by decide +kernel
theorem dX0_leastAgainst_29 : decode cX0_leastAgainst 29 = .ok (.invokevirtual 74, 3) := by decide +kernel
theorem dX0_leastAgainst_32 : decode cX0_leastAgainst 32 = .ok (.istore 4, 2) := by decide +kernel
theorem dX0_leastAgainst_34 : decode cX0_leastAgainst 34 = .ok (.iload 4, 2) := by decide +kernel
theorem dX0_leastAgainst_36 : decode cX0_leastAgainst 36 = .ok (.iload_n 2, 1) := by decide +kernel
theorem dX0_leastAgainst_37 : decode cX0_leastAgainst 37 = .ok (.if_icmp .ge 8, 3) := by decide +kernel
theorem dX0_leastAgainst_40 : decode cX0_leastAgainst 40 = .ok (.iload 4, 2) := by decide +kernel
theorem dX0_leastAgainst_42 : decode cX0_leastAgainst 42 = .ok (.goto 4, 3) := by decide +kernel
theorem dX0_leastAgainst_45 : decode cX0_leastAgainst 45 = .ok (.iload_n 2, 1) := by decide +kernel
theorem dX0_leastAgainst_46 : decode cX0_leastAgainst 46 = .ok (.istore_n 2, 1) := by decide +kernel
theorem dX0_leastAgainst_47 : decode cX0_leastAgainst 47 = .ok (.iinc 3 1, 3) := by decide +kernel
theorem dX0_leastAgainst_50 : decode cX0_leastAgainst 50 = .ok (.goto (-45), 3) := by decide +kernel
theorem dX0_leastAgainst_53 : decode cX0_leastAgainst 53 = .ok (.iload_n 2, 1) := by decide +kernel
theorem dX0_leastAgainst_54 : decode cX0_leastAgainst 54 = .ok (.ireturn, 1) := by decide +kernel
theorem dX0_pairsAtLeast_0 : decode cX0_pairsAtLeast 0 = .ok (.aload_n 0, 1) := by decide +kernel
theorem dX0_pairsAtLeast_1 : decode cX0_pairsAtLeast 1 = .ok (.invokevirtual 83, 3) := by decide +kernel
theorem dX0_pairsAtLeast_4 : decode cX0_pairsAtLeast 4 = .ok (.iconst 0, 1) := by decide +kernel
theorem dX0_pairsAtLeast_5 : decode cX0_pairsAtLeast 5 = .ok (.istore_n 2, 1) := by decide +kernel
theorem dX0_pairsAtLeast_6 : decode cX0_pairsAtLeast 6 = .ok (.iconst 0, 1) := by decide +kernel
theorem dX0_pairsAtLeast_7 : decode cX0_pairsAtLeast 7 = .ok (.istore_n 3, 1) := by decide +kernel
theorem dX0_pairsAtLeast_8 : decode cX0_pairsAtLeast 8 = .ok (.iload_n 3, 1) := by decide +kernel
theorem dX0_pairsAtLeast_9 : decode cX0_pairsAtLeast 9 = .ok (.bipush 6, 2) := by decide +kernel
theorem dX0_pairsAtLeast_11 : decode cX0_pairsAtLeast 11 = .ok (.if_icmp .ge 50, 3) := by decide +kernel
theorem dX0_pairsAtLeast_14 : decode cX0_pairsAtLeast 14 = .ok (.iload_n 3, 1) := by decide +kernel
theorem dX0_pairsAtLeast_15 : decode cX0_pairsAtLeast 15 = .ok (.iconst 1, 1) := by decide +kernel
theorem dX0_pairsAtLeast_16 : decode cX0_pairsAtLeast 16 = .ok (.iadd, 1) := by decide +kernel
theorem dX0_pairsAtLeast_17 : decode cX0_pairsAtLeast 17 = .ok (.istore 4, 2) := by decide +kernel
theorem dX0_pairsAtLeast_19 : decode cX0_pairsAtLeast 19 = .ok (.iload 4, 2) := by decide +kernel
theorem dX0_pairsAtLeast_21 : decode cX0_pairsAtLeast 21 = .ok (.bipush 6, 2) := by decide +kernel
theorem dX0_pairsAtLeast_23 : decode cX0_pairsAtLeast 23 = .ok (.if_icmp .ge 32, 3) := by decide +kernel
theorem dX0_pairsAtLeast_26 : decode cX0_pairsAtLeast 26 = .ok (.aload_n 0, 1) := by decide +kernel
theorem dX0_pairsAtLeast_27 : decode cX0_pairsAtLeast 27 = .ok (.iload_n 3, 1) := by decide +kernel
theorem dX0_pairsAtLeast_28 : decode cX0_pairsAtLeast 28 = .ok (.iload 4, 2) := by decide +kernel
theorem dX0_pairsAtLeast_30 : decode cX0_pairsAtLeast 30 = .ok (.invokevirtual 86, 3) := by decide +kernel
theorem dX0_pairsAtLeast_33 : decode cX0_pairsAtLeast 33 = .ok (.istore 5, 2) := by decide +kernel
theorem dX0_pairsAtLeast_35 : decode cX0_pairsAtLeast 35 = .ok (.iload_n 2, 1) := by decide +kernel
theorem dX0_pairsAtLeast_36 : decode cX0_pairsAtLeast 36 = .ok (.iload 5, 2) := by decide +kernel
theorem dX0_pairsAtLeast_38 : decode cX0_pairsAtLeast 38 = .ok (.iload_n 1, 1) := by decide +kernel
theorem dX0_pairsAtLeast_39 : decode cX0_pairsAtLeast 39 = .ok (.if_icmp .lt 7, 3) := by decide +kernel
theorem dX0_pairsAtLeast_42 : decode cX0_pairsAtLeast 42 = .ok (.iconst 1, 1) := by decide +kernel
theorem dX0_pairsAtLeast_43 : decode cX0_pairsAtLeast 43 = .ok (.goto 4, 3) := by decide +kernel
theorem dX0_pairsAtLeast_46 : decode cX0_pairsAtLeast 46 = .ok (.iconst 0, 1) := by decide +kernel
theorem dX0_pairsAtLeast_47 : decode cX0_pairsAtLeast 47 = .ok (.iadd, 1) := by decide +kernel
end
section
set_option maxRecDepth 100000
theorem dX0_pairsAtLeast_48 : decode cX0_pairsAtLeast 48 = .ok (.istore_n 2, 1) := by decide +kernel
theorem dX0_pairsAtLeast_49 : decode cX0_pairsAtLeast 49 = .ok (.iinc 4 1, 3) := by decide +kernel
theorem dX0_pairsAtLeast_52 : decode cX0_pairsAtLeast 52 = .ok (.goto (-33), 3) := by decide +kernel
theorem dX0_pairsAtLeast_55 : decode cX0_pairsAtLeast 55 = .ok (.iinc 3 1, 3) := by decide +kernel
theorem dX0_pairsAtLeast_58 : decode cX0_pairsAtLeast 58 = .ok (.goto (-50), 3) := by decide +kernel
theorem dX0_pairsAtLeast_61 : decode cX0_pairsAtLeast 61 = .ok (.iload_n 2, 1) := by decide +kernel
theorem dX0_pairsAtLeast_62 : decode cX0_pairsAtLeast 62 = .ok (.ireturn, 1) := by decide +kernel
theorem dX0_grow_0 : decode cX0_grow 0 = .ok (.iconst 0, 1) := by decide +kernel
theorem dX0_grow_1 : decode cX0_grow 1 = .ok (.istore_n 1, 1) := by decide +kernel
theorem dX0_grow_2 : decode cX0_grow 2 = .ok (.iload_n 1, 1) := by decide +kernel
theorem dX0_grow_3 : decode cX0_grow 3 = .ok (.bipush 6, 2) := by decide +kernel
theorem dX0_grow_5 : decode cX0_grow 5 = .ok (.if_icmp .ge 24, 3) := by decide +kernel
theorem dX0_grow_8 : decode cX0_grow 8 = .ok (.aload_n 0, 1) := by decide +kernel
theorem dX0_grow_9 : decode cX0_grow 9 = .ok (.getfield 29, 3) := by decide +kernel
theorem dX0_grow_12 : decode cX0_grow 12 = .ok (.iload_n 1, 1) := by decide +kernel
theorem dX0_grow_13 : decode cX0_grow 13 = .ok (.iconst 0, 1) := by decide +kernel
theorem dX0_grow_14 : decode cX0_grow 14 = .ok (.bastore, 1) := by decide +kernel
theorem dX0_grow_15 : decode cX0_grow 15 = .ok (.aload_n 0, 1) := by decide +kernel
theorem dX0_grow_16 : decode cX0_grow 16 = .ok (.getfield 32, 3) := by decide +kernel
theorem dX0_grow_19 : decode cX0_grow 19 = .ok (.iload_n 1, 1) := by decide +kernel
theorem dX0_grow_20 : decode cX0_grow 20 = .ok (.ldc 50, 2) := by decide +kernel
theorem dX0_grow_22 : decode cX0_grow 22 = .ok (.iastore, 1) := by decide +kernel
theorem dX0_grow_23 : decode cX0_grow 23 = .ok (.iinc 1 1, 3) := by decide +kernel
theorem dX0_grow_26 : decode cX0_grow 26 = .ok (.goto (-24), 3) := by decide +kernel
theorem dX0_grow_29 : decode cX0_grow 29 = .ok (.iconst 1, 1) := by decide +kernel
theorem dX0_grow_30 : decode cX0_grow 30 = .ok (.istore_n 1, 1) := by decide +kernel
theorem dX0_grow_31 : decode cX0_grow 31 = .ok (.iload_n 1, 1) := by decide +kernel
theorem dX0_grow_32 : decode cX0_grow 32 = .ok (.bipush 6, 2) := by decide +kernel
theorem dX0_grow_34 : decode cX0_grow 34 = .ok (.if_icmp .ge 77, 3) := by decide +kernel
theorem dX0_grow_37 : decode cX0_grow 37 = .ok (.aload_n 0, 1) := by decide +kernel
theorem dX0_grow_38 : decode cX0_grow 38 = .ok (.getfield 29, 3) := by decide +kernel
theorem dX0_grow_41 : decode cX0_grow 41 = .ok (.iload_n 1, 1) := by decide +kernel
theorem dX0_grow_42 : decode cX0_grow 42 = .ok (.baload, 1) := by decide +kernel
theorem dX0_grow_43 : decode cX0_grow 43 = .ok (.istore_n 2, 1) := by decide +kernel
theorem dX0_grow_44 : decode cX0_grow 44 = .ok (.aload_n 0, 1) := by decide +kernel
theorem dX0_grow_45 : decode cX0_grow 45 = .ok (.getfield 32, 3) := by decide +kernel
theorem dX0_grow_48 : decode cX0_grow 48 = .ok (.iload_n 1, 1) := by decide +kernel
theorem dX0_grow_49 : decode cX0_grow 49 = .ok (.aload_n 0, 1) := by decide +kernel
theorem dX0_grow_50 : decode cX0_grow 50 = .ok (.iconst 1, 1) := by decide +kernel
theorem dX0_grow_51 : decode cX0_grow 51 = .ok (.iload_n 1, 1) := by decide +kernel
theorem dX0_grow_52 : decode cX0_grow 52 = .ok (.ishl, 1) := by decide +kernel
theorem dX0_grow_53 : decode cX0_grow 53 = .ok (.iconst 1, 1) := by decide +kernel
theorem dX0_grow_54 : decode cX0_grow 54 = .ok (.iload_n 2, 1) := by decide +kernel
theorem dX0_grow_55 : decode cX0_grow 55 = .ok (.ishl, 1) := by decide +kernel
theorem dX0_grow_56 : decode cX0_grow 56 = .ok (.invokevirtual 74, 3) := by decide +kernel
theorem dX0_grow_59 : decode cX0_grow 59 = .ok (.iastore, 1) := by decide +kernel
theorem dX0_grow_60 : decode cX0_grow 60 = .ok (.iload_n 1, 1) := by decide +kernel
theorem dX0_grow_61 : decode cX0_grow 61 = .ok (.iconst 1, 1) := by decide +kernel
theorem dX0_grow_62 : decode cX0_grow 62 = .ok (.iadd, 1) := by decide +kernel
theorem dX0_grow_63 : decode cX0_grow 63 = .ok (.istore_n 3, 1) := by decide +kernel
theorem dX0_grow_64 : decode cX0_grow 64 = .ok (.iload_n 3, 1) := by decide +kernel
theorem dX0_grow_65 : decode cX0_grow 65 = .ok (.bipush 6, 2) := by decide +kernel
theorem dX0_grow_67 : decode cX0_grow 67 = .ok (.if_icmp .ge 38, 3) := by decide +kernel
theorem dX0_grow_70 : decode cX0_grow 70 = .ok (.aload_n 0, 1) := by decide +kernel
theorem dX0_grow_71 : decode cX0_grow 71 = .ok (.getfield 59, 3) := by decide +kernel
theorem dX0_grow_74 : decode cX0_grow 74 = .ok (.iload_n 3, 1) := by decide +kernel
theorem dX0_grow_75 : decode cX0_grow 75 = .ok (.invokestatic 47, 3) := by decide +kernel
theorem dX0_grow_78 : decode cX0_grow 78 = .ok (.ifCond .eq 21, 3) := by decide +kernel
theorem dX0_grow_81 : decode cX0_grow 81 = .ok (.aload_n 0, 1) := by decide +kernel
theorem dX0_grow_82 : decode cX0_grow 82 = .ok (.getfield 29, 3) := by decide +kernel
theorem dX0_grow_85 : decode cX0_grow 85 = .ok (.iload_n 3, 1) := by decide +kernel
theorem dX0_grow_86 : decode cX0_grow 86 = .ok (.baload, 1) := by decide +kernel
theorem dX0_grow_87 : decode cX0_grow 87 = .ok (.iload_n 2, 1) := by decide +kernel
theorem dX0_grow_88 : decode cX0_grow 88 = .ok (.if_icmp .ne 11, 3) := by decide +kernel
theorem dX0_grow_91 : decode cX0_grow 91 = .ok (.aload_n 0, 1) := by decide +kernel
theorem dX0_grow_92 : decode cX0_grow 92 = .ok (.getfield 29, 3) := by decide +kernel
theorem dX0_grow_95 : decode cX0_grow 95 = .ok (.iload_n 3, 1) := by decide +kernel
theorem dX0_grow_96 : decode cX0_grow 96 = .ok (.iload_n 1, 1) := by decide +kernel
theorem dX0_grow_97 : decode cX0_grow 97 = .ok (.i2b, 1) := by decide +kernel
theorem dX0_grow_98 : decode cX0_grow 98 = .ok (.bastore, 1) := by decide +kernel
theorem dX0_grow_99 : decode cX0_grow 99 = .ok (.iinc 3 1, 3) := by decide +kernel
theorem dX0_grow_102 : decode cX0_grow 102 = .ok (.goto (-38), 3) := by decide +kernel
theorem dX0_grow_105 : decode cX0_grow 105 = .ok (.iinc 1 1, 3) := by decide +kernel
theorem dX0_grow_108 : decode cX0_grow 108 = .ok (.goto (-77), 3) := by decide +kernel
theorem dX0_grow_111 : decode cX0_grow 111 = .ok (.return_, 1) := by decide +kernel
theorem dX0_onTree_0 : decode cX0_onTree 0 = .ok (.iload_n 1, 1) := by decide +kernel
theorem dX0_onTree_1 : decode cX0_onTree 1 = .ok (.istore_n 3, 1) := by decide +kernel
theorem dX0_onTree_2 : decode cX0_onTree 2 = .ok (.iload_n 2, 1) := by decide +kernel
theorem dX0_onTree_3 : decode cX0_onTree 3 = .ok (.istore 4, 2) := by decide +kernel
theorem dX0_onTree_5 : decode cX0_onTree 5 = .ok (.ldc 50, 2) := by decide +kernel
theorem dX0_onTree_7 : decode cX0_onTree 7 = .ok (.istore 5, 2) := by decide +kernel
theorem dX0_onTree_9 : decode cX0_onTree 9 = .ok (.iconst 0, 1) := by decide +kernel
theorem dX0_onTree_10 : decode cX0_onTree 10 = .ok (.istore 6, 2) := by decide +kernel
theorem dX0_onTree_12 : decode cX0_onTree 12 = .ok (.iload 6, 2) := by decide +kernel
theorem dX0_onTree_14 : decode cX0_onTree 14 = .ok (.bipush 12, 2) := by decide +kernel
theorem dX0_onTree_16 : decode cX0_onTree 16 = .ok (.if_icmp .ge 90, 3) := by decide +kernel
theorem dX0_onTree_19 : decode cX0_onTree 19 = .ok (.iload_n 3, 1) := by decide +kernel
theorem dX0_onTree_20 : decode cX0_onTree 20 = .ok (.iload 4, 2) := by decide +kernel
theorem dX0_onTree_22 : decode cX0_onTree 22 = .ok (.if_icmp .eq 84, 3) := by decide +kernel
theorem dX0_onTree_25 : decode cX0_onTree 25 = .ok (.iload_n 3, 1) := by decide +kernel
theorem dX0_onTree_26 : decode cX0_onTree 26 = .ok (.iload 4, 2) := by decide +kernel
theorem dX0_onTree_28 : decode cX0_onTree 28 = .ok (.if_icmp .le 37, 3) := by decide +kernel
theorem dX0_onTree_31 : decode cX0_onTree 31 = .ok (.aload_n 0, 1) := by decide +kernel
theorem dX0_onTree_32 : decode cX0_onTree 32 = .ok (.getfield 32, 3) := by decide +kernel
theorem dX0_onTree_35 : decode cX0_onTree 35 = .ok (.iload_n 3, 1) := by decide +kernel
theorem dX0_onTree_36 : decode cX0_onTree 36 = .ok (.iaload, 1) := by decide +kernel
theorem dX0_onTree_37 : decode cX0_onTree 37 = .ok (.iload 5, 2) := by decide +kernel
theorem dX0_onTree_39 : decode cX0_onTree 39 = .ok (.if_icmp .ge 12, 3) := by decide +kernel
theorem dX0_onTree_42 : decode cX0_onTree 42 = .ok (.aload_n 0, 1) := by decide +kernel
theorem dX0_onTree_43 : decode cX0_onTree 43 = .ok (.getfield 32, 3) := by decide +kernel
theorem dX0_onTree_46 : decode cX0_onTree 46 = .ok (.iload_n 3, 1) := by decide +kernel
theorem dX0_onTree_47 : decode cX0_onTree 47 = .ok (.iaload, 1) := by decide +kernel
theorem dX0_onTree_48 : decode cX0_onTree 48 = .ok (.goto 5, 3) := by decide +kernel
theorem dX0_onTree_51 : decode cX0_onTree 51 = .ok (.iload 5, 2) := by decide +kernel
theorem dX0_onTree_53 : decode cX0_onTree 53 = .ok (.istore 5, 2) := by decide +kernel
theorem dX0_onTree_55 : decode cX0_onTree 55 = .ok (.aload_n 0, 1) := by decide +kernel
theorem dX0_onTree_56 : decode cX0_onTree 56 = .ok (.getfield 29, 3) := by decide +kernel
theorem dX0_onTree_59 : decode cX0_onTree 59 = .ok (.iload_n 3, 1) := by decide +kernel
theorem dX0_onTree_60 : decode cX0_onTree 60 = .ok (.baload, 1) := by decide +kernel
theorem dX0_onTree_61 : decode cX0_onTree 61 = .ok (.istore_n 3, 1) := by decide +kernel
theorem dX0_onTree_62 : decode cX0_onTree 62 = .ok (.goto 38, 3) := by decide +kernel
theorem dX0_onTree_65 : decode cX0_onTree 65 = .ok (.aload_n 0, 1) := by decide +kernel
theorem dX0_onTree_66 : decode cX0_onTree 66 = .ok (.getfield 32, 3) := by decide +kernel
theorem dX0_onTree_69 : decode cX0_onTree 69 = .ok (.iload 4, 2) := by decide +kernel
theorem dX0_onTree_71 : decode cX0_onTree 71 = .ok (.iaload, 1) := by decide +kernel
theorem dX0_onTree_72 : decode cX0_onTree 72 = .ok (.iload 5, 2) := by decide +kernel
theorem dX0_onTree_74 : decode cX0_onTree 74 = .ok (.if_icmp .ge 13, 3) := by decide +kernel
theorem dX0_onTree_77 : decode cX0_onTree 77 = .ok (.aload_n 0, 1) := by decide +kernel
theorem dX0_onTree_78 : decode cX0_onTree 78 = .ok (.getfield 32, 3) := by decide +kernel
theorem dX0_onTree_81 : decode cX0_onTree 81 = .ok (.iload 4, 2) := by decide +kernel
theorem dX0_onTree_83 : decode cX0_onTree 83 = .ok (.iaload, 1) := by decide +kernel
theorem dX0_onTree_84 : decode cX0_onTree 84 = .ok (.goto 5, 3) := by decide +kernel
theorem dX0_onTree_87 : decode cX0_onTree 87 = .ok (.iload 5, 2) := by decide +kernel
theorem dX0_onTree_89 : decode cX0_onTree 89 = .ok (.istore 5, 2) := by decide +kernel
theorem dX0_onTree_91 : decode cX0_onTree 91 = .ok (.aload_n 0, 1) := by decide +kernel
theorem dX0_onTree_92 : decode cX0_onTree 92 = .ok (.getfield 29, 3) := by decide +kernel
theorem dX0_onTree_95 : decode cX0_onTree 95 = .ok (.iload 4, 2) := by decide +kernel
theorem dX0_onTree_97 : decode cX0_onTree 97 = .ok (.baload, 1) := by decide +kernel
theorem dX0_onTree_98 : decode cX0_onTree 98 = .ok (.istore 4, 2) := by decide +kernel
theorem dX0_onTree_100 : decode cX0_onTree 100 = .ok (.iinc 6 1, 3) := by decide +kernel
theorem dX0_onTree_103 : decode cX0_onTree 103 = .ok (.goto (-91), 3) := by decide +kernel
theorem dX0_onTree_106 : decode cX0_onTree 106 = .ok (.iload 5, 2) := by decide +kernel
theorem dX0_onTree_108 : decode cX0_onTree 108 = .ok (.ireturn, 1) := by decide +kernel
theorem dX0_group_0 : decode cX0_group 0 = .ok (.iload_n 1, 1) := by decide +kernel
theorem dX0_group_1 : decode cX0_group 1 = .ok (.invokestatic 35, 3) := by decide +kernel
theorem dX0_group_4 : decode cX0_group 4 = .ok (.ifCond .ne 5, 3) := by decide +kernel
theorem dX0_group_7 : decode cX0_group 7 = .ok (.iconst 0, 1) := by decide +kernel
theorem dX0_group_8 : decode cX0_group 8 = .ok (.ireturn, 1) := by decide +kernel
theorem dX0_group_9 : decode cX0_group 9 = .ok (.aload_n 0, 1) := by decide +kernel
theorem dX0_group_10 : decode cX0_group 10 = .ok (.invokevirtual 83, 3) := by decide +kernel
theorem dX0_group_13 : decode cX0_group 13 = .ok (.iconst 1, 1) := by decide +kernel
theorem dX0_group_14 : decode cX0_group 14 = .ok (.iload_n 1, 1) := by decide +kernel
theorem dX0_group_15 : decode cX0_group 15 = .ok (.ishl, 1) := by decide +kernel
theorem dX0_group_16 : decode cX0_group 16 = .ok (.istore_n 3, 1) := by decide +kernel
theorem dX0_group_17 : decode cX0_group 17 = .ok (.iconst 0, 1) := by decide +kernel
theorem dX0_group_18 : decode cX0_group 18 = .ok (.istore 4, 2) := by decide +kernel
theorem dX0_group_20 : decode cX0_group 20 = .ok (.iload 4, 2) := by decide +kernel
theorem dX0_group_22 : decode cX0_group 22 = .ok (.bipush 6, 2) := by decide +kernel
theorem dX0_group_24 : decode cX0_group 24 = .ok (.if_icmp .ge 41, 3) := by decide +kernel
theorem dX0_group_27 : decode cX0_group 27 = .ok (.aload_n 0, 1) := by decide +kernel
theorem dX0_group_28 : decode cX0_group 28 = .ok (.iload_n 1, 1) := by decide +kernel
theorem dX0_group_29 : decode cX0_group 29 = .ok (.iload 4, 2) := by decide +kernel
theorem dX0_group_31 : decode cX0_group 31 = .ok (.invokevirtual 86, 3) := by decide +kernel
theorem dX0_group_34 : decode cX0_group 34 = .ok (.istore 5, 2) := by decide +kernel
theorem dX0_group_36 : decode cX0_group 36 = .ok (.iload_n 3, 1) := by decide +kernel
theorem dX0_group_37 : decode cX0_group 37 = .ok (.iload 4, 2) := by decide +kernel
theorem dX0_group_39 : decode cX0_group 39 = .ok (.iload_n 1, 1) := by decide +kernel
theorem dX0_group_40 : decode cX0_group 40 = .ok (.if_icmp .eq 16, 3) := by decide +kernel
theorem dX0_group_43 : decode cX0_group 43 = .ok (.iload 5, 2) := by decide +kernel
theorem dX0_group_45 : decode cX0_group 45 = .ok (.iload_n 2, 1) := by decide +kernel
theorem dX0_group_46 : decode cX0_group 46 = .ok (.if_icmp .lt 10, 3) := by decide +kernel
theorem dX0_group_49 : decode cX0_group 49 = .ok (.iconst 1, 1) := by decide +kernel
theorem dX0_group_50 : decode cX0_group 50 = .ok (.iload 4, 2) := by decide +kernel
theorem dX0_group_52 : decode cX0_group 52 = .ok (.ishl, 1) := by decide +kernel
theorem dX0_group_53 : decode cX0_group 53 = .ok (.goto 4, 3) := by decide +kernel
theorem dX0_group_56 : decode cX0_group 56 = .ok (.iconst 0, 1) := by decide +kernel
theorem dX0_group_57 : decode cX0_group 57 = .ok (.ior, 1) := by decide +kernel
theorem dX0_group_58 : decode cX0_group 58 = .ok (.istore_n 3, 1) := by decide +kernel
theorem dX0_group_59 : decode cX0_group 59 = .ok (.iinc 4 1, 3) := by decide +kernel
theorem dX0_group_62 : decode cX0_group 62 = .ok (.goto (-42), 3) := by decide +kernel
theorem dX0_group_65 : decode cX0_group 65 = .ok (.iload_n 3, 1) := by decide +kernel
theorem dX0_group_66 : decode cX0_group 66 = .ok (.ireturn, 1) := by decide +kernel
theorem dX0_loss_0 : decode cX0_loss 0 = .ok (.iload_n 1, 1) := by decide +kernel
theorem dX0_loss_1 : decode cX0_loss 1 = .ok (.iload_n 2, 1) := by decide +kernel
theorem dX0_loss_2 : decode cX0_loss 2 = .ok (.invokestatic 39, 3) := by decide +kernel
theorem dX0_loss_5 : decode cX0_loss 5 = .ok (.ifCond .ne 5, 3) := by decide +kernel
theorem dX0_loss_8 : decode cX0_loss 8 = .ok (.iconst (-1), 1) := by decide +kernel
theorem dX0_loss_9 : decode cX0_loss 9 = .ok (.ireturn, 1) := by decide +kernel
theorem dX0_loss_10 : decode cX0_loss 10 = .ok (.aload_n 0, 1) := by decide +kernel
theorem dX0_loss_11 : decode cX0_loss 11 = .ok (.getfield 7, 3) := by decide +kernel
theorem dX0_loss_14 : decode cX0_loss 14 = .ok (.iload_n 1, 1) := by decide +kernel
theorem dX0_loss_15 : decode cX0_loss 15 = .ok (.bipush 6, 2) := by decide +kernel
theorem dX0_loss_17 : decode cX0_loss 17 = .ok (.imul, 1) := by decide +kernel
theorem dX0_loss_18 : decode cX0_loss 18 = .ok (.iload_n 2, 1) := by decide +kernel
theorem dX0_loss_19 : decode cX0_loss 19 = .ok (.iadd, 1) := by decide +kernel
theorem dX0_loss_20 : decode cX0_loss 20 = .ok (.iaload, 1) := by decide +kernel
theorem dX0_loss_21 : decode cX0_loss 21 = .ok (.istore_n 3, 1) := by decide +kernel
theorem dX0_loss_22 : decode cX0_loss 22 = .ok (.aload_n 0, 1) := by decide +kernel
theorem dX0_loss_23 : decode cX0_loss 23 = .ok (.invokevirtual 70, 3) := by decide +kernel
theorem dX0_loss_26 : decode cX0_loss 26 = .ok (.istore 4, 2) := by decide +kernel
theorem dX0_loss_28 : decode cX0_loss 28 = .ok (.aload_n 0, 1) := by decide +kernel
theorem dX0_loss_29 : decode cX0_loss 29 = .ok (.iload_n 1, 1) := by decide +kernel
theorem dX0_loss_30 : decode cX0_loss 30 = .ok (.iload_n 2, 1) := by decide +kernel
theorem dX0_loss_31 : decode cX0_loss 31 = .ok (.iconst 0, 1) := by decide +kernel
theorem dX0_loss_32 : decode cX0_loss 32 = .ok (.invokevirtual 43, 3) := by decide +kernel
theorem dX0_loss_35 : decode cX0_loss 35 = .ok (.aload_n 0, 1) := by decide +kernel
theorem dX0_loss_36 : decode cX0_loss 36 = .ok (.invokevirtual 70, 3) := by decide +kernel
theorem dX0_loss_39 : decode cX0_loss 39 = .ok (.istore 5, 2) := by decide +kernel
theorem dX0_loss_41 : decode cX0_loss 41 = .ok (.aload_n 0, 1) := by decide +kernel
theorem dX0_loss_42 : decode cX0_loss 42 = .ok (.iload_n 1, 1) := by decide +kernel
theorem dX0_loss_43 : decode cX0_loss 43 = .ok (.iload_n 2, 1) := by decide +kernel
theorem dX0_loss_44 : decode cX0_loss 44 = .ok (.iload_n 3, 1) := by decide +kernel
theorem dX0_loss_45 : decode cX0_loss 45 = .ok (.invokevirtual 43, 3) := by decide +kernel
theorem dX0_loss_48 : decode cX0_loss 48 = .ok (.iload 4, 2) := by decide +kernel
theorem dX0_loss_50 : decode cX0_loss 50 = .ok (.iload 5, 2) := by decide +kernel
theorem dX0_loss_52 : decode cX0_loss 52 = .ok (.isub, 1) := by decide +kernel
theorem dX0_loss_53 : decode cX0_loss 53 = .ok (.ireturn, 1) := by decide +kernel
theorem dX0_tight_0 : decode cX0_tight 0 = .ok (.iload_n 1, 1) := by decide +kernel
theorem dX0_tight_1 : decode cX0_tight 1 = .ok (.iload_n 2, 1) := by decide +kernel
theorem dX0_tight_2 : decode cX0_tight 2 = .ok (.invokestatic 39, 3) := by decide +kernel
theorem dX0_tight_5 : decode cX0_tight 5 = .ok (.ifCond .eq 12, 3) := by decide +kernel
theorem dX0_tight_8 : decode cX0_tight 8 = .ok (.iload_n 3, 1) := by decide +kernel
theorem dX0_tight_9 : decode cX0_tight 9 = .ok (.iload 4, 2) := by decide +kernel
theorem dX0_tight_11 : decode cX0_tight 11 = .ok (.invokestatic 39, 3) := by decide +kernel
theorem dX0_tight_14 : decode cX0_tight 14 = .ok (.ifCond .ne 5, 3) := by decide +kernel
theorem dX0_tight_17 : decode cX0_tight 17 = .ok (.iconst 0, 1) := by decide +kernel
theorem dX0_tight_18 : decode cX0_tight 18 = .ok (.ireturn, 1) := by decide +kernel
theorem dX0_tight_19 : decode cX0_tight 19 = .ok (.aload_n 0, 1) := by decide +kernel
theorem dX0_tight_20 : decode cX0_tight 20 = .ok (.getfield 7, 3) := by decide +kernel
theorem dX0_tight_23 : decode cX0_tight 23 = .ok (.iload_n 3, 1) := by decide +kernel
theorem dX0_tight_24 : decode cX0_tight 24 = .ok (.bipush 6, 2) := by decide +kernel
theorem dX0_tight_26 : decode cX0_tight 26 = .ok (.imul, 1) := by decide +kernel
theorem dX0_tight_27 : decode cX0_tight 27 = .ok (.iload 4, 2) := by decide +kernel
theorem dX0_tight_29 : decode cX0_tight 29 = .ok (.iadd, 1) := by decide +kernel
theorem dX0_tight_30 : decode cX0_tight 30 = .ok (.iaload, 1) := by decide +kernel
theorem dX0_tight_31 : decode cX0_tight 31 = .ok (.istore 5, 2) := by decide +kernel
theorem dX0_tight_33 : decode cX0_tight 33 = .ok (.aload_n 0, 1) := by decide +kernel
theorem dX0_tight_34 : decode cX0_tight 34 = .ok (.iload_n 1, 1) := by decide +kernel
theorem dX0_tight_35 : decode cX0_tight 35 = .ok (.iload_n 2, 1) := by decide +kernel
theorem dX0_tight_36 : decode cX0_tight 36 = .ok (.invokevirtual 89, 3) := by decide +kernel
theorem dX0_tight_39 : decode cX0_tight 39 = .ok (.istore 6, 2) := by decide +kernel
theorem dX0_tight_41 : decode cX0_tight 41 = .ok (.aload_n 0, 1) := by decide +kernel
theorem dX0_tight_42 : decode cX0_tight 42 = .ok (.iload_n 3, 1) := by decide +kernel
theorem dX0_tight_43 : decode cX0_tight 43 = .ok (.iload 4, 2) := by decide +kernel
theorem dX0_tight_45 : decode cX0_tight 45 = .ok (.iload 5, 2) := by decide +kernel
theorem dX0_tight_47 : decode cX0_tight 47 = .ok (.iconst 1, 1) := by decide +kernel
theorem dX0_tight_48 : decode cX0_tight 48 = .ok (.iadd, 1) := by decide +kernel
theorem dX0_tight_49 : decode cX0_tight 49 = .ok (.invokevirtual 43, 3) := by decide +kernel
theorem dX0_tight_52 : decode cX0_tight 52 = .ok (.aload_n 0, 1) := by decide +kernel
theorem dX0_tight_53 : decode cX0_tight 53 = .ok (.iload_n 1, 1) := by decide +kernel
theorem dX0_tight_54 : decode cX0_tight 54 = .ok (.iload_n 2, 1) := by decide +kernel
theorem dX0_tight_55 : decode cX0_tight 55 = .ok (.invokevirtual 89, 3) := by decide +kernel
theorem dX0_tight_58 : decode cX0_tight 58 = .ok (.istore 7, 2) := by decide +kernel
theorem dX0_tight_60 : decode cX0_tight 60 = .ok (.aload_n 0, 1) := by decide +kernel
theorem dX0_tight_61 : decode cX0_tight 61 = .ok (.iload_n 3, 1) := by decide +kernel
theorem dX0_tight_62 : decode cX0_tight 62 = .ok (.iload 4, 2) := by decide +kernel
theorem dX0_tight_64 : decode cX0_tight 64 = .ok (.iload 5, 2) := by decide +kernel
theorem dX0_tight_66 : decode cX0_tight 66 = .ok (.invokevirtual 43, 3) := by decide +kernel
theorem dX0_tight_69 : decode cX0_tight 69 = .ok (.iload 7, 2) := by decide +kernel
theorem dX0_tight_71 : decode cX0_tight 71 = .ok (.iload 6, 2) := by decide +kernel
theorem dX0_tight_73 : decode cX0_tight 73 = .ok (.if_icmp .le 7, 3) := by decide +kernel
theorem dX0_tight_76 : decode cX0_tight 76 = .ok (.iconst 1, 1) := by decide +kernel
theorem dX0_tight_77 : decode cX0_tight 77 = .ok (.goto 4, 3) := by decide +kernel
theorem dX0_tight_80 : decode cX0_tight 80 = .ok (.iconst 0, 1) := by decide +kernel
theorem dX0_tight_81 : decode cX0_tight 81 = .ok (.ireturn, 1) := by decide +kernel
end
section
set_option maxRecDepth 100000
theorem dX1_init_0 : decode cX1_init 0 = .ok (.aload_n 0, 1) := by decide +kernel
theorem dX1_init_1 : decode cX1_init 1 = .ok (.invokespecial 1, 3) := by decide +kernel
theorem dX1_init_4 : decode cX1_init 4 = .ok (.aload_n 0, 1) := by decide +kernel
theorem dX1_init_5 : decode cX1_init 5 = .ok (.bipush 36, 2) := by decide +kernel
theorem dX1_init_7 : decode cX1_init 7 = .ok (.newarray .int, 2) := by decide +kernel
theorem dX1_init_9 : decode cX1_init 9 = .ok (.putfield 7, 3) := by decide +kernel
theorem dX1_init_12 : decode cX1_init 12 = .ok (.return_, 1) := by decide +kernel
theorem dX1_set_0 : decode cX1_set 0 = .ok (.aload_n 0, 1) := by decide +kernel
theorem dX1_set_1 : decode cX1_set 1 = .ok (.iload_n 1, 1) := by decide +kernel
theorem dX1_set_2 : decode cX1_set 2 = .ok (.iload_n 2, 1) := by decide +kernel
theorem dX1_set_3 : decode cX1_set 3 = .ok (.invokevirtual 13, 3) := by decide +kernel
theorem dX1_set_6 : decode cX1_set 6 = .ok (.ifCond .eq 13, 3) := by decide +kernel
theorem dX1_set_9 : decode cX1_set 9 = .ok (.iload_n 3, 1) := by decide +kernel
theorem dX1_set_10 : decode cX1_set 10 = .ok (.ifCond .lt 9, 3) := by decide +kernel
theorem dX1_set_13 : decode cX1_set 13 = .ok (.iload_n 3, 1) := by decide +kernel
theorem dX1_set_14 : decode cX1_set 14 = .ok (.bipush 30, 2) := by decide +kernel
theorem dX1_set_16 : decode cX1_set 16 = .ok (.if_icmp .le 5, 3) := by decide +kernel
theorem dX1_set_19 : decode cX1_set 19 = .ok (.iconst 0, 1) := by decide +kernel
theorem dX1_set_20 : decode cX1_set 20 = .ok (.ireturn, 1) := by decide +kernel
theorem dX1_set_21 : decode cX1_set 21 = .ok (.aload_n 0, 1) := by decide +kernel
theorem dX1_set_22 : decode cX1_set 22 = .ok (.iload_n 1, 1) := by decide +kernel
theorem dX1_set_23 : decode cX1_set 23 = .ok (.iload_n 2, 1) := by decide +kernel
theorem dX1_set_24 : decode cX1_set 24 = .ok (.iload_n 3, 1) := by decide +kernel
theorem dX1_set_25 : decode cX1_set 25 = .ok (.invokevirtual 17, 3) := by decide +kernel
theorem dX1_set_28 : decode cX1_set 28 = .ok (.iconst 1, 1) := by decide +kernel
theorem dX1_set_29 : decode cX1_set 29 = .ok (.ireturn, 1) := by decide +kernel
theorem dX1_pair_0 : decode cX1_pair 0 = .ok (.iload_n 1, 1) := by decide +kernel
theorem dX1_pair_1 : decode cX1_pair 1 = .ok (.iload_n 2, 1) := by decide +kernel
theorem dX1_pair_2 : decode cX1_pair 2 = .ok (.if_icmp .eq 25, 3) := by decide +kernel
theorem dX1_pair_5 : decode cX1_pair 5 = .ok (.iload_n 1, 1) := by decide +kernel
theorem dX1_pair_6 : decode cX1_pair 6 = .ok (.ifCond .lt 21, 3) := by decide +kernel
theorem dX1_pair_9 : decode cX1_pair 9 = .ok (.iload_n 1, 1) := by decide +kernel
theorem dX1_pair_10 : decode cX1_pair 10 = .ok (.iconst 5, 1) := by decide +kernel
theorem dX1_pair_11 : decode cX1_pair 11 = .ok (.if_icmp .gt 16, 3) := by decide +kernel
theorem dX1_pair_14 : decode cX1_pair 14 = .ok (.iload_n 2, 1) := by decide +kernel
theorem dX1_pair_15 : decode cX1_pair 15 = .ok (.ifCond .lt 12, 3) := by decide +kernel
theorem dX1_pair_18 : decode cX1_pair 18 = .ok (.iload_n 2, 1) := by decide +kernel
theorem dX1_pair_19 : decode cX1_pair 19 = .ok (.iconst 5, 1) := by decide +kernel
theorem dX1_pair_20 : decode cX1_pair 20 = .ok (.if_icmp .gt 7, 3) := by decide +kernel
theorem dX1_pair_23 : decode cX1_pair 23 = .ok (.iconst 1, 1) := by decide +kernel
theorem dX1_pair_24 : decode cX1_pair 24 = .ok (.goto 4, 3) := by decide +kernel
theorem dX1_pair_27 : decode cX1_pair 27 = .ok (.iconst 0, 1) := by decide +kernel
theorem dX1_pair_28 : decode cX1_pair 28 = .ok (.ireturn, 1) := by decide +kernel
theorem dX1_put_0 : decode cX1_put 0 = .ok (.aload_n 0, 1) := by decide +kernel
theorem dX1_put_1 : decode cX1_put 1 = .ok (.getfield 7, 3) := by decide +kernel
theorem dX1_put_4 : decode cX1_put 4 = .ok (.bipush 6, 2) := by decide +kernel
theorem dX1_put_6 : decode cX1_put 6 = .ok (.iload_n 1, 1) := by decide +kernel
theorem dX1_put_7 : decode cX1_put 7 = .ok (.imul, 1) := by decide +kernel
theorem dX1_put_8 : decode cX1_put 8 = .ok (.iload_n 2, 1) := by decide +kernel
theorem dX1_put_9 : decode cX1_put 9 = .ok (.iadd, 1) := by decide +kernel
theorem dX1_put_10 : decode cX1_put 10 = .ok (.iload_n 3, 1) := by decide +kernel
theorem dX1_put_11 : decode cX1_put 11 = .ok (.iastore, 1) := by decide +kernel
theorem dX1_put_12 : decode cX1_put 12 = .ok (.aload_n 0, 1) := by decide +kernel
theorem dX1_put_13 : decode cX1_put 13 = .ok (.getfield 7, 3) := by decide +kernel
theorem dX1_put_16 : decode cX1_put 16 = .ok (.bipush 6, 2) := by decide +kernel
theorem dX1_put_18 : decode cX1_put 18 = .ok (.iload_n 2, 1) := by decide +kernel
theorem dX1_put_19 : decode cX1_put 19 = .ok (.imul, 1) := by decide +kernel
theorem dX1_put_20 : decode cX1_put 20 = .ok (.iload_n 1, 1) := by decide +kernel
theorem dX1_put_21 : decode cX1_put 21 = .ok (.iadd, 1) := by decide +kernel
theorem dX1_put_22 : decode cX1_put 22 = .ok (.iload_n 3, 1) := by decide +kernel
theorem dX1_put_23 : decode cX1_put 23 = .ok (.iastore, 1) := by decide +kernel
theorem dX1_put_24 : decode cX1_put 24 = .ok (.return_, 1) := by decide +kernel
theorem dX1_capacity_0 : decode cX1_capacity 0 = .ok (.aload_n 0, 1) := by decide +kernel
theorem dX1_capacity_1 : decode cX1_capacity 1 = .ok (.iload_n 1, 1) := by decide +kernel
theorem dX1_capacity_2 : decode cX1_capacity 2 = .ok (.iload_n 2, 1) := by decide +kernel
theorem dX1_capacity_3 : decode cX1_capacity 3 = .ok (.invokevirtual 13, 3) := by decide +kernel
theorem dX1_capacity_6 : decode cX1_capacity 6 = .ok (.ifCond .eq 17, 3) := by decide +kernel
theorem dX1_capacity_9 : decode cX1_capacity 9 = .ok (.aload_n 0, 1) := by decide +kernel
theorem dX1_capacity_10 : decode cX1_capacity 10 = .ok (.getfield 7, 3) := by decide +kernel
theorem dX1_capacity_13 : decode cX1_capacity 13 = .ok (.bipush 6, 2) := by decide +kernel
theorem dX1_capacity_15 : decode cX1_capacity 15 = .ok (.iload_n 1, 1) := by decide +kernel
theorem dX1_capacity_16 : decode cX1_capacity 16 = .ok (.imul, 1) := by decide +kernel
theorem dX1_capacity_17 : decode cX1_capacity 17 = .ok (.iload_n 2, 1) := by decide +kernel
theorem dX1_capacity_18 : decode cX1_capacity 18 = .ok (.iadd, 1) := by decide +kernel
theorem dX1_capacity_19 : decode cX1_capacity 19 = .ok (.iaload, 1) := by decide +kernel
theorem dX1_capacity_20 : decode cX1_capacity 20 = .ok (.goto 4, 3) := by decide +kernel
theorem dX1_capacity_23 : decode cX1_capacity 23 = .ok (.iconst (-1), 1) := by decide +kernel
theorem dX1_capacity_24 : decode cX1_capacity 24 = .ok (.ireturn, 1) := by decide +kernel
theorem dX1_cost_0 : decode cX1_cost 0 = .ok (.iload_n 1, 1) := by decide +kernel
theorem dX1_cost_1 : decode cX1_cost 1 = .ok (.iconst 1, 1) := by decide +kernel
theorem dX1_cost_2 : decode cX1_cost 2 = .ok (.if_icmp .lt 17, 3) := by decide +kernel
theorem dX1_cost_5 : decode cX1_cost 5 = .ok (.iload_n 1, 1) := by decide +kernel
theorem dX1_cost_6 : decode cX1_cost 6 = .ok (.bipush 62, 2) := by decide +kernel
theorem dX1_cost_8 : decode cX1_cost 8 = .ok (.if_icmp .gt 11, 3) := by decide +kernel
theorem dX1_cost_11 : decode cX1_cost 11 = .ok (.aload_n 0, 1) := by decide +kernel
theorem dX1_cost_12 : decode cX1_cost 12 = .ok (.iload_n 1, 1) := by decide +kernel
theorem dX1_cost_13 : decode cX1_cost 13 = .ok (.invokevirtual 21, 3) := by decide +kernel
theorem dX1_cost_16 : decode cX1_cost 16 = .ok (.goto 4, 3) := by decide +kernel
theorem dX1_cost_19 : decode cX1_cost 19 = .ok (.iconst (-1), 1) := by decide +kernel
theorem dX1_cost_20 : decode cX1_cost 20 = .ok (.ireturn, 1) := by decide +kernel
theorem dX1_costOf_0 : decode cX1_costOf 0 = .ok (.iconst 0, 1) := by decide +kernel
theorem dX1_costOf_1 : decode cX1_costOf 1 = .ok (.istore_n 2, 1) := by decide +kernel
theorem dX1_costOf_2 : decode cX1_costOf 2 = .ok (.iconst 0, 1) := by decide +kernel
theorem dX1_costOf_3 : decode cX1_costOf 3 = .ok (.istore_n 3, 1) := by decide +kernel
theorem dX1_costOf_4 : decode cX1_costOf 4 = .ok (.iload_n 3, 1) := by decide +kernel
theorem dX1_costOf_5 : decode cX1_costOf 5 = .ok (.bipush 36, 2) := by decide +kernel
theorem dX1_costOf_7 : decode cX1_costOf 7 = .ok (.if_icmp .ge 57, 3) := by decide +kernel
theorem dX1_costOf_10 : decode cX1_costOf 10 = .ok (.iload_n 1, 1) := by decide +kernel
theorem dX1_costOf_11 : decode cX1_costOf 11 = .ok (.iload_n 3, 1) := by decide +kernel
theorem dX1_costOf_12 : decode cX1_costOf 12 = .ok (.bipush 6, 2) := by decide +kernel
theorem dX1_costOf_14 : decode cX1_costOf 14 = .ok (.idiv, 1) := by decide +kernel
theorem dX1_costOf_15 : decode cX1_costOf 15 = .ok (.ishr, 1) := by decide +kernel
theorem dX1_costOf_16 : decode cX1_costOf 16 = .ok (.iconst 1, 1) := by decide +kernel
theorem dX1_costOf_17 : decode cX1_costOf 17 = .ok (.iand, 1) := by decide +kernel
theorem dX1_costOf_18 : decode cX1_costOf 18 = .ok (.iconst 1, 1) := by decide +kernel
theorem dX1_costOf_19 : decode cX1_costOf 19 = .ok (.if_icmp .ne 18, 3) := by decide +kernel
theorem dX1_costOf_22 : decode cX1_costOf 22 = .ok (.iload_n 1, 1) := by decide +kernel
theorem dX1_costOf_23 : decode cX1_costOf 23 = .ok (.iload_n 3, 1) := by decide +kernel
theorem dX1_costOf_24 : decode cX1_costOf 24 = .ok (.bipush 6, 2) := by decide +kernel
theorem dX1_costOf_26 : decode cX1_costOf 26 = .ok (.irem, 1) := by decide +kernel
theorem dX1_costOf_27 : decode cX1_costOf 27 = .ok (.ishr, 1) := by decide +kernel
theorem dX1_costOf_28 : decode cX1_costOf 28 = .ok (.iconst 1, 1) := by decide +kernel
theorem dX1_costOf_29 : decode cX1_costOf 29 = .ok (.iand, 1) := by decide +kernel
theorem dX1_costOf_30 : decode cX1_costOf 30 = .ok (.ifCond .ne 7, 3) := by decide +kernel
theorem dX1_costOf_33 : decode cX1_costOf 33 = .ok (.iconst 1, 1) := by decide +kernel
theorem dX1_costOf_34 : decode cX1_costOf 34 = .ok (.goto 4, 3) := by decide +kernel
theorem dX1_costOf_37 : decode cX1_costOf 37 = .ok (.iconst 0, 1) := by decide +kernel
theorem dX1_costOf_38 : decode cX1_costOf 38 = .ok (.istore 4, 2) := by decide +kernel
theorem dX1_costOf_40 : decode cX1_costOf 40 = .ok (.iload 4, 2) := by decide +kernel
theorem dX1_costOf_42 : decode cX1_costOf 42 = .ok (.ifCond .eq 14, 3) := by decide +kernel
theorem dX1_costOf_45 : decode cX1_costOf 45 = .ok (.iload_n 2, 1) := by decide +kernel
theorem dX1_costOf_46 : decode cX1_costOf 46 = .ok (.aload_n 0, 1) := by decide +kernel
theorem dX1_costOf_47 : decode cX1_costOf 47 = .ok (.getfield 7, 3) := by decide +kernel
theorem dX1_costOf_50 : decode cX1_costOf 50 = .ok (.iload_n 3, 1) := by decide +kernel
theorem dX1_costOf_51 : decode cX1_costOf 51 = .ok (.iaload, 1) := by decide +kernel
theorem dX1_costOf_52 : decode cX1_costOf 52 = .ok (.iadd, 1) := by decide +kernel
theorem dX1_costOf_53 : decode cX1_costOf 53 = .ok (.goto 4, 3) := by decide +kernel
theorem dX1_costOf_56 : decode cX1_costOf 56 = .ok (.iload_n 2, 1) := by decide +kernel
theorem dX1_costOf_57 : decode cX1_costOf 57 = .ok (.istore_n 2, 1) := by decide +kernel
theorem dX1_costOf_58 : decode cX1_costOf 58 = .ok (.iinc 3 1, 3) := by decide +kernel
theorem dX1_costOf_61 : decode cX1_costOf 61 = .ok (.goto (-57), 3) := by decide +kernel
theorem dX1_costOf_64 : decode cX1_costOf 64 = .ok (.iload_n 2, 1) := by decide +kernel
theorem dX1_costOf_65 : decode cX1_costOf 65 = .ok (.ireturn, 1) := by decide +kernel
theorem dX1_least_0 : decode cX1_least 0 = .ok (.aload_n 0, 1) := by decide +kernel
theorem dX1_least_1 : decode cX1_least 1 = .ok (.iconst 0, 1) := by decide +kernel
theorem dX1_least_2 : decode cX1_least 2 = .ok (.iconst 0, 1) := by decide +kernel
theorem dX1_least_3 : decode cX1_least 3 = .ok (.invokevirtual 25, 3) := by decide +kernel
theorem dX1_least_6 : decode cX1_least 6 = .ok (.ireturn, 1) := by decide +kernel
theorem dX1_cheapest_0 : decode cX1_cheapest 0 = .ok (.iconst (-1), 1) := by decide +kernel
theorem dX1_cheapest_1 : decode cX1_cheapest 1 = .ok (.istore_n 3, 1) := by decide +kernel
theorem dX1_cheapest_2 : decode cX1_cheapest 2 = .ok (.iconst 1, 1) := by decide +kernel
theorem dX1_cheapest_3 : decode cX1_cheapest 3 = .ok (.istore 4, 2) := by decide +kernel
theorem dX1_cheapest_5 : decode cX1_cheapest 5 = .ok (.iload 4, 2) := by decide +kernel
theorem dX1_cheapest_7 : decode cX1_cheapest 7 = .ok (.bipush 62, 2) := by decide +kernel
theorem dX1_cheapest_9 : decode cX1_cheapest 9 = .ok (.if_icmp .gt 50, 3) := by decide +kernel
theorem dX1_cheapest_12 : decode cX1_cheapest 12 = .ok (.iload_n 1, 1) := by decide +kernel
theorem dX1_cheapest_13 : decode cX1_cheapest 13 = .ok (.iload 4, 2) := by decide +kernel
theorem dX1_cheapest_15 : decode cX1_cheapest 15 = .ok (.iconst (-1), 1) := by decide +kernel
theorem dX1_cheapest_16 : decode cX1_cheapest 16 = .ok (.ixor, 1) := by decide +kernel
theorem dX1_cheapest_17 : decode cX1_cheapest 17 = .ok (.iand, 1) := by decide +kernel
theorem dX1_cheapest_18 : decode cX1_cheapest 18 = .ok (.ifCond .ne 35, 3) := by decide +kernel
theorem dX1_cheapest_21 : decode cX1_cheapest 21 = .ok (.iload_n 2, 1) := by decide +kernel
theorem dX1_cheapest_22 : decode cX1_cheapest 22 = .ok (.iload 4, 2) := by decide +kernel
theorem dX1_cheapest_24 : decode cX1_cheapest 24 = .ok (.iand, 1) := by decide +kernel
theorem dX1_cheapest_25 : decode cX1_cheapest 25 = .ok (.ifCond .ne 28, 3) := by decide +kernel
theorem dX1_cheapest_28 : decode cX1_cheapest 28 = .ok (.aload_n 0, 1) := by decide +kernel
theorem dX1_cheapest_29 : decode cX1_cheapest 29 = .ok (.iload 4, 2) := by decide +kernel
theorem dX1_cheapest_31 : decode cX1_cheapest 31 = .ok (.invokevirtual 21, 3) := by decide +kernel
theorem dX1_cheapest_34 : decode cX1_cheapest 34 = .ok (.istore 5, 2) := by decide +kernel
theorem dX1_cheapest_36 : decode cX1_cheapest 36 = .ok (.iload_n 3, 1) := by decide +kernel
theorem dX1_cheapest_37 : decode cX1_cheapest 37 = .ok (.ifCond .lt 9, 3) := by decide +kernel
theorem dX1_cheapest_40 : decode cX1_cheapest 40 = .ok (.iload 5, 2) := by decide +kernel
theorem dX1_cheapest_42 : decode cX1_cheapest 42 = .ok (.iload_n 3, 1) := by decide +kernel
theorem dX1_cheapest_43 : decode cX1_cheapest 43 = .ok (.if_icmp .ge 8, 3) := by decide +kernel
theorem dX1_cheapest_46 : decode cX1_cheapest 46 = .ok (.iload 5, 2) := by decide +kernel
theorem dX1_cheapest_48 : decode cX1_cheapest 48 = .ok (.goto 4, 3) := by decide +kernel
theorem dX1_cheapest_51 : decode cX1_cheapest 51 = .ok (.iload_n 3, 1) := by decide +kernel
theorem dX1_cheapest_52 : decode cX1_cheapest 52 = .ok (.istore_n 3, 1) := by decide +kernel
theorem dX1_cheapest_53 : decode cX1_cheapest 53 = .ok (.iinc 4 1, 3) := by decide +kernel
theorem dX1_cheapest_56 : decode cX1_cheapest 56 = .ok (.goto (-51), 3) := by decide +kernel
theorem dX1_cheapest_59 : decode cX1_cheapest 59 = .ok (.iload_n 3, 1) := by decide +kernel
theorem dX1_cheapest_60 : decode cX1_cheapest 60 = .ok (.ireturn, 1) := by decide +kernel
theorem dX1_leastSide_0 : decode cX1_leastSide 0 = .ok (.aload_n 0, 1) := by decide +kernel
theorem dX1_leastSide_1 : decode cX1_leastSide 1 = .ok (.iconst 0, 1) := by decide +kernel
theorem dX1_leastSide_2 : decode cX1_leastSide 2 = .ok (.iconst 0, 1) := by decide +kernel
theorem dX1_leastSide_3 : decode cX1_leastSide 3 = .ok (.invokevirtual 25, 3) := by decide +kernel
theorem dX1_leastSide_6 : decode cX1_leastSide 6 = .ok (.istore_n 1, 1) := by decide +kernel
theorem dX1_leastSide_7 : decode cX1_leastSide 7 = .ok (.iconst 1, 1) := by decide +kernel
theorem dX1_leastSide_8 : decode cX1_leastSide 8 = .ok (.istore_n 2, 1) := by decide +kernel
theorem dX1_leastSide_9 : decode cX1_leastSide 9 = .ok (.iload_n 2, 1) := by decide +kernel
theorem dX1_leastSide_10 : decode cX1_leastSide 10 = .ok (.bipush 62, 2) := by decide +kernel
theorem dX1_leastSide_12 : decode cX1_leastSide 12 = .ok (.if_icmp .gt 27, 3) := by decide +kernel
theorem dX1_leastSide_15 : decode cX1_leastSide 15 = .ok (.iload_n 2, 1) := by decide +kernel
theorem dX1_leastSide_16 : decode cX1_leastSide 16 = .ok (.iconst 1, 1) := by decide +kernel
theorem dX1_leastSide_17 : decode cX1_leastSide 17 = .ok (.iand, 1) := by decide +kernel
theorem dX1_leastSide_18 : decode cX1_leastSide 18 = .ok (.iconst 1, 1) := by decide +kernel
theorem dX1_leastSide_19 : decode cX1_leastSide 19 = .ok (.if_icmp .ne 14, 3) := by decide +kernel
theorem dX1_leastSide_22 : decode cX1_leastSide 22 = .ok (.aload_n 0, 1) := by decide +kernel
theorem dX1_leastSide_23 : decode cX1_leastSide 23 = .ok (.iload_n 2, 1) := by decide +kernel
theorem dX1_leastSide_24 : decode cX1_leastSide 24 = .ok (.invokevirtual 21, 3) := by decide +kernel
theorem dX1_leastSide_27 : decode cX1_leastSide 27 = .ok (.iload_n 1, 1) := by decide +kernel
theorem dX1_leastSide_28 : decode cX1_leastSide 28 = .ok (.if_icmp .ne 5, 3) := by decide +kernel
theorem dX1_leastSide_31 : decode cX1_leastSide 31 = .ok (.iload_n 2, 1) := by decide +kernel
theorem dX1_leastSide_32 : decode cX1_leastSide 32 = .ok (.ireturn, 1) := by decide +kernel
theorem dX1_leastSide_33 : decode cX1_leastSide 33 = .ok (.iinc 2 1, 3) := by decide +kernel
theorem dX1_leastSide_36 : decode cX1_leastSide 36 = .ok (.goto (-27), 3) := by decide +kernel
theorem dX1_leastSide_39 : decode cX1_leastSide 39 = .ok (.iconst 0, 1) := by decide +kernel
theorem dX1_leastSide_40 : decode cX1_leastSide 40 = .ok (.ireturn, 1) := by decide +kernel
theorem dX1_between_0 : decode cX1_between 0 = .ok (.aload_n 0, 1) := by decide +kernel
theorem dX1_between_1 : decode cX1_between 1 = .ok (.iload_n 1, 1) := by decide +kernel
theorem dX1_between_2 : decode cX1_between 2 = .ok (.iload_n 2, 1) := by decide +kernel
theorem dX1_between_3 : decode cX1_between 3 = .ok (.invokevirtual 13, 3) := by decide +kernel
theorem dX1_between_6 : decode cX1_between 6 = .ok (.ifCond .eq 16, 3) := by decide +kernel
theorem dX1_between_9 : decode cX1_between 9 = .ok (.aload_n 0, 1) := by decide +kernel
theorem dX1_between_10 : decode cX1_between 10 = .ok (.iconst 1, 1) := by decide +kernel
theorem dX1_between_11 : decode cX1_between 11 = .ok (.iload_n 1, 1) := by decide +kernel
theorem dX1_between_12 : decode cX1_between 12 = .ok (.ishl, 1) := by decide +kernel
theorem dX1_between_13 : decode cX1_between 13 = .ok (.iconst 1, 1) := by decide +kernel
theorem dX1_between_14 : decode cX1_between 14 = .ok (.iload_n 2, 1) := by decide +kernel
theorem dX1_between_15 : decode cX1_between 15 = .ok (.ishl, 1) := by decide +kernel
theorem dX1_between_16 : decode cX1_between 16 = .ok (.invokevirtual 25, 3) := by decide +kernel
theorem dX1_between_19 : decode cX1_between 19 = .ok (.goto 4, 3) := by decide +kernel
theorem dX1_between_22 : decode cX1_between 22 = .ok (.iconst (-1), 1) := by decide +kernel
theorem dX1_between_23 : decode cX1_between 23 = .ok (.ireturn, 1) := by decide +kernel
theorem dX1_core_0 : decode cX1_core 0 = .ok (.aload_n 0, 1) := by decide +kernel
theorem dX1_core_1 : decode cX1_core 1 = .ok (.iload_n 1, 1) := by decide +kernel
theorem dX1_core_2 : decode cX1_core 2 = .ok (.iload_n 2, 1) := by decide +kernel
theorem dX1_core_3 : decode cX1_core 3 = .ok (.invokevirtual 13, 3) := by decide +kernel
theorem dX1_core_6 : decode cX1_core 6 = .ok (.ifCond .eq 8, 3) := by decide +kernel
theorem dX1_core_9 : decode cX1_core 9 = .ok (.bipush 63, 2) := by decide +kernel
theorem dX1_core_11 : decode cX1_core 11 = .ok (.goto 4, 3) := by decide +kernel
theorem dX1_core_14 : decode cX1_core 14 = .ok (.iconst 0, 1) := by decide +kernel
theorem dX1_core_15 : decode cX1_core 15 = .ok (.istore_n 3, 1) := by decide +kernel
theorem dX1_core_16 : decode cX1_core 16 = .ok (.iconst 1, 1) := by decide +kernel
theorem dX1_core_17 : decode cX1_core 17 = .ok (.istore 4, 2) := by decide +kernel
theorem dX1_core_19 : decode cX1_core 19 = .ok (.iload 4, 2) := by decide +kernel
theorem dX1_core_21 : decode cX1_core 21 = .ok (.bipush 62, 2) := by decide +kernel
theorem dX1_core_23 : decode cX1_core 23 = .ok (.if_icmp .gt 73, 3) := by decide +kernel
theorem dX1_core_26 : decode cX1_core 26 = .ok (.aload_n 0, 1) := by decide +kernel
theorem dX1_core_27 : decode cX1_core 27 = .ok (.iload_n 1, 1) := by decide +kernel
theorem dX1_core_28 : decode cX1_core 28 = .ok (.iload_n 2, 1) := by decide +kernel
theorem dX1_core_29 : decode cX1_core 29 = .ok (.invokevirtual 13, 3) := by decide +kernel
theorem dX1_core_32 : decode cX1_core 32 = .ok (.ifCond .eq 64, 3) := by decide +kernel
theorem dX1_core_35 : decode cX1_core 35 = .ok (.iload 4, 2) := by decide +kernel
theorem dX1_core_37 : decode cX1_core 37 = .ok (.iload_n 1, 1) := by decide +kernel
theorem dX1_core_38 : decode cX1_core 38 = .ok (.ishr, 1) := by decide +kernel
theorem dX1_core_39 : decode cX1_core 39 = .ok (.iconst 1, 1) := by decide +kernel
theorem dX1_core_40 : decode cX1_core 40 = .ok (.iand, 1) := by decide +kernel
theorem dX1_core_41 : decode cX1_core 41 = .ok (.iconst 1, 1) := by decide +kernel
theorem dX1_core_42 : decode cX1_core 42 = .ok (.if_icmp .ne 31, 3) := by decide +kernel
theorem dX1_core_45 : decode cX1_core 45 = .ok (.iload 4, 2) := by decide +kernel
theorem dX1_core_47 : decode cX1_core 47 = .ok (.iload_n 2, 1) := by decide +kernel
theorem dX1_core_48 : decode cX1_core 48 = .ok (.ishr, 1) := by decide +kernel
theorem dX1_core_49 : decode cX1_core 49 = .ok (.iconst 1, 1) := by decide +kernel
theorem dX1_core_50 : decode cX1_core 50 = .ok (.iand, 1) := by decide +kernel
theorem dX1_core_51 : decode cX1_core 51 = .ok (.ifCond .ne 22, 3) := by decide +kernel
theorem dX1_core_54 : decode cX1_core 54 = .ok (.aload_n 0, 1) := by decide +kernel
theorem dX1_core_55 : decode cX1_core 55 = .ok (.iload 4, 2) := by decide +kernel
end
section
set_option maxRecDepth 100000
theorem dX1_core_57 : decode cX1_core 57 = .ok (.invokevirtual 21, 3) := by decide +kernel
theorem dX1_core_60 : decode cX1_core 60 = .ok (.aload_n 0, 1) := by decide +kernel
theorem dX1_core_61 : decode cX1_core 61 = .ok (.iload_n 1, 1) := by decide +kernel
theorem dX1_core_62 : decode cX1_core 62 = .ok (.iload_n 2, 1) := by decide +kernel
theorem dX1_core_63 : decode cX1_core 63 = .ok (.invokevirtual 29, 3) := by decide +kernel
theorem dX1_core_66 : decode cX1_core 66 = .ok (.if_icmp .ne 7, 3) := by decide +kernel
theorem dX1_core_69 : decode cX1_core 69 = .ok (.iconst 1, 1) := by decide +kernel
theorem dX1_core_70 : decode cX1_core 70 = .ok (.goto 4, 3) := by decide +kernel
theorem dX1_core_73 : decode cX1_core 73 = .ok (.iconst 0, 1) := by decide +kernel
theorem dX1_core_74 : decode cX1_core 74 = .ok (.istore 5, 2) := by decide +kernel
theorem dX1_core_76 : decode cX1_core 76 = .ok (.iload 5, 2) := by decide +kernel
theorem dX1_core_78 : decode cX1_core 78 = .ok (.ifCond .eq 10, 3) := by decide +kernel
theorem dX1_core_81 : decode cX1_core 81 = .ok (.iload_n 3, 1) := by decide +kernel
theorem dX1_core_82 : decode cX1_core 82 = .ok (.iload 4, 2) := by decide +kernel
theorem dX1_core_84 : decode cX1_core 84 = .ok (.iand, 1) := by decide +kernel
theorem dX1_core_85 : decode cX1_core 85 = .ok (.goto 4, 3) := by decide +kernel
theorem dX1_core_88 : decode cX1_core 88 = .ok (.iload_n 3, 1) := by decide +kernel
theorem dX1_core_89 : decode cX1_core 89 = .ok (.istore_n 3, 1) := by decide +kernel
theorem dX1_core_90 : decode cX1_core 90 = .ok (.iinc 4 1, 3) := by decide +kernel
theorem dX1_core_93 : decode cX1_core 93 = .ok (.goto (-74), 3) := by decide +kernel
theorem dX1_core_96 : decode cX1_core 96 = .ok (.iload_n 3, 1) := by decide +kernel
theorem dX1_core_97 : decode cX1_core 97 = .ok (.ireturn, 1) := by decide +kernel
theorem dX1_reach_0 : decode cX1_reach 0 = .ok (.iconst 0, 1) := by decide +kernel
theorem dX1_reach_1 : decode cX1_reach 1 = .ok (.istore_n 3, 1) := by decide +kernel
theorem dX1_reach_2 : decode cX1_reach 2 = .ok (.iconst 1, 1) := by decide +kernel
theorem dX1_reach_3 : decode cX1_reach 3 = .ok (.istore 4, 2) := by decide +kernel
theorem dX1_reach_5 : decode cX1_reach 5 = .ok (.iload 4, 2) := by decide +kernel
theorem dX1_reach_7 : decode cX1_reach 7 = .ok (.bipush 62, 2) := by decide +kernel
theorem dX1_reach_9 : decode cX1_reach 9 = .ok (.if_icmp .gt 73, 3) := by decide +kernel
theorem dX1_reach_12 : decode cX1_reach 12 = .ok (.aload_n 0, 1) := by decide +kernel
theorem dX1_reach_13 : decode cX1_reach 13 = .ok (.iload_n 1, 1) := by decide +kernel
theorem dX1_reach_14 : decode cX1_reach 14 = .ok (.iload_n 2, 1) := by decide +kernel
theorem dX1_reach_15 : decode cX1_reach 15 = .ok (.invokevirtual 13, 3) := by decide +kernel
theorem dX1_reach_18 : decode cX1_reach 18 = .ok (.ifCond .eq 64, 3) := by decide +kernel
theorem dX1_reach_21 : decode cX1_reach 21 = .ok (.iload 4, 2) := by decide +kernel
theorem dX1_reach_23 : decode cX1_reach 23 = .ok (.iload_n 1, 1) := by decide +kernel
theorem dX1_reach_24 : decode cX1_reach 24 = .ok (.ishr, 1) := by decide +kernel
theorem dX1_reach_25 : decode cX1_reach 25 = .ok (.iconst 1, 1) := by decide +kernel
theorem dX1_reach_26 : decode cX1_reach 26 = .ok (.iand, 1) := by decide +kernel
theorem dX1_reach_27 : decode cX1_reach 27 = .ok (.iconst 1, 1) := by decide +kernel
theorem dX1_reach_28 : decode cX1_reach 28 = .ok (.if_icmp .ne 31, 3) := by decide +kernel
theorem dX1_reach_31 : decode cX1_reach 31 = .ok (.iload 4, 2) := by decide +kernel
theorem dX1_reach_33 : decode cX1_reach 33 = .ok (.iload_n 2, 1) := by decide +kernel
theorem dX1_reach_34 : decode cX1_reach 34 = .ok (.ishr, 1) := by decide +kernel
theorem dX1_reach_35 : decode cX1_reach 35 = .ok (.iconst 1, 1) := by decide +kernel
theorem dX1_reach_36 : decode cX1_reach 36 = .ok (.iand, 1) := by decide +kernel
theorem dX1_reach_37 : decode cX1_reach 37 = .ok (.ifCond .ne 22, 3) := by decide +kernel
theorem dX1_reach_40 : decode cX1_reach 40 = .ok (.aload_n 0, 1) := by decide +kernel
theorem dX1_reach_41 : decode cX1_reach 41 = .ok (.iload 4, 2) := by decide +kernel
theorem dX1_reach_43 : decode cX1_reach 43 = .ok (.invokevirtual 21, 3) := by decide +kernel
theorem dX1_reach_46 : decode cX1_reach 46 = .ok (.aload_n 0, 1) := by decide +kernel
theorem dX1_reach_47 : decode cX1_reach 47 = .ok (.iload_n 1, 1) := by decide +kernel
theorem dX1_reach_48 : decode cX1_reach 48 = .ok (.iload_n 2, 1) := by decide +kernel
theorem dX1_reach_49 : decode cX1_reach 49 = .ok (.invokevirtual 29, 3) := by decide +kernel
theorem dX1_reach_52 : decode cX1_reach 52 = .ok (.if_icmp .ne 7, 3) := by decide +kernel
theorem dX1_reach_55 : decode cX1_reach 55 = .ok (.iconst 1, 1) := by decide +kernel
theorem dX1_reach_56 : decode cX1_reach 56 = .ok (.goto 4, 3) := by decide +kernel
theorem dX1_reach_59 : decode cX1_reach 59 = .ok (.iconst 0, 1) := by decide +kernel
theorem dX1_reach_60 : decode cX1_reach 60 = .ok (.istore 5, 2) := by decide +kernel
theorem dX1_reach_62 : decode cX1_reach 62 = .ok (.iload 5, 2) := by decide +kernel
theorem dX1_reach_64 : decode cX1_reach 64 = .ok (.ifCond .eq 10, 3) := by decide +kernel
theorem dX1_reach_67 : decode cX1_reach 67 = .ok (.iload_n 3, 1) := by decide +kernel
theorem dX1_reach_68 : decode cX1_reach 68 = .ok (.iload 4, 2) := by decide +kernel
theorem dX1_reach_70 : decode cX1_reach 70 = .ok (.ior, 1) := by decide +kernel
theorem dX1_reach_71 : decode cX1_reach 71 = .ok (.goto 4, 3) := by decide +kernel
theorem dX1_reach_74 : decode cX1_reach 74 = .ok (.iload_n 3, 1) := by decide +kernel
theorem dX1_reach_75 : decode cX1_reach 75 = .ok (.istore_n 3, 1) := by decide +kernel
theorem dX1_reach_76 : decode cX1_reach 76 = .ok (.iinc 4 1, 3) := by decide +kernel
theorem dX1_reach_79 : decode cX1_reach 79 = .ok (.goto (-74), 3) := by decide +kernel
theorem dX1_reach_82 : decode cX1_reach 82 = .ok (.iload_n 3, 1) := by decide +kernel
theorem dX1_reach_83 : decode cX1_reach 83 = .ok (.ireturn, 1) := by decide +kernel
theorem dX1_forced_0 : decode cX1_forced 0 = .ok (.iload_n 1, 1) := by decide +kernel
theorem dX1_forced_1 : decode cX1_forced 1 = .ok (.ifCond .lt 19, 3) := by decide +kernel
theorem dX1_forced_4 : decode cX1_forced 4 = .ok (.iload_n 1, 1) := by decide +kernel
theorem dX1_forced_5 : decode cX1_forced 5 = .ok (.bipush 63, 2) := by decide +kernel
theorem dX1_forced_7 : decode cX1_forced 7 = .ok (.if_icmp .gt 13, 3) := by decide +kernel
theorem dX1_forced_10 : decode cX1_forced 10 = .ok (.iload_n 2, 1) := by decide +kernel
theorem dX1_forced_11 : decode cX1_forced 11 = .ok (.ifCond .lt 9, 3) := by decide +kernel
theorem dX1_forced_14 : decode cX1_forced 14 = .ok (.iload_n 2, 1) := by decide +kernel
theorem dX1_forced_15 : decode cX1_forced 15 = .ok (.bipush 63, 2) := by decide +kernel
theorem dX1_forced_17 : decode cX1_forced 17 = .ok (.if_icmp .le 7, 3) := by decide +kernel
theorem dX1_forced_20 : decode cX1_forced 20 = .ok (.iconst (-1), 1) := by decide +kernel
theorem dX1_forced_21 : decode cX1_forced 21 = .ok (.goto 9, 3) := by decide +kernel
theorem dX1_forced_24 : decode cX1_forced 24 = .ok (.aload_n 0, 1) := by decide +kernel
theorem dX1_forced_25 : decode cX1_forced 25 = .ok (.iload_n 1, 1) := by decide +kernel
theorem dX1_forced_26 : decode cX1_forced 26 = .ok (.iload_n 2, 1) := by decide +kernel
theorem dX1_forced_27 : decode cX1_forced 27 = .ok (.invokevirtual 25, 3) := by decide +kernel
theorem dX1_forced_30 : decode cX1_forced 30 = .ok (.ireturn, 1) := by decide +kernel
theorem dX1_pairsAtLeast_0 : decode cX1_pairsAtLeast 0 = .ok (.iconst 0, 1) := by decide +kernel
theorem dX1_pairsAtLeast_1 : decode cX1_pairsAtLeast 1 = .ok (.istore_n 2, 1) := by decide +kernel
theorem dX1_pairsAtLeast_2 : decode cX1_pairsAtLeast 2 = .ok (.iconst 0, 1) := by decide +kernel
theorem dX1_pairsAtLeast_3 : decode cX1_pairsAtLeast 3 = .ok (.istore_n 3, 1) := by decide +kernel
theorem dX1_pairsAtLeast_4 : decode cX1_pairsAtLeast 4 = .ok (.iload_n 3, 1) := by decide +kernel
theorem dX1_pairsAtLeast_5 : decode cX1_pairsAtLeast 5 = .ok (.bipush 36, 2) := by decide +kernel
theorem dX1_pairsAtLeast_7 : decode cX1_pairsAtLeast 7 = .ok (.if_icmp .ge 44, 3) := by decide +kernel
theorem dX1_pairsAtLeast_10 : decode cX1_pairsAtLeast 10 = .ok (.iload_n 3, 1) := by decide +kernel
theorem dX1_pairsAtLeast_11 : decode cX1_pairsAtLeast 11 = .ok (.bipush 6, 2) := by decide +kernel
theorem dX1_pairsAtLeast_13 : decode cX1_pairsAtLeast 13 = .ok (.idiv, 1) := by decide +kernel
theorem dX1_pairsAtLeast_14 : decode cX1_pairsAtLeast 14 = .ok (.iload_n 3, 1) := by decide +kernel
theorem dX1_pairsAtLeast_15 : decode cX1_pairsAtLeast 15 = .ok (.bipush 6, 2) := by decide +kernel
theorem dX1_pairsAtLeast_17 : decode cX1_pairsAtLeast 17 = .ok (.irem, 1) := by decide +kernel
theorem dX1_pairsAtLeast_18 : decode cX1_pairsAtLeast 18 = .ok (.if_icmp .ge 25, 3) := by decide +kernel
theorem dX1_pairsAtLeast_21 : decode cX1_pairsAtLeast 21 = .ok (.aload_n 0, 1) := by decide +kernel
theorem dX1_pairsAtLeast_22 : decode cX1_pairsAtLeast 22 = .ok (.iload_n 3, 1) := by decide +kernel
theorem dX1_pairsAtLeast_23 : decode cX1_pairsAtLeast 23 = .ok (.bipush 6, 2) := by decide +kernel
theorem dX1_pairsAtLeast_25 : decode cX1_pairsAtLeast 25 = .ok (.idiv, 1) := by decide +kernel
theorem dX1_pairsAtLeast_26 : decode cX1_pairsAtLeast 26 = .ok (.iload_n 3, 1) := by decide +kernel
theorem dX1_pairsAtLeast_27 : decode cX1_pairsAtLeast 27 = .ok (.bipush 6, 2) := by decide +kernel
theorem dX1_pairsAtLeast_29 : decode cX1_pairsAtLeast 29 = .ok (.irem, 1) := by decide +kernel
theorem dX1_pairsAtLeast_30 : decode cX1_pairsAtLeast 30 = .ok (.invokevirtual 29, 3) := by decide +kernel
theorem dX1_pairsAtLeast_33 : decode cX1_pairsAtLeast 33 = .ok (.iload_n 1, 1) := by decide +kernel
theorem dX1_pairsAtLeast_34 : decode cX1_pairsAtLeast 34 = .ok (.if_icmp .lt 9, 3) := by decide +kernel
theorem dX1_pairsAtLeast_37 : decode cX1_pairsAtLeast 37 = .ok (.iload_n 2, 1) := by decide +kernel
theorem dX1_pairsAtLeast_38 : decode cX1_pairsAtLeast 38 = .ok (.iconst 1, 1) := by decide +kernel
theorem dX1_pairsAtLeast_39 : decode cX1_pairsAtLeast 39 = .ok (.iadd, 1) := by decide +kernel
theorem dX1_pairsAtLeast_40 : decode cX1_pairsAtLeast 40 = .ok (.goto 4, 3) := by decide +kernel
theorem dX1_pairsAtLeast_43 : decode cX1_pairsAtLeast 43 = .ok (.iload_n 2, 1) := by decide +kernel
theorem dX1_pairsAtLeast_44 : decode cX1_pairsAtLeast 44 = .ok (.istore_n 2, 1) := by decide +kernel
theorem dX1_pairsAtLeast_45 : decode cX1_pairsAtLeast 45 = .ok (.iinc 3 1, 3) := by decide +kernel
theorem dX1_pairsAtLeast_48 : decode cX1_pairsAtLeast 48 = .ok (.goto (-44), 3) := by decide +kernel
theorem dX1_pairsAtLeast_51 : decode cX1_pairsAtLeast 51 = .ok (.iload_n 2, 1) := by decide +kernel
theorem dX1_pairsAtLeast_52 : decode cX1_pairsAtLeast 52 = .ok (.ireturn, 1) := by decide +kernel
theorem dX1_group_0 : decode cX1_group 0 = .ok (.iload_n 1, 1) := by decide +kernel
theorem dX1_group_1 : decode cX1_group 1 = .ok (.ifCond .lt 14, 3) := by decide +kernel
theorem dX1_group_4 : decode cX1_group 4 = .ok (.iload_n 1, 1) := by decide +kernel
theorem dX1_group_5 : decode cX1_group 5 = .ok (.iconst 5, 1) := by decide +kernel
theorem dX1_group_6 : decode cX1_group 6 = .ok (.if_icmp .gt 9, 3) := by decide +kernel
theorem dX1_group_9 : decode cX1_group 9 = .ok (.iconst 1, 1) := by decide +kernel
theorem dX1_group_10 : decode cX1_group 10 = .ok (.iload_n 1, 1) := by decide +kernel
theorem dX1_group_11 : decode cX1_group 11 = .ok (.ishl, 1) := by decide +kernel
theorem dX1_group_12 : decode cX1_group 12 = .ok (.goto 4, 3) := by decide +kernel
theorem dX1_group_15 : decode cX1_group 15 = .ok (.iconst 0, 1) := by decide +kernel
theorem dX1_group_16 : decode cX1_group 16 = .ok (.istore_n 3, 1) := by decide +kernel
theorem dX1_group_17 : decode cX1_group 17 = .ok (.iconst 0, 1) := by decide +kernel
theorem dX1_group_18 : decode cX1_group 18 = .ok (.istore 4, 2) := by decide +kernel
theorem dX1_group_20 : decode cX1_group 20 = .ok (.iload 4, 2) := by decide +kernel
theorem dX1_group_22 : decode cX1_group 22 = .ok (.bipush 6, 2) := by decide +kernel
theorem dX1_group_24 : decode cX1_group 24 = .ok (.if_icmp .ge 41, 3) := by decide +kernel
theorem dX1_group_27 : decode cX1_group 27 = .ok (.aload_n 0, 1) := by decide +kernel
theorem dX1_group_28 : decode cX1_group 28 = .ok (.iload_n 1, 1) := by decide +kernel
theorem dX1_group_29 : decode cX1_group 29 = .ok (.iload 4, 2) := by decide +kernel
theorem dX1_group_31 : decode cX1_group 31 = .ok (.invokevirtual 13, 3) := by decide +kernel
theorem dX1_group_34 : decode cX1_group 34 = .ok (.ifCond .eq 23, 3) := by decide +kernel
theorem dX1_group_37 : decode cX1_group 37 = .ok (.aload_n 0, 1) := by decide +kernel
theorem dX1_group_38 : decode cX1_group 38 = .ok (.iload_n 1, 1) := by decide +kernel
theorem dX1_group_39 : decode cX1_group 39 = .ok (.iload 4, 2) := by decide +kernel
theorem dX1_group_41 : decode cX1_group 41 = .ok (.invokevirtual 29, 3) := by decide +kernel
theorem dX1_group_44 : decode cX1_group 44 = .ok (.iload_n 2, 1) := by decide +kernel
theorem dX1_group_45 : decode cX1_group 45 = .ok (.if_icmp .lt 12, 3) := by decide +kernel
theorem dX1_group_48 : decode cX1_group 48 = .ok (.iload_n 3, 1) := by decide +kernel
theorem dX1_group_49 : decode cX1_group 49 = .ok (.iconst 1, 1) := by decide +kernel
theorem dX1_group_50 : decode cX1_group 50 = .ok (.iload 4, 2) := by decide +kernel
theorem dX1_group_52 : decode cX1_group 52 = .ok (.ishl, 1) := by decide +kernel
theorem dX1_group_53 : decode cX1_group 53 = .ok (.ior, 1) := by decide +kernel
theorem dX1_group_54 : decode cX1_group 54 = .ok (.goto 4, 3) := by decide +kernel
theorem dX1_group_57 : decode cX1_group 57 = .ok (.iload_n 3, 1) := by decide +kernel
theorem dX1_group_58 : decode cX1_group 58 = .ok (.istore_n 3, 1) := by decide +kernel
theorem dX1_group_59 : decode cX1_group 59 = .ok (.iinc 4 1, 3) := by decide +kernel
theorem dX1_group_62 : decode cX1_group 62 = .ok (.goto (-42), 3) := by decide +kernel
theorem dX1_group_65 : decode cX1_group 65 = .ok (.iload_n 3, 1) := by decide +kernel
theorem dX1_group_66 : decode cX1_group 66 = .ok (.ireturn, 1) := by decide +kernel
theorem dX1_loss_0 : decode cX1_loss 0 = .ok (.aload_n 0, 1) := by decide +kernel
theorem dX1_loss_1 : decode cX1_loss 1 = .ok (.iload_n 1, 1) := by decide +kernel
theorem dX1_loss_2 : decode cX1_loss 2 = .ok (.iload_n 2, 1) := by decide +kernel
theorem dX1_loss_3 : decode cX1_loss 3 = .ok (.invokevirtual 13, 3) := by decide +kernel
theorem dX1_loss_6 : decode cX1_loss 6 = .ok (.ifCond .ne 5, 3) := by decide +kernel
theorem dX1_loss_9 : decode cX1_loss 9 = .ok (.iconst (-1), 1) := by decide +kernel
theorem dX1_loss_10 : decode cX1_loss 10 = .ok (.ireturn, 1) := by decide +kernel
theorem dX1_loss_11 : decode cX1_loss 11 = .ok (.aload_n 0, 1) := by decide +kernel
theorem dX1_loss_12 : decode cX1_loss 12 = .ok (.invokevirtual 32, 3) := by decide +kernel
theorem dX1_loss_15 : decode cX1_loss 15 = .ok (.istore_n 3, 1) := by decide +kernel
theorem dX1_loss_16 : decode cX1_loss 16 = .ok (.aload_n 0, 1) := by decide +kernel
theorem dX1_loss_17 : decode cX1_loss 17 = .ok (.getfield 7, 3) := by decide +kernel
theorem dX1_loss_20 : decode cX1_loss 20 = .ok (.bipush 6, 2) := by decide +kernel
theorem dX1_loss_22 : decode cX1_loss 22 = .ok (.iload_n 1, 1) := by decide +kernel
theorem dX1_loss_23 : decode cX1_loss 23 = .ok (.imul, 1) := by decide +kernel
theorem dX1_loss_24 : decode cX1_loss 24 = .ok (.iload_n 2, 1) := by decide +kernel
theorem dX1_loss_25 : decode cX1_loss 25 = .ok (.iadd, 1) := by decide +kernel
theorem dX1_loss_26 : decode cX1_loss 26 = .ok (.iaload, 1) := by decide +kernel
theorem dX1_loss_27 : decode cX1_loss 27 = .ok (.istore 4, 2) := by decide +kernel
theorem dX1_loss_29 : decode cX1_loss 29 = .ok (.aload_n 0, 1) := by decide +kernel
theorem dX1_loss_30 : decode cX1_loss 30 = .ok (.iload_n 1, 1) := by decide +kernel
theorem dX1_loss_31 : decode cX1_loss 31 = .ok (.iload_n 2, 1) := by decide +kernel
theorem dX1_loss_32 : decode cX1_loss 32 = .ok (.iconst 0, 1) := by decide +kernel
theorem dX1_loss_33 : decode cX1_loss 33 = .ok (.invokevirtual 17, 3) := by decide +kernel
theorem dX1_loss_36 : decode cX1_loss 36 = .ok (.aload_n 0, 1) := by decide +kernel
theorem dX1_loss_37 : decode cX1_loss 37 = .ok (.invokevirtual 32, 3) := by decide +kernel
theorem dX1_loss_40 : decode cX1_loss 40 = .ok (.istore 5, 2) := by decide +kernel
theorem dX1_loss_42 : decode cX1_loss 42 = .ok (.aload_n 0, 1) := by decide +kernel
theorem dX1_loss_43 : decode cX1_loss 43 = .ok (.iload_n 1, 1) := by decide +kernel
theorem dX1_loss_44 : decode cX1_loss 44 = .ok (.iload_n 2, 1) := by decide +kernel
theorem dX1_loss_45 : decode cX1_loss 45 = .ok (.iload 4, 2) := by decide +kernel
theorem dX1_loss_47 : decode cX1_loss 47 = .ok (.invokevirtual 17, 3) := by decide +kernel
theorem dX1_loss_50 : decode cX1_loss 50 = .ok (.iload_n 3, 1) := by decide +kernel
theorem dX1_loss_51 : decode cX1_loss 51 = .ok (.iload 5, 2) := by decide +kernel
theorem dX1_loss_53 : decode cX1_loss 53 = .ok (.isub, 1) := by decide +kernel
theorem dX1_loss_54 : decode cX1_loss 54 = .ok (.ireturn, 1) := by decide +kernel
theorem dX1_tight_0 : decode cX1_tight 0 = .ok (.aload_n 0, 1) := by decide +kernel
theorem dX1_tight_1 : decode cX1_tight 1 = .ok (.iload_n 1, 1) := by decide +kernel
theorem dX1_tight_2 : decode cX1_tight 2 = .ok (.iload_n 2, 1) := by decide +kernel
theorem dX1_tight_3 : decode cX1_tight 3 = .ok (.invokevirtual 13, 3) := by decide +kernel
theorem dX1_tight_6 : decode cX1_tight 6 = .ok (.ifCond .eq 13, 3) := by decide +kernel
theorem dX1_tight_9 : decode cX1_tight 9 = .ok (.aload_n 0, 1) := by decide +kernel
theorem dX1_tight_10 : decode cX1_tight 10 = .ok (.iload_n 3, 1) := by decide +kernel
theorem dX1_tight_11 : decode cX1_tight 11 = .ok (.iload 4, 2) := by decide +kernel
theorem dX1_tight_13 : decode cX1_tight 13 = .ok (.invokevirtual 13, 3) := by decide +kernel
theorem dX1_tight_16 : decode cX1_tight 16 = .ok (.ifCond .ne 5, 3) := by decide +kernel
theorem dX1_tight_19 : decode cX1_tight 19 = .ok (.iconst 0, 1) := by decide +kernel
theorem dX1_tight_20 : decode cX1_tight 20 = .ok (.ireturn, 1) := by decide +kernel
theorem dX1_tight_21 : decode cX1_tight 21 = .ok (.aload_n 0, 1) := by decide +kernel
theorem dX1_tight_22 : decode cX1_tight 22 = .ok (.iload_n 1, 1) := by decide +kernel
theorem dX1_tight_23 : decode cX1_tight 23 = .ok (.iload_n 2, 1) := by decide +kernel
theorem dX1_tight_24 : decode cX1_tight 24 = .ok (.invokevirtual 29, 3) := by decide +kernel
theorem dX1_tight_27 : decode cX1_tight 27 = .ok (.istore 5, 2) := by decide +kernel
theorem dX1_tight_29 : decode cX1_tight 29 = .ok (.aload_n 0, 1) := by decide +kernel
theorem dX1_tight_30 : decode cX1_tight 30 = .ok (.getfield 7, 3) := by decide +kernel
theorem dX1_tight_33 : decode cX1_tight 33 = .ok (.bipush 6, 2) := by decide +kernel
theorem dX1_tight_35 : decode cX1_tight 35 = .ok (.iload_n 3, 1) := by decide +kernel
theorem dX1_tight_36 : decode cX1_tight 36 = .ok (.imul, 1) := by decide +kernel
theorem dX1_tight_37 : decode cX1_tight 37 = .ok (.iload 4, 2) := by decide +kernel
theorem dX1_tight_39 : decode cX1_tight 39 = .ok (.iadd, 1) := by decide +kernel
theorem dX1_tight_40 : decode cX1_tight 40 = .ok (.iaload, 1) := by decide +kernel
theorem dX1_tight_41 : decode cX1_tight 41 = .ok (.istore 6, 2) := by decide +kernel
theorem dX1_tight_43 : decode cX1_tight 43 = .ok (.aload_n 0, 1) := by decide +kernel
theorem dX1_tight_44 : decode cX1_tight 44 = .ok (.iload_n 3, 1) := by decide +kernel
theorem dX1_tight_45 : decode cX1_tight 45 = .ok (.iload 4, 2) := by decide +kernel
theorem dX1_tight_47 : decode cX1_tight 47 = .ok (.iload 6, 2) := by decide +kernel
theorem dX1_tight_49 : decode cX1_tight 49 = .ok (.iconst 1, 1) := by decide +kernel
theorem dX1_tight_50 : decode cX1_tight 50 = .ok (.iadd, 1) := by decide +kernel
theorem dX1_tight_51 : decode cX1_tight 51 = .ok (.invokevirtual 17, 3) := by decide +kernel
theorem dX1_tight_54 : decode cX1_tight 54 = .ok (.aload_n 0, 1) := by decide +kernel
theorem dX1_tight_55 : decode cX1_tight 55 = .ok (.iload_n 1, 1) := by decide +kernel
theorem dX1_tight_56 : decode cX1_tight 56 = .ok (.iload_n 2, 1) := by decide +kernel
theorem dX1_tight_57 : decode cX1_tight 57 = .ok (.invokevirtual 29, 3) := by decide +kernel
theorem dX1_tight_60 : decode cX1_tight 60 = .ok (.istore 7, 2) := by decide +kernel
theorem dX1_tight_62 : decode cX1_tight 62 = .ok (.aload_n 0, 1) := by decide +kernel
theorem dX1_tight_63 : decode cX1_tight 63 = .ok (.iload_n 3, 1) := by decide +kernel
theorem dX1_tight_64 : decode cX1_tight 64 = .ok (.iload 4, 2) := by decide +kernel
theorem dX1_tight_66 : decode cX1_tight 66 = .ok (.iload 6, 2) := by decide +kernel
theorem dX1_tight_68 : decode cX1_tight 68 = .ok (.invokevirtual 17, 3) := by decide +kernel
theorem dX1_tight_71 : decode cX1_tight 71 = .ok (.iload 7, 2) := by decide +kernel
theorem dX1_tight_73 : decode cX1_tight 73 = .ok (.iload 5, 2) := by decide +kernel
theorem dX1_tight_75 : decode cX1_tight 75 = .ok (.if_icmp .le 7, 3) := by decide +kernel
theorem dX1_tight_78 : decode cX1_tight 78 = .ok (.iconst 1, 1) := by decide +kernel
theorem dX1_tight_79 : decode cX1_tight 79 = .ok (.goto 4, 3) := by decide +kernel
theorem dX1_tight_82 : decode cX1_tight 82 = .ok (.iconst 0, 1) := by decide +kernel
theorem dX1_tight_83 : decode cX1_tight 83 = .ok (.ireturn, 1) := by decide +kernel
end
section
set_option maxRecDepth 100000
theorem dL_law_0 : decode cL_law 0 = .ok (.new 7, 3) := by decide +kernel
theorem dL_law_3 : decode cL_law 3 = .ok (.dup, 1) := by decide +kernel
theorem dL_law_4 : decode cL_law 4 = .ok (.invokespecial 9, 3) := by decide +kernel
theorem dL_law_7 : decode cL_law 7 = .ok (.astore_n 1, 1) := by decide +kernel
theorem dL_law_8 : decode cL_law 8 = .ok (.new 10, 3) := by decide +kernel
theorem dL_law_11 : decode cL_law 11 = .ok (.dup, 1) := by decide +kernel
theorem dL_law_12 : decode cL_law 12 = .ok (.invokespecial 12, 3) := by decide +kernel
theorem dL_law_15 : decode cL_law 15 = .ok (.astore_n 2, 1) := by decide +kernel
theorem dL_law_16 : decode cL_law 16 = .ok (.iconst 0, 1) := by decide +kernel
theorem dL_law_17 : decode cL_law 17 = .ok (.istore_n 3, 1) := by decide +kernel
theorem dL_law_18 : decode cL_law 18 = .ok (.iload_n 3, 1) := by decide +kernel
theorem dL_law_19 : decode cL_law 19 = .ok (.aload_n 0, 1) := by decide +kernel
theorem dL_law_20 : decode cL_law 20 = .ok (.arraylength, 1) := by decide +kernel
theorem dL_law_21 : decode cL_law 21 = .ok (.iconst 5, 1) := by decide +kernel
theorem dL_law_22 : decode cL_law 22 = .ok (.isub, 1) := by decide +kernel
theorem dL_law_23 : decode cL_law 23 = .ok (.if_icmp .gt 482, 3) := by decide +kernel
theorem dL_law_26 : decode cL_law 26 = .ok (.aload_n 0, 1) := by decide +kernel
theorem dL_law_27 : decode cL_law 27 = .ok (.iload_n 3, 1) := by decide +kernel
theorem dL_law_28 : decode cL_law 28 = .ok (.iaload, 1) := by decide +kernel
theorem dL_law_29 : decode cL_law 29 = .ok (.bipush 15, 2) := by decide +kernel
theorem dL_law_31 : decode cL_law 31 = .ok (.iand, 1) := by decide +kernel
theorem dL_law_32 : decode cL_law 32 = .ok (.tableswitch 467 0 12 #[68, 111, 144, 167, 180, 193, 226, 259, 292, 325, 348, 381, 414], 68) := by decide +kernel
theorem dL_law_100 : decode cL_law 100 = .ok (.aload_n 1, 1) := by decide +kernel
theorem dL_law_101 : decode cL_law 101 = .ok (.aload_n 0, 1) := by decide +kernel
theorem dL_law_102 : decode cL_law 102 = .ok (.iload_n 3, 1) := by decide +kernel
theorem dL_law_103 : decode cL_law 103 = .ok (.iconst 1, 1) := by decide +kernel
theorem dL_law_104 : decode cL_law 104 = .ok (.iadd, 1) := by decide +kernel
theorem dL_law_105 : decode cL_law 105 = .ok (.iaload, 1) := by decide +kernel
theorem dL_law_106 : decode cL_law 106 = .ok (.aload_n 0, 1) := by decide +kernel
theorem dL_law_107 : decode cL_law 107 = .ok (.iload_n 3, 1) := by decide +kernel
theorem dL_law_108 : decode cL_law 108 = .ok (.iconst 2, 1) := by decide +kernel
theorem dL_law_109 : decode cL_law 109 = .ok (.iadd, 1) := by decide +kernel
theorem dL_law_110 : decode cL_law 110 = .ok (.iaload, 1) := by decide +kernel
theorem dL_law_111 : decode cL_law 111 = .ok (.aload_n 0, 1) := by decide +kernel
theorem dL_law_112 : decode cL_law 112 = .ok (.iload_n 3, 1) := by decide +kernel
theorem dL_law_113 : decode cL_law 113 = .ok (.iconst 3, 1) := by decide +kernel
theorem dL_law_114 : decode cL_law 114 = .ok (.iadd, 1) := by decide +kernel
theorem dL_law_115 : decode cL_law 115 = .ok (.iaload, 1) := by decide +kernel
theorem dL_law_116 : decode cL_law 116 = .ok (.invokevirtual 13, 3) := by decide +kernel
theorem dL_law_119 : decode cL_law 119 = .ok (.aload_n 2, 1) := by decide +kernel
theorem dL_law_120 : decode cL_law 120 = .ok (.aload_n 0, 1) := by decide +kernel
theorem dL_law_121 : decode cL_law 121 = .ok (.iload_n 3, 1) := by decide +kernel
theorem dL_law_122 : decode cL_law 122 = .ok (.iconst 1, 1) := by decide +kernel
theorem dL_law_123 : decode cL_law 123 = .ok (.iadd, 1) := by decide +kernel
theorem dL_law_124 : decode cL_law 124 = .ok (.iaload, 1) := by decide +kernel
theorem dL_law_125 : decode cL_law 125 = .ok (.aload_n 0, 1) := by decide +kernel
theorem dL_law_126 : decode cL_law 126 = .ok (.iload_n 3, 1) := by decide +kernel
theorem dL_law_127 : decode cL_law 127 = .ok (.iconst 2, 1) := by decide +kernel
theorem dL_law_128 : decode cL_law 128 = .ok (.iadd, 1) := by decide +kernel
theorem dL_law_129 : decode cL_law 129 = .ok (.iaload, 1) := by decide +kernel
theorem dL_law_130 : decode cL_law 130 = .ok (.aload_n 0, 1) := by decide +kernel
theorem dL_law_131 : decode cL_law 131 = .ok (.iload_n 3, 1) := by decide +kernel
theorem dL_law_132 : decode cL_law 132 = .ok (.iconst 3, 1) := by decide +kernel
theorem dL_law_133 : decode cL_law 133 = .ok (.iadd, 1) := by decide +kernel
theorem dL_law_134 : decode cL_law 134 = .ok (.iaload, 1) := by decide +kernel
theorem dL_law_135 : decode cL_law 135 = .ok (.invokevirtual 17, 3) := by decide +kernel
theorem dL_law_138 : decode cL_law 138 = .ok (.if_icmp .eq 361, 3) := by decide +kernel
theorem dL_law_141 : decode cL_law 141 = .ok (.iconst 0, 1) := by decide +kernel
theorem dL_law_142 : decode cL_law 142 = .ok (.ireturn, 1) := by decide +kernel
theorem dL_law_143 : decode cL_law 143 = .ok (.aload_n 1, 1) := by decide +kernel
theorem dL_law_144 : decode cL_law 144 = .ok (.aload_n 0, 1) := by decide +kernel
theorem dL_law_145 : decode cL_law 145 = .ok (.iload_n 3, 1) := by decide +kernel
theorem dL_law_146 : decode cL_law 146 = .ok (.iconst 1, 1) := by decide +kernel
theorem dL_law_147 : decode cL_law 147 = .ok (.iadd, 1) := by decide +kernel
theorem dL_law_148 : decode cL_law 148 = .ok (.iaload, 1) := by decide +kernel
theorem dL_law_149 : decode cL_law 149 = .ok (.aload_n 0, 1) := by decide +kernel
theorem dL_law_150 : decode cL_law 150 = .ok (.iload_n 3, 1) := by decide +kernel
theorem dL_law_151 : decode cL_law 151 = .ok (.iconst 2, 1) := by decide +kernel
theorem dL_law_152 : decode cL_law 152 = .ok (.iadd, 1) := by decide +kernel
theorem dL_law_153 : decode cL_law 153 = .ok (.iaload, 1) := by decide +kernel
theorem dL_law_154 : decode cL_law 154 = .ok (.invokevirtual 18, 3) := by decide +kernel
theorem dL_law_157 : decode cL_law 157 = .ok (.aload_n 2, 1) := by decide +kernel
theorem dL_law_158 : decode cL_law 158 = .ok (.aload_n 0, 1) := by decide +kernel
theorem dL_law_159 : decode cL_law 159 = .ok (.iload_n 3, 1) := by decide +kernel
theorem dL_law_160 : decode cL_law 160 = .ok (.iconst 1, 1) := by decide +kernel
theorem dL_law_161 : decode cL_law 161 = .ok (.iadd, 1) := by decide +kernel
theorem dL_law_162 : decode cL_law 162 = .ok (.iaload, 1) := by decide +kernel
theorem dL_law_163 : decode cL_law 163 = .ok (.aload_n 0, 1) := by decide +kernel
theorem dL_law_164 : decode cL_law 164 = .ok (.iload_n 3, 1) := by decide +kernel
theorem dL_law_165 : decode cL_law 165 = .ok (.iconst 2, 1) := by decide +kernel
theorem dL_law_166 : decode cL_law 166 = .ok (.iadd, 1) := by decide +kernel
theorem dL_law_167 : decode cL_law 167 = .ok (.iaload, 1) := by decide +kernel
theorem dL_law_168 : decode cL_law 168 = .ok (.invokevirtual 22, 3) := by decide +kernel
theorem dL_law_171 : decode cL_law 171 = .ok (.if_icmp .eq 328, 3) := by decide +kernel
theorem dL_law_174 : decode cL_law 174 = .ok (.iconst 0, 1) := by decide +kernel
theorem dL_law_175 : decode cL_law 175 = .ok (.ireturn, 1) := by decide +kernel
theorem dL_law_176 : decode cL_law 176 = .ok (.aload_n 1, 1) := by decide +kernel
end
section
set_option maxRecDepth 100000
theorem dL_law_177 : decode cL_law 177 = .ok (.aload_n 0, 1) := by decide +kernel
theorem dL_law_178 : decode cL_law 178 = .ok (.iload_n 3, 1) := by decide +kernel
theorem dL_law_179 : decode cL_law 179 = .ok (.iconst 1, 1) := by decide +kernel
theorem dL_law_180 : decode cL_law 180 = .ok (.iadd, 1) := by decide +kernel
theorem dL_law_181 : decode cL_law 181 = .ok (.iaload, 1) := by decide +kernel
theorem dL_law_182 : decode cL_law 182 = .ok (.invokevirtual 23, 3) := by decide +kernel
theorem dL_law_185 : decode cL_law 185 = .ok (.aload_n 2, 1) := by decide +kernel
theorem dL_law_186 : decode cL_law 186 = .ok (.aload_n 0, 1) := by decide +kernel
theorem dL_law_187 : decode cL_law 187 = .ok (.iload_n 3, 1) := by decide +kernel
theorem dL_law_188 : decode cL_law 188 = .ok (.iconst 1, 1) := by decide +kernel
theorem dL_law_189 : decode cL_law 189 = .ok (.iadd, 1) := by decide +kernel
theorem dL_law_190 : decode cL_law 190 = .ok (.iaload, 1) := by decide +kernel
theorem dL_law_191 : decode cL_law 191 = .ok (.invokevirtual 27, 3) := by decide +kernel
theorem dL_law_194 : decode cL_law 194 = .ok (.if_icmp .eq 305, 3) := by decide +kernel
theorem dL_law_197 : decode cL_law 197 = .ok (.iconst 0, 1) := by decide +kernel
theorem dL_law_198 : decode cL_law 198 = .ok (.ireturn, 1) := by decide +kernel
theorem dL_law_199 : decode cL_law 199 = .ok (.aload_n 1, 1) := by decide +kernel
theorem dL_law_200 : decode cL_law 200 = .ok (.invokevirtual 28, 3) := by decide +kernel
theorem dL_law_203 : decode cL_law 203 = .ok (.aload_n 2, 1) := by decide +kernel
theorem dL_law_204 : decode cL_law 204 = .ok (.invokevirtual 32, 3) := by decide +kernel
theorem dL_law_207 : decode cL_law 207 = .ok (.if_icmp .eq 292, 3) := by decide +kernel
theorem dL_law_210 : decode cL_law 210 = .ok (.iconst 0, 1) := by decide +kernel
theorem dL_law_211 : decode cL_law 211 = .ok (.ireturn, 1) := by decide +kernel
theorem dL_law_212 : decode cL_law 212 = .ok (.aload_n 1, 1) := by decide +kernel
theorem dL_law_213 : decode cL_law 213 = .ok (.invokevirtual 33, 3) := by decide +kernel
theorem dL_law_216 : decode cL_law 216 = .ok (.aload_n 2, 1) := by decide +kernel
theorem dL_law_217 : decode cL_law 217 = .ok (.invokevirtual 36, 3) := by decide +kernel
theorem dL_law_220 : decode cL_law 220 = .ok (.if_icmp .eq 279, 3) := by decide +kernel
theorem dL_law_223 : decode cL_law 223 = .ok (.iconst 0, 1) := by decide +kernel
theorem dL_law_224 : decode cL_law 224 = .ok (.ireturn, 1) := by decide +kernel
theorem dL_law_225 : decode cL_law 225 = .ok (.aload_n 1, 1) := by decide +kernel
theorem dL_law_226 : decode cL_law 226 = .ok (.aload_n 0, 1) := by decide +kernel
theorem dL_law_227 : decode cL_law 227 = .ok (.iload_n 3, 1) := by decide +kernel
theorem dL_law_228 : decode cL_law 228 = .ok (.iconst 1, 1) := by decide +kernel
theorem dL_law_229 : decode cL_law 229 = .ok (.iadd, 1) := by decide +kernel
theorem dL_law_230 : decode cL_law 230 = .ok (.iaload, 1) := by decide +kernel
theorem dL_law_231 : decode cL_law 231 = .ok (.aload_n 0, 1) := by decide +kernel
theorem dL_law_232 : decode cL_law 232 = .ok (.iload_n 3, 1) := by decide +kernel
theorem dL_law_233 : decode cL_law 233 = .ok (.iconst 2, 1) := by decide +kernel
theorem dL_law_234 : decode cL_law 234 = .ok (.iadd, 1) := by decide +kernel
theorem dL_law_235 : decode cL_law 235 = .ok (.iaload, 1) := by decide +kernel
theorem dL_law_236 : decode cL_law 236 = .ok (.invokevirtual 37, 3) := by decide +kernel
theorem dL_law_239 : decode cL_law 239 = .ok (.aload_n 2, 1) := by decide +kernel
theorem dL_law_240 : decode cL_law 240 = .ok (.aload_n 0, 1) := by decide +kernel
theorem dL_law_241 : decode cL_law 241 = .ok (.iload_n 3, 1) := by decide +kernel
theorem dL_law_242 : decode cL_law 242 = .ok (.iconst 1, 1) := by decide +kernel
theorem dL_law_243 : decode cL_law 243 = .ok (.iadd, 1) := by decide +kernel
theorem dL_law_244 : decode cL_law 244 = .ok (.iaload, 1) := by decide +kernel
theorem dL_law_245 : decode cL_law 245 = .ok (.aload_n 0, 1) := by decide +kernel
theorem dL_law_246 : decode cL_law 246 = .ok (.iload_n 3, 1) := by decide +kernel
theorem dL_law_247 : decode cL_law 247 = .ok (.iconst 2, 1) := by decide +kernel
theorem dL_law_248 : decode cL_law 248 = .ok (.iadd, 1) := by decide +kernel
theorem dL_law_249 : decode cL_law 249 = .ok (.iaload, 1) := by decide +kernel
theorem dL_law_250 : decode cL_law 250 = .ok (.invokevirtual 40, 3) := by decide +kernel
theorem dL_law_253 : decode cL_law 253 = .ok (.if_icmp .eq 246, 3) := by decide +kernel
theorem dL_law_256 : decode cL_law 256 = .ok (.iconst 0, 1) := by decide +kernel
theorem dL_law_257 : decode cL_law 257 = .ok (.ireturn, 1) := by decide +kernel
theorem dL_law_258 : decode cL_law 258 = .ok (.aload_n 1, 1) := by decide +kernel
theorem dL_law_259 : decode cL_law 259 = .ok (.aload_n 0, 1) := by decide +kernel
theorem dL_law_260 : decode cL_law 260 = .ok (.iload_n 3, 1) := by decide +kernel
theorem dL_law_261 : decode cL_law 261 = .ok (.iconst 1, 1) := by decide +kernel
theorem dL_law_262 : decode cL_law 262 = .ok (.iadd, 1) := by decide +kernel
theorem dL_law_263 : decode cL_law 263 = .ok (.iaload, 1) := by decide +kernel
theorem dL_law_264 : decode cL_law 264 = .ok (.aload_n 0, 1) := by decide +kernel
theorem dL_law_265 : decode cL_law 265 = .ok (.iload_n 3, 1) := by decide +kernel
theorem dL_law_266 : decode cL_law 266 = .ok (.iconst 2, 1) := by decide +kernel
theorem dL_law_267 : decode cL_law 267 = .ok (.iadd, 1) := by decide +kernel
theorem dL_law_268 : decode cL_law 268 = .ok (.iaload, 1) := by decide +kernel
theorem dL_law_269 : decode cL_law 269 = .ok (.invokevirtual 41, 3) := by decide +kernel
theorem dL_law_272 : decode cL_law 272 = .ok (.aload_n 2, 1) := by decide +kernel
theorem dL_law_273 : decode cL_law 273 = .ok (.aload_n 0, 1) := by decide +kernel
theorem dL_law_274 : decode cL_law 274 = .ok (.iload_n 3, 1) := by decide +kernel
theorem dL_law_275 : decode cL_law 275 = .ok (.iconst 1, 1) := by decide +kernel
theorem dL_law_276 : decode cL_law 276 = .ok (.iadd, 1) := by decide +kernel
theorem dL_law_277 : decode cL_law 277 = .ok (.iaload, 1) := by decide +kernel
theorem dL_law_278 : decode cL_law 278 = .ok (.aload_n 0, 1) := by decide +kernel
theorem dL_law_279 : decode cL_law 279 = .ok (.iload_n 3, 1) := by decide +kernel
theorem dL_law_280 : decode cL_law 280 = .ok (.iconst 2, 1) := by decide +kernel
theorem dL_law_281 : decode cL_law 281 = .ok (.iadd, 1) := by decide +kernel
theorem dL_law_282 : decode cL_law 282 = .ok (.iaload, 1) := by decide +kernel
theorem dL_law_283 : decode cL_law 283 = .ok (.invokevirtual 44, 3) := by decide +kernel
theorem dL_law_286 : decode cL_law 286 = .ok (.if_icmp .eq 213, 3) := by decide +kernel
theorem dL_law_289 : decode cL_law 289 = .ok (.iconst 0, 1) := by decide +kernel
theorem dL_law_290 : decode cL_law 290 = .ok (.ireturn, 1) := by decide +kernel
theorem dL_law_291 : decode cL_law 291 = .ok (.aload_n 1, 1) := by decide +kernel
theorem dL_law_292 : decode cL_law 292 = .ok (.aload_n 0, 1) := by decide +kernel
theorem dL_law_293 : decode cL_law 293 = .ok (.iload_n 3, 1) := by decide +kernel
end
section
set_option maxRecDepth 100000
theorem dL_law_294 : decode cL_law 294 = .ok (.iconst 1, 1) := by decide +kernel
theorem dL_law_295 : decode cL_law 295 = .ok (.iadd, 1) := by decide +kernel
theorem dL_law_296 : decode cL_law 296 = .ok (.iaload, 1) := by decide +kernel
theorem dL_law_297 : decode cL_law 297 = .ok (.aload_n 0, 1) := by decide +kernel
theorem dL_law_298 : decode cL_law 298 = .ok (.iload_n 3, 1) := by decide +kernel
theorem dL_law_299 : decode cL_law 299 = .ok (.iconst 2, 1) := by decide +kernel
theorem dL_law_300 : decode cL_law 300 = .ok (.iadd, 1) := by decide +kernel
theorem dL_law_301 : decode cL_law 301 = .ok (.iaload, 1) := by decide +kernel
theorem dL_law_302 : decode cL_law 302 = .ok (.invokevirtual 45, 3) := by decide +kernel
theorem dL_law_305 : decode cL_law 305 = .ok (.aload_n 2, 1) := by decide +kernel
theorem dL_law_306 : decode cL_law 306 = .ok (.aload_n 0, 1) := by decide +kernel
theorem dL_law_307 : decode cL_law 307 = .ok (.iload_n 3, 1) := by decide +kernel
theorem dL_law_308 : decode cL_law 308 = .ok (.iconst 1, 1) := by decide +kernel
theorem dL_law_309 : decode cL_law 309 = .ok (.iadd, 1) := by decide +kernel
theorem dL_law_310 : decode cL_law 310 = .ok (.iaload, 1) := by decide +kernel
theorem dL_law_311 : decode cL_law 311 = .ok (.aload_n 0, 1) := by decide +kernel
theorem dL_law_312 : decode cL_law 312 = .ok (.iload_n 3, 1) := by decide +kernel
theorem dL_law_313 : decode cL_law 313 = .ok (.iconst 2, 1) := by decide +kernel
theorem dL_law_314 : decode cL_law 314 = .ok (.iadd, 1) := by decide +kernel
theorem dL_law_315 : decode cL_law 315 = .ok (.iaload, 1) := by decide +kernel
theorem dL_law_316 : decode cL_law 316 = .ok (.invokevirtual 48, 3) := by decide +kernel
theorem dL_law_319 : decode cL_law 319 = .ok (.if_icmp .eq 180, 3) := by decide +kernel
theorem dL_law_322 : decode cL_law 322 = .ok (.iconst 0, 1) := by decide +kernel
theorem dL_law_323 : decode cL_law 323 = .ok (.ireturn, 1) := by decide +kernel
theorem dL_law_324 : decode cL_law 324 = .ok (.aload_n 1, 1) := by decide +kernel
theorem dL_law_325 : decode cL_law 325 = .ok (.aload_n 0, 1) := by decide +kernel
theorem dL_law_326 : decode cL_law 326 = .ok (.iload_n 3, 1) := by decide +kernel
theorem dL_law_327 : decode cL_law 327 = .ok (.iconst 1, 1) := by decide +kernel
theorem dL_law_328 : decode cL_law 328 = .ok (.iadd, 1) := by decide +kernel
theorem dL_law_329 : decode cL_law 329 = .ok (.iaload, 1) := by decide +kernel
theorem dL_law_330 : decode cL_law 330 = .ok (.aload_n 0, 1) := by decide +kernel
theorem dL_law_331 : decode cL_law 331 = .ok (.iload_n 3, 1) := by decide +kernel
theorem dL_law_332 : decode cL_law 332 = .ok (.iconst 2, 1) := by decide +kernel
theorem dL_law_333 : decode cL_law 333 = .ok (.iadd, 1) := by decide +kernel
theorem dL_law_334 : decode cL_law 334 = .ok (.iaload, 1) := by decide +kernel
theorem dL_law_335 : decode cL_law 335 = .ok (.invokevirtual 49, 3) := by decide +kernel
theorem dL_law_338 : decode cL_law 338 = .ok (.aload_n 2, 1) := by decide +kernel
theorem dL_law_339 : decode cL_law 339 = .ok (.aload_n 0, 1) := by decide +kernel
theorem dL_law_340 : decode cL_law 340 = .ok (.iload_n 3, 1) := by decide +kernel
theorem dL_law_341 : decode cL_law 341 = .ok (.iconst 1, 1) := by decide +kernel
theorem dL_law_342 : decode cL_law 342 = .ok (.iadd, 1) := by decide +kernel
theorem dL_law_343 : decode cL_law 343 = .ok (.iaload, 1) := by decide +kernel
theorem dL_law_344 : decode cL_law 344 = .ok (.aload_n 0, 1) := by decide +kernel
theorem dL_law_345 : decode cL_law 345 = .ok (.iload_n 3, 1) := by decide +kernel
theorem dL_law_346 : decode cL_law 346 = .ok (.iconst 2, 1) := by decide +kernel
theorem dL_law_347 : decode cL_law 347 = .ok (.iadd, 1) := by decide +kernel
theorem dL_law_348 : decode cL_law 348 = .ok (.iaload, 1) := by decide +kernel
theorem dL_law_349 : decode cL_law 349 = .ok (.invokevirtual 52, 3) := by decide +kernel
theorem dL_law_352 : decode cL_law 352 = .ok (.if_icmp .eq 147, 3) := by decide +kernel
theorem dL_law_355 : decode cL_law 355 = .ok (.iconst 0, 1) := by decide +kernel
theorem dL_law_356 : decode cL_law 356 = .ok (.ireturn, 1) := by decide +kernel
theorem dL_law_357 : decode cL_law 357 = .ok (.aload_n 1, 1) := by decide +kernel
theorem dL_law_358 : decode cL_law 358 = .ok (.aload_n 0, 1) := by decide +kernel
theorem dL_law_359 : decode cL_law 359 = .ok (.iload_n 3, 1) := by decide +kernel
theorem dL_law_360 : decode cL_law 360 = .ok (.iconst 1, 1) := by decide +kernel
theorem dL_law_361 : decode cL_law 361 = .ok (.iadd, 1) := by decide +kernel
theorem dL_law_362 : decode cL_law 362 = .ok (.iaload, 1) := by decide +kernel
theorem dL_law_363 : decode cL_law 363 = .ok (.invokevirtual 53, 3) := by decide +kernel
theorem dL_law_366 : decode cL_law 366 = .ok (.aload_n 2, 1) := by decide +kernel
theorem dL_law_367 : decode cL_law 367 = .ok (.aload_n 0, 1) := by decide +kernel
theorem dL_law_368 : decode cL_law 368 = .ok (.iload_n 3, 1) := by decide +kernel
theorem dL_law_369 : decode cL_law 369 = .ok (.iconst 1, 1) := by decide +kernel
theorem dL_law_370 : decode cL_law 370 = .ok (.iadd, 1) := by decide +kernel
theorem dL_law_371 : decode cL_law 371 = .ok (.iaload, 1) := by decide +kernel
theorem dL_law_372 : decode cL_law 372 = .ok (.invokevirtual 56, 3) := by decide +kernel
theorem dL_law_375 : decode cL_law 375 = .ok (.if_icmp .eq 124, 3) := by decide +kernel
theorem dL_law_378 : decode cL_law 378 = .ok (.iconst 0, 1) := by decide +kernel
theorem dL_law_379 : decode cL_law 379 = .ok (.ireturn, 1) := by decide +kernel
theorem dL_law_380 : decode cL_law 380 = .ok (.aload_n 1, 1) := by decide +kernel
theorem dL_law_381 : decode cL_law 381 = .ok (.aload_n 0, 1) := by decide +kernel
theorem dL_law_382 : decode cL_law 382 = .ok (.iload_n 3, 1) := by decide +kernel
theorem dL_law_383 : decode cL_law 383 = .ok (.iconst 1, 1) := by decide +kernel
theorem dL_law_384 : decode cL_law 384 = .ok (.iadd, 1) := by decide +kernel
theorem dL_law_385 : decode cL_law 385 = .ok (.iaload, 1) := by decide +kernel
theorem dL_law_386 : decode cL_law 386 = .ok (.aload_n 0, 1) := by decide +kernel
theorem dL_law_387 : decode cL_law 387 = .ok (.iload_n 3, 1) := by decide +kernel
theorem dL_law_388 : decode cL_law 388 = .ok (.iconst 2, 1) := by decide +kernel
theorem dL_law_389 : decode cL_law 389 = .ok (.iadd, 1) := by decide +kernel
theorem dL_law_390 : decode cL_law 390 = .ok (.iaload, 1) := by decide +kernel
theorem dL_law_391 : decode cL_law 391 = .ok (.invokevirtual 57, 3) := by decide +kernel
theorem dL_law_394 : decode cL_law 394 = .ok (.aload_n 2, 1) := by decide +kernel
theorem dL_law_395 : decode cL_law 395 = .ok (.aload_n 0, 1) := by decide +kernel
theorem dL_law_396 : decode cL_law 396 = .ok (.iload_n 3, 1) := by decide +kernel
theorem dL_law_397 : decode cL_law 397 = .ok (.iconst 1, 1) := by decide +kernel
theorem dL_law_398 : decode cL_law 398 = .ok (.iadd, 1) := by decide +kernel
theorem dL_law_399 : decode cL_law 399 = .ok (.iaload, 1) := by decide +kernel
theorem dL_law_400 : decode cL_law 400 = .ok (.aload_n 0, 1) := by decide +kernel
end
section
set_option maxRecDepth 100000
theorem dL_law_401 : decode cL_law 401 = .ok (.iload_n 3, 1) := by decide +kernel
theorem dL_law_402 : decode cL_law 402 = .ok (.iconst 2, 1) := by decide +kernel
theorem dL_law_403 : decode cL_law 403 = .ok (.iadd, 1) := by decide +kernel
theorem dL_law_404 : decode cL_law 404 = .ok (.iaload, 1) := by decide +kernel
theorem dL_law_405 : decode cL_law 405 = .ok (.invokevirtual 60, 3) := by decide +kernel
theorem dL_law_408 : decode cL_law 408 = .ok (.if_icmp .eq 91, 3) := by decide +kernel
theorem dL_law_411 : decode cL_law 411 = .ok (.iconst 0, 1) := by decide +kernel
theorem dL_law_412 : decode cL_law 412 = .ok (.ireturn, 1) := by decide +kernel
theorem dL_law_413 : decode cL_law 413 = .ok (.aload_n 1, 1) := by decide +kernel
theorem dL_law_414 : decode cL_law 414 = .ok (.aload_n 0, 1) := by decide +kernel
theorem dL_law_415 : decode cL_law 415 = .ok (.iload_n 3, 1) := by decide +kernel
theorem dL_law_416 : decode cL_law 416 = .ok (.iconst 1, 1) := by decide +kernel
theorem dL_law_417 : decode cL_law 417 = .ok (.iadd, 1) := by decide +kernel
theorem dL_law_418 : decode cL_law 418 = .ok (.iaload, 1) := by decide +kernel
theorem dL_law_419 : decode cL_law 419 = .ok (.aload_n 0, 1) := by decide +kernel
theorem dL_law_420 : decode cL_law 420 = .ok (.iload_n 3, 1) := by decide +kernel
theorem dL_law_421 : decode cL_law 421 = .ok (.iconst 2, 1) := by decide +kernel
theorem dL_law_422 : decode cL_law 422 = .ok (.iadd, 1) := by decide +kernel
theorem dL_law_423 : decode cL_law 423 = .ok (.iaload, 1) := by decide +kernel
theorem dL_law_424 : decode cL_law 424 = .ok (.invokevirtual 61, 3) := by decide +kernel
theorem dL_law_427 : decode cL_law 427 = .ok (.aload_n 2, 1) := by decide +kernel
theorem dL_law_428 : decode cL_law 428 = .ok (.aload_n 0, 1) := by decide +kernel
theorem dL_law_429 : decode cL_law 429 = .ok (.iload_n 3, 1) := by decide +kernel
theorem dL_law_430 : decode cL_law 430 = .ok (.iconst 1, 1) := by decide +kernel
theorem dL_law_431 : decode cL_law 431 = .ok (.iadd, 1) := by decide +kernel
theorem dL_law_432 : decode cL_law 432 = .ok (.iaload, 1) := by decide +kernel
theorem dL_law_433 : decode cL_law 433 = .ok (.aload_n 0, 1) := by decide +kernel
theorem dL_law_434 : decode cL_law 434 = .ok (.iload_n 3, 1) := by decide +kernel
theorem dL_law_435 : decode cL_law 435 = .ok (.iconst 2, 1) := by decide +kernel
theorem dL_law_436 : decode cL_law 436 = .ok (.iadd, 1) := by decide +kernel
theorem dL_law_437 : decode cL_law 437 = .ok (.iaload, 1) := by decide +kernel
theorem dL_law_438 : decode cL_law 438 = .ok (.invokevirtual 64, 3) := by decide +kernel
theorem dL_law_441 : decode cL_law 441 = .ok (.if_icmp .eq 58, 3) := by decide +kernel
theorem dL_law_444 : decode cL_law 444 = .ok (.iconst 0, 1) := by decide +kernel
theorem dL_law_445 : decode cL_law 445 = .ok (.ireturn, 1) := by decide +kernel
theorem dL_law_446 : decode cL_law 446 = .ok (.aload_n 1, 1) := by decide +kernel
theorem dL_law_447 : decode cL_law 447 = .ok (.aload_n 0, 1) := by decide +kernel
theorem dL_law_448 : decode cL_law 448 = .ok (.iload_n 3, 1) := by decide +kernel
theorem dL_law_449 : decode cL_law 449 = .ok (.iconst 1, 1) := by decide +kernel
theorem dL_law_450 : decode cL_law 450 = .ok (.iadd, 1) := by decide +kernel
theorem dL_law_451 : decode cL_law 451 = .ok (.iaload, 1) := by decide +kernel
theorem dL_law_452 : decode cL_law 452 = .ok (.aload_n 0, 1) := by decide +kernel
theorem dL_law_453 : decode cL_law 453 = .ok (.iload_n 3, 1) := by decide +kernel
theorem dL_law_454 : decode cL_law 454 = .ok (.iconst 2, 1) := by decide +kernel
theorem dL_law_455 : decode cL_law 455 = .ok (.iadd, 1) := by decide +kernel
theorem dL_law_456 : decode cL_law 456 = .ok (.iaload, 1) := by decide +kernel
theorem dL_law_457 : decode cL_law 457 = .ok (.aload_n 0, 1) := by decide +kernel
theorem dL_law_458 : decode cL_law 458 = .ok (.iload_n 3, 1) := by decide +kernel
theorem dL_law_459 : decode cL_law 459 = .ok (.iconst 3, 1) := by decide +kernel
theorem dL_law_460 : decode cL_law 460 = .ok (.iadd, 1) := by decide +kernel
theorem dL_law_461 : decode cL_law 461 = .ok (.iaload, 1) := by decide +kernel
theorem dL_law_462 : decode cL_law 462 = .ok (.aload_n 0, 1) := by decide +kernel
theorem dL_law_463 : decode cL_law 463 = .ok (.iload_n 3, 1) := by decide +kernel
theorem dL_law_464 : decode cL_law 464 = .ok (.iconst 4, 1) := by decide +kernel
theorem dL_law_465 : decode cL_law 465 = .ok (.iadd, 1) := by decide +kernel
theorem dL_law_466 : decode cL_law 466 = .ok (.iaload, 1) := by decide +kernel
theorem dL_law_467 : decode cL_law 467 = .ok (.invokevirtual 65, 3) := by decide +kernel
theorem dL_law_470 : decode cL_law 470 = .ok (.aload_n 2, 1) := by decide +kernel
theorem dL_law_471 : decode cL_law 471 = .ok (.aload_n 0, 1) := by decide +kernel
theorem dL_law_472 : decode cL_law 472 = .ok (.iload_n 3, 1) := by decide +kernel
theorem dL_law_473 : decode cL_law 473 = .ok (.iconst 1, 1) := by decide +kernel
theorem dL_law_474 : decode cL_law 474 = .ok (.iadd, 1) := by decide +kernel
theorem dL_law_475 : decode cL_law 475 = .ok (.iaload, 1) := by decide +kernel
theorem dL_law_476 : decode cL_law 476 = .ok (.aload_n 0, 1) := by decide +kernel
theorem dL_law_477 : decode cL_law 477 = .ok (.iload_n 3, 1) := by decide +kernel
theorem dL_law_478 : decode cL_law 478 = .ok (.iconst 2, 1) := by decide +kernel
theorem dL_law_479 : decode cL_law 479 = .ok (.iadd, 1) := by decide +kernel
theorem dL_law_480 : decode cL_law 480 = .ok (.iaload, 1) := by decide +kernel
theorem dL_law_481 : decode cL_law 481 = .ok (.aload_n 0, 1) := by decide +kernel
theorem dL_law_482 : decode cL_law 482 = .ok (.iload_n 3, 1) := by decide +kernel
theorem dL_law_483 : decode cL_law 483 = .ok (.iconst 3, 1) := by decide +kernel
theorem dL_law_484 : decode cL_law 484 = .ok (.iadd, 1) := by decide +kernel
theorem dL_law_485 : decode cL_law 485 = .ok (.iaload, 1) := by decide +kernel
theorem dL_law_486 : decode cL_law 486 = .ok (.aload_n 0, 1) := by decide +kernel
theorem dL_law_487 : decode cL_law 487 = .ok (.iload_n 3, 1) := by decide +kernel
theorem dL_law_488 : decode cL_law 488 = .ok (.iconst 4, 1) := by decide +kernel
theorem dL_law_489 : decode cL_law 489 = .ok (.iadd, 1) := by decide +kernel
theorem dL_law_490 : decode cL_law 490 = .ok (.iaload, 1) := by decide +kernel
theorem dL_law_491 : decode cL_law 491 = .ok (.invokevirtual 69, 3) := by decide +kernel
theorem dL_law_494 : decode cL_law 494 = .ok (.if_icmp .eq 5, 3) := by decide +kernel
theorem dL_law_497 : decode cL_law 497 = .ok (.iconst 0, 1) := by decide +kernel
theorem dL_law_498 : decode cL_law 498 = .ok (.ireturn, 1) := by decide +kernel
theorem dL_law_499 : decode cL_law 499 = .ok (.iinc 3 5, 3) := by decide +kernel
theorem dL_law_502 : decode cL_law 502 = .ok (.goto (-484), 3) := by decide +kernel
theorem dL_law_505 : decode cL_law 505 = .ok (.iconst 1, 1) := by decide +kernel
theorem dL_law_506 : decode cL_law 506 = .ok (.ireturn, 1) := by decide +kernel
end
section
set_option maxRecDepth 100000
abbrev vwCl : List vw_C := [(RX0, TX0, 9), (RX1, TX1, 1)]
/-- an int array that holds natural numbers -/
def nA (c : Nat → Nat) : Nat → Int32 := fun j => nI (c j)
theorem nA_up (c : Nat → Nat) (k v : Nat) : upd (nA c) k (nI v) = nA (va_up c k v) := by
  funext j
  by_cases h : j = k
  · simp [upd, nA, va_up, h]
  · simp [upd, nA, va_up, h]
theorem nA_at (c : Nat → Nat) {k : Nat} (hk : k < 2 ^ 31) : nA c (nI k).toNatClampNeg = nI (c k) := by
  unfold nA
  rw [nI_clamp hk]
def b2i (t : Bool) : Int32 := if t = true then 1 else 0
theorem b2i_0 {t : Bool} : b2i t = 0 ↔ t = false := by cases t <;> decide
theorem b2i_or (t : Bool) : b2i t = 0 ∨ b2i t = 1 := by cases t <;> decide
theorem s_l : ∀ n, n < 32 → ((nI n &&& 31).toBitVec.smod 32).toNat = n := by decide +kernel
theorem nx_and (a b : Nat) : nI a &&& nI b = nI (a &&& b) := by
  apply Int32.toBitVec_inj.1
  show BitVec.ofNat 32 a &&& BitVec.ofNat 32 b = BitVec.ofNat 32 (a &&& b)
  apply BitVec.eq_of_getLsbD_eq
  intro i hi
  simp [hi]
theorem nx_or (a b : Nat) : nI a ||| nI b = nI (a ||| b) := by
  apply Int32.toBitVec_inj.1
  show BitVec.ofNat 32 a ||| BitVec.ofNat 32 b = BitVec.ofNat 32 (a ||| b)
  apply BitVec.eq_of_getLsbD_eq
  intro i hi
  simp [hi]
theorem nx_shl {a : Nat} (h : a < 31) : nI 1 <<< (nI a &&& 31) = nI (2 ^ a) := by
  rw [pk_shlN (n := 1) (nI a &&& 31) a (s_l a (by omega)) (by rw [Nat.one_mul]; exact Nat.pow_lt_pow_right (by omega) (by omega)), Nat.one_mul]
theorem nx_shr {n a : Nat} (hn : n < 2 ^ 31) (h : a < 32) : nI n >>> (nI a &&& 31) = nI (n / 2 ^ a) := pk_shrN hn (nI a &&& 31) a (s_l a h)
theorem nx_and1 (n : Nat) : nI n &&& nI 1 = nI (n % 2) := by rw [nx_and, Nat.and_one_is_mod]
theorem nx_bit {n a : Nat} (hn : n < 2 ^ 31) (h : a < 32) : (nI n >>> (nI a &&& 31)) &&& nI 1 = b2i (n.testBit a) := by
  rw [nx_shr hn h, nx_and1, Nat.testBit_eq_decide_div_mod_eq]
  rcases Nat.mod_two_eq_zero_or_one (n / 2 ^ a) with e | e <;> rw [e] <;> rfl
theorem nx_not : ∀ a, a < 64 → ∀ b, b < 64 → nI a &&& (nI b ^^^ (-1)) = nI (a &&& (63 ^^^ b)) := by
  intro a ha b hb
  apply Int32.toBitVec_inj.1
  show BitVec.ofNat 32 a &&& (BitVec.ofNat 32 b ^^^ BitVec.allOnes 32) = BitVec.ofNat 32 (a &&& (63 ^^^ b))
  apply BitVec.eq_of_getLsbD_eq
  intro i hi
  rw [BitVec.getLsbD_and, BitVec.getLsbD_xor, BitVec.getLsbD_allOnes, BitVec.getLsbD_ofNat, BitVec.getLsbD_ofNat, BitVec.getLsbD_ofNat, Nat.testBit_and, Nat.testBit_xor]
  by_cases h6 : i < 6
  · have : Nat.testBit 63 i = true := (by decide : ∀ i, i < 6 → Nat.testBit 63 i = true) i h6
    rw [this]
    simp [hi]
  · have : Nat.testBit a i = false := Nat.testBit_lt_two_pow (Nat.lt_of_lt_of_le ha (Nat.pow_le_pow_right (by omega) (Nat.not_lt.mp h6) : 2 ^ 6 ≤ 2 ^ i))
    rw [this]
    simp
theorem nx_i2b : ∀ n, n < 128 → (nI n).toInt8.toInt32 = nI n := by decide +kernel
theorem nx_nar {n : Nat} (h : n < 128) : vp_nar .byte (nI n) = nI n := by rw [vp_nar_byte]; exact nx_i2b n h
theorem nx_narm : vp_nar .byte (-1) = -1 := by decide +kernel
/-- the rooms: k frames below -/
abbrev rmL (k : Nat) : Room := { frames := k, cells := 0, slots := 0, locals := 27 * k }
section NROWS
variable {p : Program} {l : Launch} {e : Env} {R : Room} {s : State} {m : MethodId} {args : Array Value} {below : List Frame} {meth : Method} {c : Code} {H : Heap} {locs : List Loc} {cells slots : Nat} {Q : State → Prop}
variable {cc : ByteArray} {own : String} {nL pc : Nat} {ls : Array Slot} {rest : List Value}
theorem n_iadd (G : CallFix p m c cc nL s args lw_all own) {a b : Nat} (hdg : decode cc pc = .ok (.iadd, 1)) (k : W p l e R s m args below meth c H locs cells slots Q (F0 m (pc + 1) ls (.int (nI (a + b)) :: rest))) : W p l e R s m args below meth c H locs cells slots Q (F0 m pc ls (.int (nI b) :: .int (nI a) :: rest)) := by
  refine lv_iadd G.1 G.2.1 hdg ?_
  rw [nI_add]
  exact k
theorem n_isub (G : CallFix p m c cc nL s args lw_all own) {a b : Nat} (h : b ≤ a) (hdg : decode cc pc = .ok (.isub, 1)) (k : W p l e R s m args below meth c H locs cells slots Q (F0 m (pc + 1) ls (.int (nI (a - b)) :: rest))) : W p l e R s m args below meth c H locs cells slots Q (F0 m pc ls (.int (nI b) :: .int (nI a) :: rest)) := by
  refine lv_isub G.1 G.2.1 hdg ?_
  rw [pk_sub h]
  exact k
theorem n_imul (G : CallFix p m c cc nL s args lw_all own) {a b : Nat} (hdg : decode cc pc = .ok (.imul, 1)) (k : W p l e R s m args below meth c H locs cells slots Q (F0 m (pc + 1) ls (.int (nI (a * b)) :: rest))) : W p l e R s m args below meth c H locs cells slots Q (F0 m pc ls (.int (nI b) :: .int (nI a) :: rest)) := by
  refine lv_imul G.1 G.2.1 hdg ?_
  rw [pk_mul]
  exact k
theorem n_iand (G : CallFix p m c cc nL s args lw_all own) {a b : Nat} (hdg : decode cc pc = .ok (.iand, 1)) (k : W p l e R s m args below meth c H locs cells slots Q (F0 m (pc + 1) ls (.int (nI (a &&& b)) :: rest))) : W p l e R s m args below meth c H locs cells slots Q (F0 m pc ls (.int (nI b) :: .int (nI a) :: rest)) := by
  refine lv_iand G.1 G.2.1 hdg ?_
  rw [nx_and]
  exact k
theorem n_ior (G : CallFix p m c cc nL s args lw_all own) {a b : Nat} (hdg : decode cc pc = .ok (.ior, 1)) (k : W p l e R s m args below meth c H locs cells slots Q (F0 m (pc + 1) ls (.int (nI (a ||| b)) :: rest))) : W p l e R s m args below meth c H locs cells slots Q (F0 m pc ls (.int (nI b) :: .int (nI a) :: rest)) := by
  refine lv_ior G.1 G.2.1 hdg ?_
  rw [nx_or]
  exact k
theorem n_ishl (G : CallFix p m c cc nL s args lw_all own) {a : Nat} (h : a < 31) (hdg : decode cc pc = .ok (.ishl, 1)) (k : W p l e R s m args below meth c H locs cells slots Q (F0 m (pc + 1) ls (.int (nI (2 ^ a)) :: rest))) : W p l e R s m args below meth c H locs cells slots Q (F0 m pc ls (.int (nI a) :: .int (nI 1) :: rest)) := by
  refine lv_ishl G.1 G.2.1 hdg ?_
  rw [nx_shl h]
  exact k
theorem n_ishr (G : CallFix p m c cc nL s args lw_all own) {n a : Nat} (hn : n < 2 ^ 31) (h : a < 32) (hdg : decode cc pc = .ok (.ishr, 1)) (k : W p l e R s m args below meth c H locs cells slots Q (F0 m (pc + 1) ls (.int (nI (n / 2 ^ a)) :: rest))) : W p l e R s m args below meth c H locs cells slots Q (F0 m pc ls (.int (nI a) :: .int (nI n) :: rest)) := by
  refine lv_ishr G.1 G.2.1 hdg ?_
  rw [nx_shr hn h]
  exact k
theorem n_iand1 (G : CallFix p m c cc nL s args lw_all own) {n : Nat} (hdg : decode cc pc = .ok (.iand, 1)) (k : W p l e R s m args below meth c H locs cells slots Q (F0 m (pc + 1) ls (.int (nI (n % 2)) :: rest))) : W p l e R s m args below meth c H locs cells slots Q (F0 m pc ls (.int (nI 1) :: .int (nI n) :: rest)) := by
  refine lv_iand G.1 G.2.1 hdg ?_
  rw [nx_and1]
  exact k
theorem n_iandn (G : CallFix p m c cc nL s args lw_all own) {a b : Nat} (ha : a < 64) (hb : b < 64) (hdg : decode cc pc = .ok (.iand, 1)) (k : W p l e R s m args below meth c H locs cells slots Q (F0 m (pc + 1) ls (.int (nI (a &&& (63 ^^^ b))) :: rest))) : W p l e R s m args below meth c H locs cells slots Q (F0 m pc ls (.int (nI b ^^^ (-1)) :: .int (nI a) :: rest)) := by
  refine lv_iand G.1 G.2.1 hdg ?_
  rw [nx_not a ha b hb]
  exact k
theorem n_idiv (G : CallFix p m c cc nL s args lw_all own) {a b : Nat} (ha : a < 2 ^ 31) (h0 : 0 < b) (hb : b < 2 ^ 31) (hdg : decode cc pc = .ok (.idiv, 1)) (k : W p l e R s m args below meth c H locs cells slots Q (F0 m (pc + 1) ls (.int (nI (a / b)) :: rest))) : W p l e R s m args below meth c H locs cells slots Q (F0 m pc ls (.int (nI b) :: .int (nI a) :: rest)) := by
  refine lv_idiv G.1 G.2.1 hdg (nI_ne0 h0 hb) ?_
  rw [pk_div ha h0 hb]
  exact k
theorem n_irem (G : CallFix p m c cc nL s args lw_all own) {a b : Nat} (ha : a < 2 ^ 31) (h0 : 0 < b) (hb : b < 2 ^ 31) (hdg : decode cc pc = .ok (.irem, 1)) (k : W p l e R s m args below meth c H locs cells slots Q (F0 m (pc + 1) ls (.int (nI (a % b)) :: rest))) : W p l e R s m args below meth c H locs cells slots Q (F0 m pc ls (.int (nI b) :: .int (nI a) :: rest)) := by
  refine lv_irem G.1 G.2.1 hdg (nI_ne0 h0 hb) ?_
  rw [pk_rem ha h0 hb]
  exact k
theorem n_i2b (G : CallFix p m c cc nL s args lw_all own) {a : Nat} (h : a < 128) (hdg : decode cc pc = .ok (.i2b, 1)) (k : W p l e R s m args below meth c H locs cells slots Q (F0 m (pc + 1) ls (.int (nI a) :: rest))) : W p l e R s m args below meth c H locs cells slots Q (F0 m pc ls (.int (nI a) :: rest)) := lv_i2b G.1 G.2.1 hdg (nx_i2b a h) k
theorem n_iinc (G : CallFix p m c cc nL s args lw_all own) {i q a b : Nat} {n : Int} {lv lv' : List (Nat × Value)} (hdg : decode cc pc = .ok (.iinc i n, 3)) (h : lv_has ls nL lv) (hk : lv[q]? = some (i, .int (nI a))) (hn : Int32.ofInt n = nI b) (hi : i < nL) (hl : (i, Value.int (nI (a + b))) :: lv.filter (fun q => !(q.1 == i) && !(q.1 + 1 == i && q.2.category == 2)) = lv')
    (kk : ∀ ls' : Array Slot, lv_has ls' nL lv' → W p l e R s m args below meth c H locs cells slots Q (F0 m (pc + 3) ls' rest)) : W p l e R s m args below meth c H locs cells slots Q (F0 m pc ls rest) :=
  lv_iinc G.1 G.2.1 hdg h hk (by rw [hn, nI_add]) hi hl kk
theorem n_icmp_ge (G : CallFix p m c cc nL s args lw_all own) {a b : Nat} {off : Int} {tgt : Nat} (hdg : decode cc pc = .ok (.if_icmp .ge off, 3)) (ht : (pc : Int) + off = (tgt : Int)) (ha : a < 2 ^ 31) (hb : b < 2 ^ 31) (kt : b ≤ a → W p l e R s m args below meth c H locs cells slots Q (F0 m tgt ls rest)) (kf : a < b → W p l e R s m args below meth c H locs cells slots Q (F0 m (pc + 3) ls rest)) : W p l e R s m args below meth c H locs cells slots Q (F0 m pc ls (.int (nI b) :: .int (nI a) :: rest)) :=
  lv_icmp_ge G.1 G.2.1 hdg ht (fun q => kt ((nI_leI hb ha).mp q)) (fun q => kf (Nat.not_le.mp (fun z => q ((nI_leI hb ha).mpr z))))
theorem n_icmp_gt (G : CallFix p m c cc nL s args lw_all own) {a b : Nat} {off : Int} {tgt : Nat} (hdg : decode cc pc = .ok (.if_icmp .gt off, 3)) (ht : (pc : Int) + off = (tgt : Int)) (ha : a < 2 ^ 31) (hb : b < 2 ^ 31) (kt : b < a → W p l e R s m args below meth c H locs cells slots Q (F0 m tgt ls rest)) (kf : a ≤ b → W p l e R s m args below meth c H locs cells slots Q (F0 m (pc + 3) ls rest)) : W p l e R s m args below meth c H locs cells slots Q (F0 m pc ls (.int (nI b) :: .int (nI a) :: rest)) :=
  lv_icmp_gt G.1 G.2.1 hdg ht (fun q => kt ((nI_ltI hb ha).mp q)) (fun q => kf (Nat.not_lt.mp (fun z => q ((nI_ltI hb ha).mpr z))))
theorem n_icmp_le (G : CallFix p m c cc nL s args lw_all own) {a b : Nat} {off : Int} {tgt : Nat} (hdg : decode cc pc = .ok (.if_icmp .le off, 3)) (ht : (pc : Int) + off = (tgt : Int)) (ha : a < 2 ^ 31) (hb : b < 2 ^ 31) (kt : a ≤ b → W p l e R s m args below meth c H locs cells slots Q (F0 m tgt ls rest)) (kf : b < a → W p l e R s m args below meth c H locs cells slots Q (F0 m (pc + 3) ls rest)) : W p l e R s m args below meth c H locs cells slots Q (F0 m pc ls (.int (nI b) :: .int (nI a) :: rest)) :=
  lv_icmp_le G.1 G.2.1 hdg ht (fun q => kt ((nI_leI ha hb).mp q)) (fun q => kf (Nat.not_le.mp (fun z => q ((nI_leI ha hb).mpr z))))
theorem n_icmp_lt (G : CallFix p m c cc nL s args lw_all own) {a b : Nat} {off : Int} {tgt : Nat} (hdg : decode cc pc = .ok (.if_icmp .lt off, 3)) (ht : (pc : Int) + off = (tgt : Int)) (ha : a < 2 ^ 31) (hb : b < 2 ^ 31) (kt : a < b → W p l e R s m args below meth c H locs cells slots Q (F0 m tgt ls rest)) (kf : b ≤ a → W p l e R s m args below meth c H locs cells slots Q (F0 m (pc + 3) ls rest)) : W p l e R s m args below meth c H locs cells slots Q (F0 m pc ls (.int (nI b) :: .int (nI a) :: rest)) :=
  lv_icmp_lt G.1 G.2.1 hdg ht (fun q => kt ((nI_ltI ha hb).mp q)) (fun q => kf (Nat.not_lt.mp (fun z => q ((nI_ltI ha hb).mpr z))))
theorem n_icmp_eq (G : CallFix p m c cc nL s args lw_all own) {a b : Nat} {off : Int} {tgt : Nat} (hdg : decode cc pc = .ok (.if_icmp .eq off, 3)) (ht : (pc : Int) + off = (tgt : Int)) (ha : a < 2 ^ 31) (hb : b < 2 ^ 31) (kt : a = b → W p l e R s m args below meth c H locs cells slots Q (F0 m tgt ls rest)) (kf : a ≠ b → W p l e R s m args below meth c H locs cells slots Q (F0 m (pc + 3) ls rest)) : W p l e R s m args below meth c H locs cells slots Q (F0 m pc ls (.int (nI b) :: .int (nI a) :: rest)) :=
  lv_icmp_eq G.1 G.2.1 hdg ht (fun q => kt ((nI_eq ha hb).mp q)) (fun q => kf (fun z => q ((nI_eq ha hb).mpr z)))
theorem n_icmp_ne (G : CallFix p m c cc nL s args lw_all own) {a b : Nat} {off : Int} {tgt : Nat} (hdg : decode cc pc = .ok (.if_icmp .ne off, 3)) (ht : (pc : Int) + off = (tgt : Int)) (ha : a < 2 ^ 31) (hb : b < 2 ^ 31) (kt : a ≠ b → W p l e R s m args below meth c H locs cells slots Q (F0 m tgt ls rest)) (kf : a = b → W p l e R s m args below meth c H locs cells slots Q (F0 m (pc + 3) ls rest)) : W p l e R s m args below meth c H locs cells slots Q (F0 m pc ls (.int (nI b) :: .int (nI a) :: rest)) :=
  lv_icmp_ne G.1 G.2.1 hdg ht (fun q => kt (fun z => q ((nI_eq ha hb).mpr z))) (fun q => kf ((nI_eq ha hb).mp q))
theorem n_ifeq (G : CallFix p m c cc nL s args lw_all own) {t : Bool} {off : Int} {tgt : Nat} (hdg : decode cc pc = .ok (.ifCond .eq off, 3)) (ht : (pc : Int) + off = (tgt : Int)) (kt : t = false → W p l e R s m args below meth c H locs cells slots Q (F0 m tgt ls rest)) (kf : t = true → W p l e R s m args below meth c H locs cells slots Q (F0 m (pc + 3) ls rest)) : W p l e R s m args below meth c H locs cells slots Q (F0 m pc ls (.int (b2i t) :: rest)) :=
  lv_if_eq G.1 G.2.1 hdg ht (fun q => kt (b2i_0.mp q)) (fun q => kf (by cases t with | true => rfl | false => exact absurd rfl q))
theorem n_ifne (G : CallFix p m c cc nL s args lw_all own) {t : Bool} {off : Int} {tgt : Nat} (hdg : decode cc pc = .ok (.ifCond .ne off, 3)) (ht : (pc : Int) + off = (tgt : Int)) (kt : t = true → W p l e R s m args below meth c H locs cells slots Q (F0 m tgt ls rest)) (kf : t = false → W p l e R s m args below meth c H locs cells slots Q (F0 m (pc + 3) ls rest)) : W p l e R s m args below meth c H locs cells slots Q (F0 m pc ls (.int (b2i t) :: rest)) :=
  lv_if_ne G.1 G.2.1 hdg ht (fun q => kt (by cases t with | true => rfl | false => exact absurd rfl q)) (fun q => kf (b2i_0.mp q))
theorem n_ifeqN (G : CallFix p m c cc nL s args lw_all own) {a : Nat} (ha : a < 2 ^ 31) {off : Int} {tgt : Nat} (hdg : decode cc pc = .ok (.ifCond .eq off, 3)) (ht : (pc : Int) + off = (tgt : Int)) (kt : a = 0 → W p l e R s m args below meth c H locs cells slots Q (F0 m tgt ls rest)) (kf : a ≠ 0 → W p l e R s m args below meth c H locs cells slots Q (F0 m (pc + 3) ls rest)) : W p l e R s m args below meth c H locs cells slots Q (F0 m pc ls (.int (nI a) :: rest)) :=
  lv_if_eq G.1 G.2.1 hdg ht (fun q => kt ((nI_eq ha (by omega)).mp (q.trans nI_0.symm))) (fun q => kf (fun z => q (by rw [z]; exact nI_0)))
theorem n_ifneN (G : CallFix p m c cc nL s args lw_all own) {a : Nat} (ha : a < 2 ^ 31) {off : Int} {tgt : Nat} (hdg : decode cc pc = .ok (.ifCond .ne off, 3)) (ht : (pc : Int) + off = (tgt : Int)) (kt : a ≠ 0 → W p l e R s m args below meth c H locs cells slots Q (F0 m tgt ls rest)) (kf : a = 0 → W p l e R s m args below meth c H locs cells slots Q (F0 m (pc + 3) ls rest)) : W p l e R s m args below meth c H locs cells slots Q (F0 m pc ls (.int (nI a) :: rest)) :=
  lv_if_ne G.1 G.2.1 hdg ht (fun q => kt (fun z => q (by rw [z]; exact nI_0))) (fun q => kf ((nI_eq ha (by omega)).mp (q.trans nI_0.symm)))
theorem n_ifleN (G : CallFix p m c cc nL s args lw_all own) {a : Nat} (ha : a < 2 ^ 31) {off : Int} {tgt : Nat} (hdg : decode cc pc = .ok (.ifCond .le off, 3)) (ht : (pc : Int) + off = (tgt : Int)) (kt : a = 0 → W p l e R s m args below meth c H locs cells slots Q (F0 m tgt ls rest)) (kf : 0 < a → W p l e R s m args below meth c H locs cells slots Q (F0 m (pc + 3) ls rest)) : W p l e R s m args below meth c H locs cells slots Q (F0 m pc ls (.int (nI a) :: rest)) :=
  lv_if_le G.1 G.2.1 hdg ht (fun q => kt (by rcases Nat.eq_zero_or_pos a with z | z
                                             · exact z
                                             · exact absurd q (nI_nle z ha))) (fun q => kf (by rcases Nat.eq_zero_or_pos a with z | z
                                                                                               · exact absurd (by rw [z, nI_0]; exact Int32.le_refl 0) q
                                                                                               · exact z))
theorem n_iconst (G : CallFix p m c cc nL s args lw_all own) {n : Int} {a : Nat} (hdg : decode cc pc = .ok (.iconst n, 1)) (hv : Int32.ofInt n = nI a) (k : W p l e R s m args below meth c H locs cells slots Q (F0 m (pc + 1) ls (.int (nI a) :: rest))) : W p l e R s m args below meth c H locs cells slots Q (F0 m pc ls rest) := lv_iconst G.1 G.2.1 hdg hv k
theorem n_bipush (G : CallFix p m c cc nL s args lw_all own) {n : Int} {a : Nat} (hdg : decode cc pc = .ok (.bipush n, 2)) (hv : (Int8.ofInt n).toInt32 = nI a) (k : W p l e R s m args below meth c H locs cells slots Q (F0 m (pc + 2) ls (.int (nI a) :: rest))) : W p l e R s m args below meth c H locs cells slots Q (F0 m pc ls rest) := lv_bipush G.1 G.2.1 hdg hv k
theorem n_sipush (G : CallFix p m c cc nL s args lw_all own) {n : Int} {a : Nat} (hdg : decode cc pc = .ok (.sipush n, 3)) (hv : (Int16.ofInt n).toInt32 = nI a) (k : W p l e R s m args below meth c H locs cells slots Q (F0 m (pc + 3) ls (.int (nI a) :: rest))) : W p l e R s m args below meth c H locs cells slots Q (F0 m pc ls rest) := lv_sipush G.1 G.2.1 hdg hv k
end NROWS
/-- what a CutFinder's arrays hold: capacities, room, foundSet, foundFrom, line, joined, tightness, above, strength -/
abbrev CF : Type := (Nat → Nat) × (Nat → Nat) × Nat × (Nat → Int32) × (Nat → Nat) × (Nat → Nat) × (Nat → Nat) × (Nat → Nat) × (Nat → Nat)
def cfW (h : Nat → Nat) (dA dB : ClassId) (x : CF) : va_W := [(h 0, .inr (0, [.ref (h 1), .ref (h 2), .int (nI x.2.2.1), .ref (h 3), .ref (h 4), .ref (h 5), .ref (h 6), .ref (h 7), .ref (h 8)])), (h 1, .inl (dA, 36, .inl (nA x.1))), (h 2, .inl (dA, 36, .inl (nA x.2.1))), (h 3, .inl (dB, 6, .inl x.2.2.2.1)), (h 4, .inl (dB, 8, .inl (nA x.2.2.2.2.1))), (h 5, .inl (dA, 36, .inl (nA x.2.2.2.2.2.1))), (h 6, .inl (dA, 6, .inl (nA x.2.2.2.2.2.2.1))), (h 7, .inl (dB, 6, .inl (nA x.2.2.2.2.2.2.2.1))), (h 8, .inl (dA, 6, .inl (nA x.2.2.2.2.2.2.2.2)))]
/-- its cells -/
def cfA (h : Nat → Nat) : Nat → Prop := fun q => ∃ k, k < 9 ∧ q = h k
abbrev tysAB (dA dB : ClassId) : List (ClassId × FieldType) := [(dA, .int), (dB, .byte)]
def cfU (D : va_G) (dA dB : ClassId) (h : Nat → Nat) (x : CF) (U : State) : Prop := va_K D vwCl (tysAB dA dB) U ∧ va_P D vwCl (cfW h dA dB x) U.heap ∧ va_D (fun _ => True) (cfW h dA dB x)
def cfI (D : va_G) (dA dB : ClassId) (h : Nat → Nat) (A : Nat → Prop) (s : State) (H : Heap) (locs : List Loc) (x : CF) : Prop := va_K D vwCl (tysAB dA dB) s ∧ va_P D vwCl (cfW h dA dB x) H ∧ va_D A (cfW h dA dB x) ∧ va_S A s.heap H locs
theorem cfW_len (h : Nat → Nat) (dA dB : ClassId) (x : CF) : (cfW h dA dB x).length = 9 := rfl
theorem cfW_ad (h : Nat → Nat) (dA dB : ClassId) (x : CF) {k : Nat} (hk : k < 9) : ∃ e, (cfW h dA dB x)[k]? = some (h k, e) := by
  match k, hk with
  | 0, _ => exact ⟨_, rfl⟩
  | 1, _ => exact ⟨_, rfl⟩
  | 2, _ => exact ⟨_, rfl⟩
  | 3, _ => exact ⟨_, rfl⟩
  | 4, _ => exact ⟨_, rfl⟩
  | 5, _ => exact ⟨_, rfl⟩
  | 6, _ => exact ⟨_, rfl⟩
  | 7, _ => exact ⟨_, rfl⟩
  | 8, _ => exact ⟨_, rfl⟩
  | n + 9, hk => exact absurd hk (by omega)
theorem cfW_in {h : Nat → Nat} {dA dB : ClassId} {x : CF} {k : Nat} {q : Nat × va_E} (hq : (cfW h dA dB x)[k]? = some q) : k < 9 ∧ q.1 = h k := by
  have hk : k < 9 := (List.getElem?_eq_some_iff.mp hq).1
  obtain ⟨e, he⟩ := cfW_ad h dA dB x hk
  refine ⟨hk, ?_⟩
  rw [he] at hq
  cases hq
  rfl
theorem cfW_A {h : Nat → Nat} {dA dB : ClassId} {x : CF} {A : Nat → Prop} (hD : va_D A (cfW h dA dB x)) : ∀ q, cfA h q → A q := by
  intro q hq
  obtain ⟨k, hk, rfl⟩ := hq
  obtain ⟨e, he⟩ := cfW_ad h dA dB x hk
  exact hD.2 k _ he
theorem cfW_D {h : Nat → Nat} {dA dB : ClassId} {x y : CF} {A B : Nat → Prop} (hD : va_D A (cfW h dA dB x)) (hB : ∀ q, cfA h q → B q) : va_D B (cfW h dA dB y) := by
  refine ⟨fun i j u v hi hj e => ?_, fun k q hk => ?_⟩
  · obtain ⟨hi9, ei⟩ := cfW_in hi
    obtain ⟨hj9, ej⟩ := cfW_in hj
    obtain ⟨e1, h1⟩ := cfW_ad h dA dB x hi9
    obtain ⟨e2, h2⟩ := cfW_ad h dA dB x hj9
    exact hD.1 i j _ _ h1 h2 (by rw [← ei, ← ej]; exact e)
  · obtain ⟨hk9, ek⟩ := cfW_in hk
    exact hB _ ⟨k, hk9, ek⟩
theorem cfI_U {D : va_G} {dA dB : ClassId} {h : Nat → Nat} {A : Nat → Prop} {s t : State} {H : Heap} {locs : List Loc} {x : CF} (I : cfI D dA dB h A s H locs x) (ht : t.heap = H) (hv : s.vm.Alike t.vm) : cfU D dA dB h x t :=
  ⟨va_K.moved hv I.1, by rw [ht]; exact I.2.1, I.2.2.1.weaken (fun _ _ _ _ => trivial)⟩
section CROWS
variable {p : Program} {l : Launch} {e : Env} {R : Room} {s : State} {m : MethodId} {args : Array Value} {below : List Frame} {meth : Method} {c : Code} {H : Heap} {locs : List Loc} {cells slots : Nat} {Q : State → Prop}
variable {cc : ByteArray} {nL pc : Nat} {ls : Array Slot} {rest : List Value}
variable {D : va_G} {dA dB : ClassId} {h : Nat → Nat} {A : Nat → Prop} {cap rm : Nat → Nat} {F : Nat} {ff : Nat → Int32} {ln jn ti ab st : Nat → Nat}
theorem g_cap (G : CallFix p m c cc nL s args lw_all RX0) (I : cfI D dA dB h A s H locs (cap, rm, F, ff, ln, jn, ti, ab, st)) (hdg : decode cc pc = .ok (.getfield 7, 3)) (kk : W p l e R s m args below meth c H locs cells slots Q (F0 m (pc + 3) ls (.ref (h 1) :: rest))) : W p l e R s m args below meth c H locs cells slots Q (F0 m pc ls (.ref (h 0) :: rest)) :=
  va_get (D := D) (ci := 0) (v := .ref (h 1)) (C := RX0) (T := TX0) (N := 9) G.1 G.2.1 G.2.2.2.2 in_X0 G.2.2.2.1 I.1 I.2.1 0 rfl rfl 0 (by decide) (G.2.2.2.2 _ q24) (fun _ h9 => h9) rfl hdg kk
theorem g_rm (G : CallFix p m c cc nL s args lw_all RX0) (I : cfI D dA dB h A s H locs (cap, rm, F, ff, ln, jn, ti, ab, st)) (hdg : decode cc pc = .ok (.getfield 13, 3)) (kk : W p l e R s m args below meth c H locs cells slots Q (F0 m (pc + 3) ls (.ref (h 2) :: rest))) : W p l e R s m args below meth c H locs cells slots Q (F0 m pc ls (.ref (h 0) :: rest)) :=
  va_get (D := D) (ci := 0) (v := .ref (h 2)) (C := RX0) (T := TX0) (N := 9) G.1 G.2.1 G.2.2.2.2 in_X0 G.2.2.2.1 I.1 I.2.1 0 rfl rfl 1 (by decide) (G.2.2.2.2 _ q25) (fun _ h9 => h9) rfl hdg kk
theorem g_F (G : CallFix p m c cc nL s args lw_all RX0) (I : cfI D dA dB h A s H locs (cap, rm, F, ff, ln, jn, ti, ab, st)) (hdg : decode cc pc = .ok (.getfield 59, 3)) (kk : W p l e R s m args below meth c H locs cells slots Q (F0 m (pc + 3) ls (.int (nI F) :: rest))) : W p l e R s m args below meth c H locs cells slots Q (F0 m pc ls (.ref (h 0) :: rest)) :=
  va_get (D := D) (ci := 0) (v := .int (nI F)) (C := RX0) (T := TX0) (N := 9) G.1 G.2.1 G.2.2.2.2 in_X0 G.2.2.2.1 I.1 I.2.1 0 rfl rfl 2 (by decide) (G.2.2.2.2 _ q26) (fun _ h9 => h9) rfl hdg kk
theorem g_ff (G : CallFix p m c cc nL s args lw_all RX0) (I : cfI D dA dB h A s H locs (cap, rm, F, ff, ln, jn, ti, ab, st)) (hdg : decode cc pc = .ok (.getfield 16, 3)) (kk : W p l e R s m args below meth c H locs cells slots Q (F0 m (pc + 3) ls (.ref (h 3) :: rest))) : W p l e R s m args below meth c H locs cells slots Q (F0 m pc ls (.ref (h 0) :: rest)) :=
  va_get (D := D) (ci := 0) (v := .ref (h 3)) (C := RX0) (T := TX0) (N := 9) G.1 G.2.1 G.2.2.2.2 in_X0 G.2.2.2.1 I.1 I.2.1 0 rfl rfl 3 (by decide) (G.2.2.2.2 _ q27) (fun _ h9 => h9) rfl hdg kk
theorem g_ln (G : CallFix p m c cc nL s args lw_all RX0) (I : cfI D dA dB h A s H locs (cap, rm, F, ff, ln, jn, ti, ab, st)) (hdg : decode cc pc = .ok (.getfield 20, 3)) (kk : W p l e R s m args below meth c H locs cells slots Q (F0 m (pc + 3) ls (.ref (h 4) :: rest))) : W p l e R s m args below meth c H locs cells slots Q (F0 m pc ls (.ref (h 0) :: rest)) :=
  va_get (D := D) (ci := 0) (v := .ref (h 4)) (C := RX0) (T := TX0) (N := 9) G.1 G.2.1 G.2.2.2.2 in_X0 G.2.2.2.1 I.1 I.2.1 0 rfl rfl 4 (by decide) (G.2.2.2.2 _ q28) (fun _ h9 => h9) rfl hdg kk
theorem g_jn (G : CallFix p m c cc nL s args lw_all RX0) (I : cfI D dA dB h A s H locs (cap, rm, F, ff, ln, jn, ti, ab, st)) (hdg : decode cc pc = .ok (.getfield 23, 3)) (kk : W p l e R s m args below meth c H locs cells slots Q (F0 m (pc + 3) ls (.ref (h 5) :: rest))) : W p l e R s m args below meth c H locs cells slots Q (F0 m pc ls (.ref (h 0) :: rest)) :=
  va_get (D := D) (ci := 0) (v := .ref (h 5)) (C := RX0) (T := TX0) (N := 9) G.1 G.2.1 G.2.2.2.2 in_X0 G.2.2.2.1 I.1 I.2.1 0 rfl rfl 5 (by decide) (G.2.2.2.2 _ q29) (fun _ h9 => h9) rfl hdg kk
theorem g_ti (G : CallFix p m c cc nL s args lw_all RX0) (I : cfI D dA dB h A s H locs (cap, rm, F, ff, ln, jn, ti, ab, st)) (hdg : decode cc pc = .ok (.getfield 26, 3)) (kk : W p l e R s m args below meth c H locs cells slots Q (F0 m (pc + 3) ls (.ref (h 6) :: rest))) : W p l e R s m args below meth c H locs cells slots Q (F0 m pc ls (.ref (h 0) :: rest)) :=
  va_get (D := D) (ci := 0) (v := .ref (h 6)) (C := RX0) (T := TX0) (N := 9) G.1 G.2.1 G.2.2.2.2 in_X0 G.2.2.2.1 I.1 I.2.1 0 rfl rfl 6 (by decide) (G.2.2.2.2 _ q30) (fun _ h9 => h9) rfl hdg kk
theorem g_ab (G : CallFix p m c cc nL s args lw_all RX0) (I : cfI D dA dB h A s H locs (cap, rm, F, ff, ln, jn, ti, ab, st)) (hdg : decode cc pc = .ok (.getfield 29, 3)) (kk : W p l e R s m args below meth c H locs cells slots Q (F0 m (pc + 3) ls (.ref (h 7) :: rest))) : W p l e R s m args below meth c H locs cells slots Q (F0 m pc ls (.ref (h 0) :: rest)) :=
  va_get (D := D) (ci := 0) (v := .ref (h 7)) (C := RX0) (T := TX0) (N := 9) G.1 G.2.1 G.2.2.2.2 in_X0 G.2.2.2.1 I.1 I.2.1 0 rfl rfl 7 (by decide) (G.2.2.2.2 _ q31) (fun _ h9 => h9) rfl hdg kk
theorem g_st (G : CallFix p m c cc nL s args lw_all RX0) (I : cfI D dA dB h A s H locs (cap, rm, F, ff, ln, jn, ti, ab, st)) (hdg : decode cc pc = .ok (.getfield 32, 3)) (kk : W p l e R s m args below meth c H locs cells slots Q (F0 m (pc + 3) ls (.ref (h 8) :: rest))) : W p l e R s m args below meth c H locs cells slots Q (F0 m pc ls (.ref (h 0) :: rest)) :=
  va_get (D := D) (ci := 0) (v := .ref (h 8)) (C := RX0) (T := TX0) (N := 9) G.1 G.2.1 G.2.2.2.2 in_X0 G.2.2.2.1 I.1 I.2.1 0 rfl rfl 8 (by decide) (G.2.2.2.2 _ q32) (fun _ h9 => h9) rfl hdg kk
theorem p_F (G : CallFix p m c cc nL s args lw_all RX0) (I : cfI D dA dB h A s H locs (cap, rm, F, ff, ln, jn, ti, ab, st)) {F' : Nat} (hdg : decode cc pc = .ok (.putfield 59, 3)) (kk : ∀ (H : Heap) (locs : List Loc), cfI D dA dB h A s H locs (cap, rm, F', ff, ln, jn, ti, ab, st) → W p l e R s m args below meth c H locs cells slots Q (F0 m (pc + 3) ls rest)) : W p l e R s m args below meth c H locs cells slots Q (F0 m pc ls (.int (nI F') :: .ref (h 0) :: rest)) :=
  va_put (D := D) (ci := 0) (v := .int (nI F')) (ty := .int) (C := RX0) (T := TX0) (N := 9) G.1 G.2.1 G.2.2.2.2 in_X0 tyX0 tyX0_ok nmX0 G.2.2.2.1 I.1 I.2.1 I.2.2.1 I.2.2.2 0 rfl rfl 2 (by decide) (G.2.2.2.2 _ q26) (fun _ h9 => h9) rfl (by decide +kernel) rfl rfl (Nat.le_of_ble_eq_true rfl) hdg (fun H locs hP hD hS => kk H locs ⟨I.1, hP, hD, hS⟩)
theorem r_cap (G : CallFix p m c cc nL s args lw_all RX0) (I : cfI D dA dB h A s H locs (cap, rm, F, ff, ln, jn, ti, ab, st)) {k : Nat} (hk : k < 36) (hdg : decode cc pc = .ok (.iaload, 1)) (kk : W p l e R s m args below meth c H locs cells slots Q (F0 m (pc + 1) ls (.int (nI (cap k)) :: rest))) : W p l e R s m args below meth c H locs cells slots Q (F0 m pc ls (.int (nI k) :: .ref (h 1) :: rest)) := by
  refine va_iald (f := nA cap) G.1 G.2.1 I.1 I.2.1 1 0 rfl rfl (vp_in_nI hk (by decide)) hdg ?_
  rw [nA_at _ (Nat.lt_trans hk (by decide))]
  exact kk
theorem w_cap (G : CallFix p m c cc nL s args lw_all RX0) (I : cfI D dA dB h A s H locs (cap, rm, F, ff, ln, jn, ti, ab, st)) {k v : Nat} (hk : k < 36) (hdg : decode cc pc = .ok (.iastore, 1)) (kk : ∀ (H : Heap) (locs : List Loc), cfI D dA dB h A s H locs (va_up cap k v, rm, F, ff, ln, jn, ti, ab, st) → W p l e R s m args below meth c H locs cells slots Q (F0 m (pc + 1) ls rest)) : W p l e R s m args below meth c H locs cells slots Q (F0 m pc ls (.int (nI v) :: .int (nI k) :: .ref (h 1) :: rest)) := by
  refine va_iast (f := nA cap) G.1 G.2.1 I.1 I.2.1 I.2.2.1 I.2.2.2 1 0 rfl rfl (vp_in_nI hk (by decide)) hdg (fun H locs hP hD hS => ?_)
  rw [nI_clamp (Nat.lt_trans hk (by decide)), nA_up] at hP hD
  exact kk H locs ⟨I.1, hP, hD, hS⟩
theorem r_rm (G : CallFix p m c cc nL s args lw_all RX0) (I : cfI D dA dB h A s H locs (cap, rm, F, ff, ln, jn, ti, ab, st)) {k : Nat} (hk : k < 36) (hdg : decode cc pc = .ok (.iaload, 1)) (kk : W p l e R s m args below meth c H locs cells slots Q (F0 m (pc + 1) ls (.int (nI (rm k)) :: rest))) : W p l e R s m args below meth c H locs cells slots Q (F0 m pc ls (.int (nI k) :: .ref (h 2) :: rest)) := by
  refine va_iald (f := nA rm) G.1 G.2.1 I.1 I.2.1 2 0 rfl rfl (vp_in_nI hk (by decide)) hdg ?_
  rw [nA_at _ (Nat.lt_trans hk (by decide))]
  exact kk
theorem w_rm (G : CallFix p m c cc nL s args lw_all RX0) (I : cfI D dA dB h A s H locs (cap, rm, F, ff, ln, jn, ti, ab, st)) {k v : Nat} (hk : k < 36) (hdg : decode cc pc = .ok (.iastore, 1)) (kk : ∀ (H : Heap) (locs : List Loc), cfI D dA dB h A s H locs (cap, va_up rm k v, F, ff, ln, jn, ti, ab, st) → W p l e R s m args below meth c H locs cells slots Q (F0 m (pc + 1) ls rest)) : W p l e R s m args below meth c H locs cells slots Q (F0 m pc ls (.int (nI v) :: .int (nI k) :: .ref (h 2) :: rest)) := by
  refine va_iast (f := nA rm) G.1 G.2.1 I.1 I.2.1 I.2.2.1 I.2.2.2 2 0 rfl rfl (vp_in_nI hk (by decide)) hdg (fun H locs hP hD hS => ?_)
  rw [nI_clamp (Nat.lt_trans hk (by decide)), nA_up] at hP hD
  exact kk H locs ⟨I.1, hP, hD, hS⟩
theorem r_ff (G : CallFix p m c cc nL s args lw_all RX0) (I : cfI D dA dB h A s H locs (cap, rm, F, ff, ln, jn, ti, ab, st)) {k : Nat} (hk : k < 6) (hdg : decode cc pc = .ok (.baload, 1)) (kk : W p l e R s m args below meth c H locs cells slots Q (F0 m (pc + 1) ls (.int (ff k) :: rest))) : W p l e R s m args below meth c H locs cells slots Q (F0 m pc ls (.int (nI k) :: .ref (h 3) :: rest)) := by
  refine va_bald G.1 G.2.1 I.1 I.2.1 3 1 rfl rfl (vp_in_nI hk (by decide)) hdg ?_
  rw [nI_clamp (Nat.lt_trans hk (by decide))]
  exact kk
theorem w_ff (G : CallFix p m c cc nL s args lw_all RX0) (I : cfI D dA dB h A s H locs (cap, rm, F, ff, ln, jn, ti, ab, st)) {k : Nat} {v : Int32} (hv : vp_nar .byte v = v) (hk : k < 6) (hdg : decode cc pc = .ok (.bastore, 1)) (kk : ∀ (H : Heap) (locs : List Loc), cfI D dA dB h A s H locs (cap, rm, F, upd ff k v, ln, jn, ti, ab, st) → W p l e R s m args below meth c H locs cells slots Q (F0 m (pc + 1) ls rest)) : W p l e R s m args below meth c H locs cells slots Q (F0 m pc ls (.int v :: .int (nI k) :: .ref (h 3) :: rest)) := by
  refine va_bast G.1 G.2.1 I.1 I.2.1 I.2.2.1 I.2.2.2 3 1 rfl rfl (vp_in_nI hk (by decide)) hdg (fun H locs hP hD hS => ?_)
  rw [nI_clamp (Nat.lt_trans hk (by decide)), hv] at hP hD
  exact kk H locs ⟨I.1, hP, hD, hS⟩
theorem r_ln (G : CallFix p m c cc nL s args lw_all RX0) (I : cfI D dA dB h A s H locs (cap, rm, F, ff, ln, jn, ti, ab, st)) {k : Nat} (hk : k < 8) (hdg : decode cc pc = .ok (.baload, 1)) (kk : W p l e R s m args below meth c H locs cells slots Q (F0 m (pc + 1) ls (.int (nI (ln k)) :: rest))) : W p l e R s m args below meth c H locs cells slots Q (F0 m pc ls (.int (nI k) :: .ref (h 4) :: rest)) := by
  refine va_bald (f := nA ln) G.1 G.2.1 I.1 I.2.1 4 1 rfl rfl (vp_in_nI hk (by decide)) hdg ?_
  rw [nA_at _ (Nat.lt_trans hk (by decide))]
  exact kk
theorem w_ln (G : CallFix p m c cc nL s args lw_all RX0) (I : cfI D dA dB h A s H locs (cap, rm, F, ff, ln, jn, ti, ab, st)) {k v : Nat} (hv : v < 128) (hk : k < 8) (hdg : decode cc pc = .ok (.bastore, 1)) (kk : ∀ (H : Heap) (locs : List Loc), cfI D dA dB h A s H locs (cap, rm, F, ff, va_up ln k v, jn, ti, ab, st) → W p l e R s m args below meth c H locs cells slots Q (F0 m (pc + 1) ls rest)) : W p l e R s m args below meth c H locs cells slots Q (F0 m pc ls (.int (nI v) :: .int (nI k) :: .ref (h 4) :: rest)) := by
  refine va_bast (f := nA ln) G.1 G.2.1 I.1 I.2.1 I.2.2.1 I.2.2.2 4 1 rfl rfl (vp_in_nI hk (by decide)) hdg (fun H locs hP hD hS => ?_)
  rw [nI_clamp (Nat.lt_trans hk (by decide)), nx_nar hv, nA_up] at hP hD
  exact kk H locs ⟨I.1, hP, hD, hS⟩
theorem r_jn (G : CallFix p m c cc nL s args lw_all RX0) (I : cfI D dA dB h A s H locs (cap, rm, F, ff, ln, jn, ti, ab, st)) {k : Nat} (hk : k < 36) (hdg : decode cc pc = .ok (.iaload, 1)) (kk : W p l e R s m args below meth c H locs cells slots Q (F0 m (pc + 1) ls (.int (nI (jn k)) :: rest))) : W p l e R s m args below meth c H locs cells slots Q (F0 m pc ls (.int (nI k) :: .ref (h 5) :: rest)) := by
  refine va_iald (f := nA jn) G.1 G.2.1 I.1 I.2.1 5 0 rfl rfl (vp_in_nI hk (by decide)) hdg ?_
  rw [nA_at _ (Nat.lt_trans hk (by decide))]
  exact kk
theorem w_jn (G : CallFix p m c cc nL s args lw_all RX0) (I : cfI D dA dB h A s H locs (cap, rm, F, ff, ln, jn, ti, ab, st)) {k v : Nat} (hk : k < 36) (hdg : decode cc pc = .ok (.iastore, 1)) (kk : ∀ (H : Heap) (locs : List Loc), cfI D dA dB h A s H locs (cap, rm, F, ff, ln, va_up jn k v, ti, ab, st) → W p l e R s m args below meth c H locs cells slots Q (F0 m (pc + 1) ls rest)) : W p l e R s m args below meth c H locs cells slots Q (F0 m pc ls (.int (nI v) :: .int (nI k) :: .ref (h 5) :: rest)) := by
  refine va_iast (f := nA jn) G.1 G.2.1 I.1 I.2.1 I.2.2.1 I.2.2.2 5 0 rfl rfl (vp_in_nI hk (by decide)) hdg (fun H locs hP hD hS => ?_)
  rw [nI_clamp (Nat.lt_trans hk (by decide)), nA_up] at hP hD
  exact kk H locs ⟨I.1, hP, hD, hS⟩
theorem r_ti (G : CallFix p m c cc nL s args lw_all RX0) (I : cfI D dA dB h A s H locs (cap, rm, F, ff, ln, jn, ti, ab, st)) {k : Nat} (hk : k < 6) (hdg : decode cc pc = .ok (.iaload, 1)) (kk : W p l e R s m args below meth c H locs cells slots Q (F0 m (pc + 1) ls (.int (nI (ti k)) :: rest))) : W p l e R s m args below meth c H locs cells slots Q (F0 m pc ls (.int (nI k) :: .ref (h 6) :: rest)) := by
  refine va_iald (f := nA ti) G.1 G.2.1 I.1 I.2.1 6 0 rfl rfl (vp_in_nI hk (by decide)) hdg ?_
  rw [nA_at _ (Nat.lt_trans hk (by decide))]
  exact kk
theorem w_ti (G : CallFix p m c cc nL s args lw_all RX0) (I : cfI D dA dB h A s H locs (cap, rm, F, ff, ln, jn, ti, ab, st)) {k v : Nat} (hk : k < 6) (hdg : decode cc pc = .ok (.iastore, 1)) (kk : ∀ (H : Heap) (locs : List Loc), cfI D dA dB h A s H locs (cap, rm, F, ff, ln, jn, va_up ti k v, ab, st) → W p l e R s m args below meth c H locs cells slots Q (F0 m (pc + 1) ls rest)) : W p l e R s m args below meth c H locs cells slots Q (F0 m pc ls (.int (nI v) :: .int (nI k) :: .ref (h 6) :: rest)) := by
  refine va_iast (f := nA ti) G.1 G.2.1 I.1 I.2.1 I.2.2.1 I.2.2.2 6 0 rfl rfl (vp_in_nI hk (by decide)) hdg (fun H locs hP hD hS => ?_)
  rw [nI_clamp (Nat.lt_trans hk (by decide)), nA_up] at hP hD
  exact kk H locs ⟨I.1, hP, hD, hS⟩
theorem r_ab (G : CallFix p m c cc nL s args lw_all RX0) (I : cfI D dA dB h A s H locs (cap, rm, F, ff, ln, jn, ti, ab, st)) {k : Nat} (hk : k < 6) (hdg : decode cc pc = .ok (.baload, 1)) (kk : W p l e R s m args below meth c H locs cells slots Q (F0 m (pc + 1) ls (.int (nI (ab k)) :: rest))) : W p l e R s m args below meth c H locs cells slots Q (F0 m pc ls (.int (nI k) :: .ref (h 7) :: rest)) := by
  refine va_bald (f := nA ab) G.1 G.2.1 I.1 I.2.1 7 1 rfl rfl (vp_in_nI hk (by decide)) hdg ?_
  rw [nA_at _ (Nat.lt_trans hk (by decide))]
  exact kk
theorem w_ab (G : CallFix p m c cc nL s args lw_all RX0) (I : cfI D dA dB h A s H locs (cap, rm, F, ff, ln, jn, ti, ab, st)) {k v : Nat} (hv : v < 128) (hk : k < 6) (hdg : decode cc pc = .ok (.bastore, 1)) (kk : ∀ (H : Heap) (locs : List Loc), cfI D dA dB h A s H locs (cap, rm, F, ff, ln, jn, ti, va_up ab k v, st) → W p l e R s m args below meth c H locs cells slots Q (F0 m (pc + 1) ls rest)) : W p l e R s m args below meth c H locs cells slots Q (F0 m pc ls (.int (nI v) :: .int (nI k) :: .ref (h 7) :: rest)) := by
  refine va_bast (f := nA ab) G.1 G.2.1 I.1 I.2.1 I.2.2.1 I.2.2.2 7 1 rfl rfl (vp_in_nI hk (by decide)) hdg (fun H locs hP hD hS => ?_)
  rw [nI_clamp (Nat.lt_trans hk (by decide)), nx_nar hv, nA_up] at hP hD
  exact kk H locs ⟨I.1, hP, hD, hS⟩
theorem r_st (G : CallFix p m c cc nL s args lw_all RX0) (I : cfI D dA dB h A s H locs (cap, rm, F, ff, ln, jn, ti, ab, st)) {k : Nat} (hk : k < 6) (hdg : decode cc pc = .ok (.iaload, 1)) (kk : W p l e R s m args below meth c H locs cells slots Q (F0 m (pc + 1) ls (.int (nI (st k)) :: rest))) : W p l e R s m args below meth c H locs cells slots Q (F0 m pc ls (.int (nI k) :: .ref (h 8) :: rest)) := by
  refine va_iald (f := nA st) G.1 G.2.1 I.1 I.2.1 8 0 rfl rfl (vp_in_nI hk (by decide)) hdg ?_
  rw [nA_at _ (Nat.lt_trans hk (by decide))]
  exact kk
theorem w_st (G : CallFix p m c cc nL s args lw_all RX0) (I : cfI D dA dB h A s H locs (cap, rm, F, ff, ln, jn, ti, ab, st)) {k v : Nat} (hk : k < 6) (hdg : decode cc pc = .ok (.iastore, 1)) (kk : ∀ (H : Heap) (locs : List Loc), cfI D dA dB h A s H locs (cap, rm, F, ff, ln, jn, ti, ab, va_up st k v) → W p l e R s m args below meth c H locs cells slots Q (F0 m (pc + 1) ls rest)) : W p l e R s m args below meth c H locs cells slots Q (F0 m pc ls (.int (nI v) :: .int (nI k) :: .ref (h 8) :: rest)) := by
  refine va_iast (f := nA st) G.1 G.2.1 I.1 I.2.1 I.2.2.1 I.2.2.2 8 0 rfl rfl (vp_in_nI hk (by decide)) hdg (fun H locs hP hD hS => ?_)
  rw [nI_clamp (Nat.lt_trans hk (by decide)), nA_up] at hP hD
  exact kk H locs ⟨I.1, hP, hD, hS⟩
end CROWS
/-- a CutFinderModel's cells -/
def mdW (g : Nat → Nat) (dA : ClassId) (cap : Nat → Nat) : va_W := [(g 0, .inr (1, [.ref (g 1)])), (g 1, .inl (dA, 36, .inl (nA cap)))]
def mdA (g : Nat → Nat) : Nat → Prop := fun q => q = g 0 ∨ q = g 1
def mdU (D : va_G) (dA dB : ClassId) (g : Nat → Nat) (cap : Nat → Nat) (U : State) : Prop := va_K D vwCl (tysAB dA dB) U ∧ va_P D vwCl (mdW g dA cap) U.heap ∧ va_D (fun _ => True) (mdW g dA cap)
def mdI (D : va_G) (dA dB : ClassId) (g : Nat → Nat) (A : Nat → Prop) (s : State) (H : Heap) (locs : List Loc) (cap : Nat → Nat) : Prop := va_K D vwCl (tysAB dA dB) s ∧ va_P D vwCl (mdW g dA cap) H ∧ va_D A (mdW g dA cap) ∧ va_S A s.heap H locs
theorem mdW_A {g : Nat → Nat} {dA : ClassId} {x : Nat → Nat} {A : Nat → Prop} (hD : va_D A (mdW g dA x)) : ∀ q, mdA g q → A q := by
  intro q hq
  rcases hq with rfl | rfl
  · exact hD.2 0 _ rfl
  · exact hD.2 1 _ rfl
theorem mdW_in {g : Nat → Nat} {dA : ClassId} {x : Nat → Nat} {k : Nat} {q : Nat × va_E} (hq : (mdW g dA x)[k]? = some q) : (k = 0 ∧ q.1 = g 0) ∨ (k = 1 ∧ q.1 = g 1) := by
  match k, hq with
  | 0, hq => cases hq; exact Or.inl ⟨rfl, rfl⟩
  | 1, hq => cases hq; exact Or.inr ⟨rfl, rfl⟩
  | n + 2, hq => simp [mdW] at hq
theorem mdW_D {g : Nat → Nat} {dA : ClassId} {x y : Nat → Nat} {A B : Nat → Prop} (hD : va_D A (mdW g dA x)) (hB : ∀ q, mdA g q → B q) : va_D B (mdW g dA y) := by
  have hne : g 0 ≠ g 1 := fun e => absurd (hD.1 0 1 _ _ rfl rfl e) (by decide)
  refine ⟨fun i j u v hi hj e => ?_, fun k q hk => ?_⟩
  · rcases mdW_in hi with ⟨e1, e2⟩ | ⟨e1, e2⟩ <;> rcases mdW_in hj with ⟨e3, e4⟩ | ⟨e3, e4⟩
    · rw [e1, e3]
    · exact absurd (e2.symm.trans (e.trans e4)) hne
    · exact absurd (e4.symm.trans (e.symm.trans e2)) hne
    · rw [e1, e3]
  · rcases mdW_in hk with ⟨_, e2⟩ | ⟨_, e2⟩
    · exact hB _ (Or.inl e2)
    · exact hB _ (Or.inr e2)
theorem mdI_U {D : va_G} {dA dB : ClassId} {g : Nat → Nat} {A : Nat → Prop} {s t : State} {H : Heap} {locs : List Loc} {x : Nat → Nat} (I : mdI D dA dB g A s H locs x) (ht : t.heap = H) (hv : s.vm.Alike t.vm) : mdU D dA dB g x t :=
  ⟨va_K.moved hv I.1, by rw [ht]; exact I.2.1, I.2.2.1.weaken (fun _ _ _ _ => trivial)⟩
section MROWS
variable {p : Program} {l : Launch} {e : Env} {R : Room} {s : State} {m : MethodId} {args : Array Value} {below : List Frame} {meth : Method} {c : Code} {H : Heap} {locs : List Loc} {cells slots : Nat} {Q : State → Prop}
variable {cc : ByteArray} {nL pc : Nat} {ls : Array Slot} {rest : List Value}
variable {D : va_G} {dA dB : ClassId} {g : Nat → Nat} {A : Nat → Prop} {cap : Nat → Nat}
theorem mg_cap (G : CallFix p m c cc nL s args lw_all RX1) (I : mdI D dA dB g A s H locs cap) (hdg : decode cc pc = .ok (.getfield 7, 3)) (kk : W p l e R s m args below meth c H locs cells slots Q (F0 m (pc + 3) ls (.ref (g 1) :: rest))) : W p l e R s m args below meth c H locs cells slots Q (F0 m pc ls (.ref (g 0) :: rest)) :=
  va_get (D := D) (ci := 1) (v := .ref (g 1)) (C := RX1) (T := TX1) (N := 1) G.1 G.2.1 G.2.2.2.2 in_X1 G.2.2.2.1 I.1 I.2.1 0 rfl rfl 0 (by decide) (G.2.2.2.2 _ q161) (fun _ h9 => h9) rfl hdg kk
theorem mr_cap (G : CallFix p m c cc nL s args lw_all RX1) (I : mdI D dA dB g A s H locs cap) {k : Nat} (hk : k < 36) (hdg : decode cc pc = .ok (.iaload, 1)) (kk : W p l e R s m args below meth c H locs cells slots Q (F0 m (pc + 1) ls (.int (nI (cap k)) :: rest))) : W p l e R s m args below meth c H locs cells slots Q (F0 m pc ls (.int (nI k) :: .ref (g 1) :: rest)) := by
  refine va_iald (f := nA cap) G.1 G.2.1 I.1 I.2.1 1 0 rfl rfl (vp_in_nI hk (by decide)) hdg ?_
  rw [nA_at _ (Nat.lt_trans hk (by decide))]
  exact kk
theorem mw_cap (G : CallFix p m c cc nL s args lw_all RX1) (I : mdI D dA dB g A s H locs cap) {k v : Nat} (hk : k < 36) (hdg : decode cc pc = .ok (.iastore, 1)) (kk : ∀ (H : Heap) (locs : List Loc), mdI D dA dB g A s H locs (va_up cap k v) → W p l e R s m args below meth c H locs cells slots Q (F0 m (pc + 1) ls rest)) : W p l e R s m args below meth c H locs cells slots Q (F0 m pc ls (.int (nI v) :: .int (nI k) :: .ref (g 1) :: rest)) := by
  refine va_iast (f := nA cap) G.1 G.2.1 I.1 I.2.1 I.2.2.1 I.2.2.2 1 0 rfl rfl (vp_in_nI hk (by decide)) hdg (fun H locs hP hD hS => ?_)
  rw [nI_clamp (Nat.lt_trans hk (by decide)), nA_up] at hP hD
  exact kk H locs ⟨I.1, hP, hD, hS⟩
end MROWS
end
section
set_option maxRecDepth 100000
theorem nar_z {r : Int32} (h : r = nI 0 ∨ r = nI 1) : narrow .boolean (.int r) = .int r := by
  rcases h with rfl | rfl <;> rfl
theorem b2i_n (t : Bool) : b2i t = nI 0 ∨ b2i t = nI 1 := by
  cases t
  · exact Or.inl (by decide)
  · exact Or.inr (by decide)
section MET
variable {l : Launch} {D : va_G} {dA dB : ClassId} {h g : Nat → Nat}
/-- a method that writes nothing -/
theorem ro_meti {own : String} {y : MethodName} {cc : ByteArray} {maxL k : Nat} {As : List Value} {B : State → Prop} {post : Int32 → Prop} (hy : plainName y.cls = true) (hc : y.cls = own) (hn : (lg_sl As).length ≤ maxL)
    (body : ∀ (p : Program) (e : Env) (s : State) (m : MethodId) (args : Array Value) (below : List Frame) (meth : Method) (c : Code) (Q : State → Prop) (ls : Array Slot), CallFix p m c cc maxL s args lw_all own → B s → (∀ (pc : Nat) (ls : Array Slot) (r : Int32), decode cc pc = .ok (.ireturn, 1) → post r → W p l e (rmL k) s m args below meth c s.heap [] 0 0 Q (F0 m pc ls [.int r])) → lv_has ls maxL (lv_args 0 As) → W p l e (rmL k) s m args below meth c s.heap [] 0 0 Q (F0 m 0 ls [])) :
    Met l y (ws_ y cc maxL (some .int)) (rmL k) (va_Pc As B) (vp_Si post) 0 0 (fun _ => False) := by
  refine Met.ofW (cc := cc) (maxL := maxL) (ret := (some .int)) hy rfl ?_
  intro p e s m args below meth c s₁ B hml hv
  obtain ⟨rfl, hBs⟩ := hv
  have hx := B.exec
  have hb := B.bytes
  have hr := B.returns
  have hts := atoms_spec (ws := ws_ y cc maxL (some .int)) B.pre
  have hts : ∀ w ∈ lw_all, w.before _ s = true := fun w h => hts w (List.mem_cons_of_mem _ h)
  have hown : s.vm.findClass own = some m.cls := hc ▸ findClass_of_methodNamed B.named
  have hlocks := B.notSynchronized
  have hl := lv_entry (As) (n := maxL) hn
  rw [lg_entry_eq]
  generalize (lg_sl As ++ List.replicate (maxL - (lg_sl As).length) Slot.unset).toArray = ls at hl ⊢
  refine body p e s m _ below meth c _ ls ⟨hx, hb, hml, hown, hts⟩ hBs ?_ hl
  intro pc ls r hdg hp
  exact W.iret (v := r) hx hb hr (fun t ht hW => ⟨r, rfl, hp, ht⟩) (fun q h => absurd h List.not_mem_nil) hdg
/-- a method that writes its object's cells -/
theorem cf_meti {S : Type} {own : String} {y : MethodName} {cc : ByteArray} {maxL k : Nat} {As : List Value} {x : CF} {f : S → CF} {post : Int32 → S → Prop} (hy : plainName y.cls = true) (hc : y.cls = own) (hn : (lg_sl As).length ≤ maxL)
    (body : ∀ (p : Program) (e : Env) (s : State) (m : MethodId) (args : Array Value) (below : List Frame) (meth : Method) (c : Code) (Q : State → Prop) (ls : Array Slot), CallFix p m c cc maxL s args lw_all own → cfI D dA dB h (cfA h) s s.heap [] x → (∀ (pc : Nat) (ls : Array Slot) (H : Heap) (locs : List Loc) (r : Int32) (u : S), decode cc pc = .ok (.ireturn, 1) → post r u → cfI D dA dB h (cfA h) s H locs (f u) → W p l e (rmL k) s m args below meth c H locs 0 0 Q (F0 m pc ls [.int r])) → lv_has ls maxL (lv_args 0 As) → W p l e (rmL k) s m args below meth c s.heap [] 0 0 Q (F0 m 0 ls [])) :
    Met l y (ws_ y cc maxL (some .int)) (rmL k) (va_Pc As (cfU D dA dB h x)) (va_Qi post (fun u t => cfU D dA dB h (f u) t) (cfA h)) 0 0 (cfA h) := by
  refine Met.ofW (cc := cc) (maxL := maxL) (ret := (some .int)) hy rfl ?_
  intro p e s m args below meth c s₁ B hml hv
  obtain ⟨rfl, hBs⟩ := hv
  have hx := B.exec
  have hb := B.bytes
  have hr := B.returns
  have hts := atoms_spec (ws := ws_ y cc maxL (some .int)) B.pre
  have hts : ∀ w ∈ lw_all, w.before _ s = true := fun w h => hts w (List.mem_cons_of_mem _ h)
  have hown : s.vm.findClass own = some m.cls := hc ▸ findClass_of_methodNamed B.named
  have hlocks := B.notSynchronized
  have hl := lv_entry (As) (n := maxL) hn
  rw [lg_entry_eq]
  generalize (lg_sl As ++ List.replicate (maxL - (lg_sl As).length) Slot.unset).toArray = ls at hl ⊢
  refine body p e s m _ below meth c _ ls ⟨hx, hb, hml, hown, hts⟩ ⟨hBs.1, hBs.2.1, cfW_D hBs.2.2 (fun _ h => h), va_S.rf⟩ ?_ hl
  intro pc ls H locs r u hdg hp I
  exact W.iret (v := r) hx hb hr (fun t ht hW => ⟨⟨r, u, rfl, hp, cfI_U I ht hW.alike⟩, I.2.2.2.F ht⟩) I.2.2.2.2.2 hdg
/-- a method that writes its object's cells -/
theorem md_meti {S : Type} {own : String} {y : MethodName} {cc : ByteArray} {maxL k : Nat} {As : List Value} {x : (Nat → Nat)} {f : S → (Nat → Nat)} {post : Int32 → S → Prop} (hy : plainName y.cls = true) (hc : y.cls = own) (hn : (lg_sl As).length ≤ maxL)
    (body : ∀ (p : Program) (e : Env) (s : State) (m : MethodId) (args : Array Value) (below : List Frame) (meth : Method) (c : Code) (Q : State → Prop) (ls : Array Slot), CallFix p m c cc maxL s args lw_all own → mdI D dA dB g (mdA g) s s.heap [] x → (∀ (pc : Nat) (ls : Array Slot) (H : Heap) (locs : List Loc) (r : Int32) (u : S), decode cc pc = .ok (.ireturn, 1) → post r u → mdI D dA dB g (mdA g) s H locs (f u) → W p l e (rmL k) s m args below meth c H locs 0 0 Q (F0 m pc ls [.int r])) → lv_has ls maxL (lv_args 0 As) → W p l e (rmL k) s m args below meth c s.heap [] 0 0 Q (F0 m 0 ls [])) :
    Met l y (ws_ y cc maxL (some .int)) (rmL k) (va_Pc As (mdU D dA dB g x)) (va_Qi post (fun u t => mdU D dA dB g (f u) t) (mdA g)) 0 0 (mdA g) := by
  refine Met.ofW (cc := cc) (maxL := maxL) (ret := (some .int)) hy rfl ?_
  intro p e s m args below meth c s₁ B hml hv
  obtain ⟨rfl, hBs⟩ := hv
  have hx := B.exec
  have hb := B.bytes
  have hr := B.returns
  have hts := atoms_spec (ws := ws_ y cc maxL (some .int)) B.pre
  have hts : ∀ w ∈ lw_all, w.before _ s = true := fun w h => hts w (List.mem_cons_of_mem _ h)
  have hown : s.vm.findClass own = some m.cls := hc ▸ findClass_of_methodNamed B.named
  have hlocks := B.notSynchronized
  have hl := lv_entry (As) (n := maxL) hn
  rw [lg_entry_eq]
  generalize (lg_sl As ++ List.replicate (maxL - (lg_sl As).length) Slot.unset).toArray = ls at hl ⊢
  refine body p e s m _ below meth c _ ls ⟨hx, hb, hml, hown, hts⟩ ⟨hBs.1, hBs.2.1, mdW_D hBs.2.2 (fun _ h => h), va_S.rf⟩ ?_ hl
  intro pc ls H locs r u hdg hp I
  exact W.iret (v := r) hx hb hr (fun t ht hW => ⟨⟨r, u, rfl, hp, mdI_U I ht hW.alike⟩, I.2.2.2.F ht⟩) I.2.2.2.2.2 hdg
/-- a method that writes nothing -/
theorem ro_metz {own : String} {y : MethodName} {cc : ByteArray} {maxL k : Nat} {As : List Value} {B : State → Prop} {post : Int32 → Prop} (hy : plainName y.cls = true) (hc : y.cls = own) (hn : (lg_sl As).length ≤ maxL)
    (body : ∀ (p : Program) (e : Env) (s : State) (m : MethodId) (args : Array Value) (below : List Frame) (meth : Method) (c : Code) (Q : State → Prop) (ls : Array Slot), CallFix p m c cc maxL s args lw_all own → B s → (∀ (pc : Nat) (ls : Array Slot) (r : Int32), decode cc pc = .ok (.ireturn, 1) → (r = nI 0 ∨ r = nI 1) → post r → W p l e (rmL k) s m args below meth c s.heap [] 0 0 Q (F0 m pc ls [.int r])) → lv_has ls maxL (lv_args 0 As) → W p l e (rmL k) s m args below meth c s.heap [] 0 0 Q (F0 m 0 ls [])) :
    Met l y (ws_ y cc maxL (some .boolean)) (rmL k) (va_Pc As B) (vp_Si post) 0 0 (fun _ => False) := by
  refine Met.ofW (cc := cc) (maxL := maxL) (ret := (some .boolean)) hy rfl ?_
  intro p e s m args below meth c s₁ B hml hv
  obtain ⟨rfl, hBs⟩ := hv
  have hx := B.exec
  have hb := B.bytes
  have hr := B.returns
  have hts := atoms_spec (ws := ws_ y cc maxL (some .boolean)) B.pre
  have hts : ∀ w ∈ lw_all, w.before _ s = true := fun w h => hts w (List.mem_cons_of_mem _ h)
  have hown : s.vm.findClass own = some m.cls := hc ▸ findClass_of_methodNamed B.named
  have hlocks := B.notSynchronized
  have hl := lv_entry (As) (n := maxL) hn
  rw [lg_entry_eq]
  generalize (lg_sl As ++ List.replicate (maxL - (lg_sl As).length) Slot.unset).toArray = ls at hl ⊢
  refine body p e s m _ below meth c _ ls ⟨hx, hb, hml, hown, hts⟩ hBs ?_ hl
  intro pc ls r hdg hz hp
  exact W.zret (v := r) (ty := .boolean) hx hb hr (nar_z hz) (fun t ht hW => ⟨r, rfl, hp, ht⟩) (fun q h => absurd h List.not_mem_nil) hdg
/-- a method that writes its object's cells -/
theorem cf_metz {S : Type} {own : String} {y : MethodName} {cc : ByteArray} {maxL k : Nat} {As : List Value} {x : CF} {f : S → CF} {post : Int32 → S → Prop} (hy : plainName y.cls = true) (hc : y.cls = own) (hn : (lg_sl As).length ≤ maxL)
    (body : ∀ (p : Program) (e : Env) (s : State) (m : MethodId) (args : Array Value) (below : List Frame) (meth : Method) (c : Code) (Q : State → Prop) (ls : Array Slot), CallFix p m c cc maxL s args lw_all own → cfI D dA dB h (cfA h) s s.heap [] x → (∀ (pc : Nat) (ls : Array Slot) (H : Heap) (locs : List Loc) (r : Int32) (u : S), decode cc pc = .ok (.ireturn, 1) → (r = nI 0 ∨ r = nI 1) → post r u → cfI D dA dB h (cfA h) s H locs (f u) → W p l e (rmL k) s m args below meth c H locs 0 0 Q (F0 m pc ls [.int r])) → lv_has ls maxL (lv_args 0 As) → W p l e (rmL k) s m args below meth c s.heap [] 0 0 Q (F0 m 0 ls [])) :
    Met l y (ws_ y cc maxL (some .boolean)) (rmL k) (va_Pc As (cfU D dA dB h x)) (va_Qi post (fun u t => cfU D dA dB h (f u) t) (cfA h)) 0 0 (cfA h) := by
  refine Met.ofW (cc := cc) (maxL := maxL) (ret := (some .boolean)) hy rfl ?_
  intro p e s m args below meth c s₁ B hml hv
  obtain ⟨rfl, hBs⟩ := hv
  have hx := B.exec
  have hb := B.bytes
  have hr := B.returns
  have hts := atoms_spec (ws := ws_ y cc maxL (some .boolean)) B.pre
  have hts : ∀ w ∈ lw_all, w.before _ s = true := fun w h => hts w (List.mem_cons_of_mem _ h)
  have hown : s.vm.findClass own = some m.cls := hc ▸ findClass_of_methodNamed B.named
  have hlocks := B.notSynchronized
  have hl := lv_entry (As) (n := maxL) hn
  rw [lg_entry_eq]
  generalize (lg_sl As ++ List.replicate (maxL - (lg_sl As).length) Slot.unset).toArray = ls at hl ⊢
  refine body p e s m _ below meth c _ ls ⟨hx, hb, hml, hown, hts⟩ ⟨hBs.1, hBs.2.1, cfW_D hBs.2.2 (fun _ h => h), va_S.rf⟩ ?_ hl
  intro pc ls H locs r u hdg hz hp I
  exact W.zret (v := r) (ty := .boolean) hx hb hr (nar_z hz) (fun t ht hW => ⟨⟨r, u, rfl, hp, cfI_U I ht hW.alike⟩, I.2.2.2.F ht⟩) I.2.2.2.2.2 hdg
/-- a method that writes its object's cells -/
theorem md_metz {S : Type} {own : String} {y : MethodName} {cc : ByteArray} {maxL k : Nat} {As : List Value} {x : (Nat → Nat)} {f : S → (Nat → Nat)} {post : Int32 → S → Prop} (hy : plainName y.cls = true) (hc : y.cls = own) (hn : (lg_sl As).length ≤ maxL)
    (body : ∀ (p : Program) (e : Env) (s : State) (m : MethodId) (args : Array Value) (below : List Frame) (meth : Method) (c : Code) (Q : State → Prop) (ls : Array Slot), CallFix p m c cc maxL s args lw_all own → mdI D dA dB g (mdA g) s s.heap [] x → (∀ (pc : Nat) (ls : Array Slot) (H : Heap) (locs : List Loc) (r : Int32) (u : S), decode cc pc = .ok (.ireturn, 1) → (r = nI 0 ∨ r = nI 1) → post r u → mdI D dA dB g (mdA g) s H locs (f u) → W p l e (rmL k) s m args below meth c H locs 0 0 Q (F0 m pc ls [.int r])) → lv_has ls maxL (lv_args 0 As) → W p l e (rmL k) s m args below meth c s.heap [] 0 0 Q (F0 m 0 ls [])) :
    Met l y (ws_ y cc maxL (some .boolean)) (rmL k) (va_Pc As (mdU D dA dB g x)) (va_Qi post (fun u t => mdU D dA dB g (f u) t) (mdA g)) 0 0 (mdA g) := by
  refine Met.ofW (cc := cc) (maxL := maxL) (ret := (some .boolean)) hy rfl ?_
  intro p e s m args below meth c s₁ B hml hv
  obtain ⟨rfl, hBs⟩ := hv
  have hx := B.exec
  have hb := B.bytes
  have hr := B.returns
  have hts := atoms_spec (ws := ws_ y cc maxL (some .boolean)) B.pre
  have hts : ∀ w ∈ lw_all, w.before _ s = true := fun w h => hts w (List.mem_cons_of_mem _ h)
  have hown : s.vm.findClass own = some m.cls := hc ▸ findClass_of_methodNamed B.named
  have hlocks := B.notSynchronized
  have hl := lv_entry (As) (n := maxL) hn
  rw [lg_entry_eq]
  generalize (lg_sl As ++ List.replicate (maxL - (lg_sl As).length) Slot.unset).toArray = ls at hl ⊢
  refine body p e s m _ below meth c _ ls ⟨hx, hb, hml, hown, hts⟩ ⟨hBs.1, hBs.2.1, mdW_D hBs.2.2 (fun _ h => h), va_S.rf⟩ ?_ hl
  intro pc ls H locs r u hdg hz hp I
  exact W.zret (v := r) (ty := .boolean) hx hb hr (nar_z hz) (fun t ht hW => ⟨⟨r, u, rfl, hp, mdI_U I ht hW.alike⟩, I.2.2.2.F ht⟩) I.2.2.2.2.2 hdg
theorem cf_metv {S : Type} {own : String} {y : MethodName} {cc : ByteArray} {maxL k : Nat} {As : List Value} {x : CF} {f : S → CF} {post : S → Prop} (hy : plainName y.cls = true) (hc : y.cls = own) (hn : (lg_sl As).length ≤ maxL)
    (body : ∀ (p : Program) (e : Env) (s : State) (m : MethodId) (args : Array Value) (below : List Frame) (meth : Method) (c : Code) (Q : State → Prop) (ls : Array Slot), CallFix p m c cc maxL s args lw_all own → cfI D dA dB h (cfA h) s s.heap [] x → (∀ (pc : Nat) (ls : Array Slot) (H : Heap) (locs : List Loc) (u : S), decode cc pc = .ok (.return_, 1) → post u → cfI D dA dB h (cfA h) s H locs (f u) → W p l e (rmL k) s m args below meth c H locs 0 0 Q (F0 m pc ls [])) → lv_has ls maxL (lv_args 0 As) → W p l e (rmL k) s m args below meth c s.heap [] 0 0 Q (F0 m 0 ls [])) :
    Met l y (ws_ y cc maxL none) (rmL k) (va_Pc As (cfU D dA dB h x)) (va_Qv post (fun u t => cfU D dA dB h (f u) t) (cfA h)) 0 0 (cfA h) := by
  refine Met.ofW (cc := cc) (maxL := maxL) (ret := none) hy rfl ?_
  intro p e s m args below meth c s₁ B hml hv
  obtain ⟨rfl, hBs⟩ := hv
  have hx := B.exec
  have hb := B.bytes
  have hr := B.returns
  have hts := atoms_spec (ws := ws_ y cc maxL none) B.pre
  have hts : ∀ w ∈ lw_all, w.before _ s = true := fun w h => hts w (List.mem_cons_of_mem _ h)
  have hown : s.vm.findClass own = some m.cls := hc ▸ findClass_of_methodNamed B.named
  have hlocks := B.notSynchronized
  have hl := lv_entry (As) (n := maxL) hn
  rw [lg_entry_eq]
  generalize (lg_sl As ++ List.replicate (maxL - (lg_sl As).length) Slot.unset).toArray = ls at hl ⊢
  refine body p e s m _ below meth c _ ls ⟨hx, hb, hml, hown, hts⟩ ⟨hBs.1, hBs.2.1, cfW_D hBs.2.2 (fun _ h => h), va_S.rf⟩ ?_ hl
  intro pc ls H locs u hdg hp I
  exact W.vret hx hb hr (fun t ht hW => ⟨⟨u, rfl, hp, cfI_U I ht hW.alike⟩, I.2.2.2.F ht⟩) I.2.2.2.2.2 hdg
theorem md_metv {S : Type} {own : String} {y : MethodName} {cc : ByteArray} {maxL k : Nat} {As : List Value} {x : (Nat → Nat)} {f : S → (Nat → Nat)} {post : S → Prop} (hy : plainName y.cls = true) (hc : y.cls = own) (hn : (lg_sl As).length ≤ maxL)
    (body : ∀ (p : Program) (e : Env) (s : State) (m : MethodId) (args : Array Value) (below : List Frame) (meth : Method) (c : Code) (Q : State → Prop) (ls : Array Slot), CallFix p m c cc maxL s args lw_all own → mdI D dA dB g (mdA g) s s.heap [] x → (∀ (pc : Nat) (ls : Array Slot) (H : Heap) (locs : List Loc) (u : S), decode cc pc = .ok (.return_, 1) → post u → mdI D dA dB g (mdA g) s H locs (f u) → W p l e (rmL k) s m args below meth c H locs 0 0 Q (F0 m pc ls [])) → lv_has ls maxL (lv_args 0 As) → W p l e (rmL k) s m args below meth c s.heap [] 0 0 Q (F0 m 0 ls [])) :
    Met l y (ws_ y cc maxL none) (rmL k) (va_Pc As (mdU D dA dB g x)) (va_Qv post (fun u t => mdU D dA dB g (f u) t) (mdA g)) 0 0 (mdA g) := by
  refine Met.ofW (cc := cc) (maxL := maxL) (ret := none) hy rfl ?_
  intro p e s m args below meth c s₁ B hml hv
  obtain ⟨rfl, hBs⟩ := hv
  have hx := B.exec
  have hb := B.bytes
  have hr := B.returns
  have hts := atoms_spec (ws := ws_ y cc maxL none) B.pre
  have hts : ∀ w ∈ lw_all, w.before _ s = true := fun w h => hts w (List.mem_cons_of_mem _ h)
  have hown : s.vm.findClass own = some m.cls := hc ▸ findClass_of_methodNamed B.named
  have hlocks := B.notSynchronized
  have hl := lv_entry (As) (n := maxL) hn
  rw [lg_entry_eq]
  generalize (lg_sl As ++ List.replicate (maxL - (lg_sl As).length) Slot.unset).toArray = ls at hl ⊢
  refine body p e s m _ below meth c _ ls ⟨hx, hb, hml, hown, hts⟩ ⟨hBs.1, hBs.2.1, mdW_D hBs.2.2 (fun _ h => h), va_S.rf⟩ ?_ hl
  intro pc ls H locs u hdg hp I
  exact W.vret hx hb hr (fun t ht hW => ⟨⟨u, rfl, hp, mdI_U I ht hW.alike⟩, I.2.2.2.F ht⟩) I.2.2.2.2.2 hdg
end MET
section CALLS
variable {p : Program} {l : Launch} {e : Env} {R : Room} {s : State} {m : MethodId} {args : Array Value} {below : List Frame} {meth : Method} {c : Code} {H : Heap} {locs : List Loc} {cells slots : Nat} {Q : State → Prop}
variable {cc cb : ByteArray} {own : String} {nL pc n idx mL k : Nat} {ls : Array Slot} {rest : List Value} {y : MethodName} {ret : Option FieldType} {As : List Value}
variable {D : va_G} {dA dB : ClassId} {h g : Nat → Nat} {A : Nat → Prop} {x : CF} {cap : Nat → Nat}
/-- the words of a call through an object -/
def callWords (own : String) (idx : Nat) (C : String) (y : MethodName) (cb : ByteArray) (mL : Nat) (ret : Option FieldType) (n : Nat) : Prop := GoodIn lw_all (wsV own idx C y (ws_ y cb mL ret)) ∧ (y.cls = C ∧ y.cls ≠ "java/lang/invoke/MethodHandle" ∧ y.cls ≠ "java/lang/invoke/VarHandle" ∧ (parseMethodDescriptor y.desc).map (fun d => d.parameters.length) = some n)
def callWordsS (own : String) (idx : Nat) (y : MethodName) (cb : ByteArray) (mL : Nat) (ret : Option FieldType) (n : Nat) : Prop := GoodIn lw_all (va_wsS own idx y (ws_ y cb mL ret)) ∧ (y.cls ≠ "java/lang/invoke/MethodHandle" ∧ y.cls ≠ "java/lang/invoke/VarHandle" ∧ (parseMethodDescriptor y.desc).map (fun d => d.parameters.length) = some n)
/-- the room that is left for a callee -/
abbrev roomFor (R : Room) (cells slots k mL : Nat) : Prop := (k + 1 ≤ R.frames ∧ 8 + (mL + 11) + 27 * k ≤ R.locals) ∧ cells + 0 ≤ R.cells ∧ slots + 0 ≤ R.slots
theorem st_call (G : CallFix p m c cc nL s args lw_all own) {post : Int32 → Prop} (hM : Met l y (ws_ y cb mL ret) (rmL k) (va_Pc As (fun _ => True)) (vp_Si post) 0 0 (fun _ => False)) (cw : callWordsS own idx y cb mL ret n) (hR : roomFor R cells slots k mL) (hn : As.length = n) (hls : ls.size = nL) (hrm : (rest.map fun v => v.category).sum ≤ 8) {st0 : List Value} (hst : st0 = As.reverse ++ rest) (hdg : decode cc pc = .ok (.invokestatic idx, 3))
    (kk : ∀ r : Int32, post r → W p l e R s m args below meth c H locs cells slots Q (F0 m (pc + 3) ls (.int r :: rest))) : W p l e R s m args below meth c H locs cells slots Q (F0 m pc ls st0) :=
  vp_callSi (W.runS (As := As) (rest := rest) G hM (va_cwS n G.2.2.2.2 cw.1 rfl rfl rfl cw.2 hR.1) ⟨fun a U g mk q => ⟨q.1, trivial⟩, fun U hU hW => ⟨rfl, trivial⟩⟩ rfl hn hls hst (lv_room hrm) hdg hR.2) kk
theorem cf_blind {av : List Value} : FrameBlind (va_Pc av (cfU D dA dB h x)) := fun a U g mk q => ⟨q.1, va_K.moved (u := U) (U := U.calling g mk a) (Vm.Alike.refl U.vm) q.2.1, q.2.2⟩
theorem cf_recv (I : cfI D dA dB h A s H locs x) : ∃ cell : Cell, H[h 0]? = some cell ∧ cell.vm.isStatics = false ∧ s.vm.findClass RX0 = some cell.cls := va_recv I.1 I.2.1 (ci := 0) (q0 := 0) rfl rfl
/-- a call of a method that writes nothing -/
theorem cf_ro (G : CallFix p m c cc nL s args lw_all own) (I : cfI D dA dB h A s H locs x) {post : Int32 → Prop} (hM : Met l y (ws_ y cb mL ret) (rmL k) (va_Pc (.ref (h 0) :: As) (cfU D dA dB h x)) (vp_Si post) 0 0 (fun _ => False)) (cw : callWords own idx RX0 y cb mL ret n) (hR : roomFor R cells slots k mL) (hn : As.length = n) (hls : ls.size = nL) (hrm : (rest.map fun v => v.category).sum ≤ 8) {st0 : List Value} (hst : st0 = As.reverse ++ .ref (h 0) :: rest) (hdg : decode cc pc = .ok (.invokevirtual idx, 3))
    (kk : ∀ r : Int32, post r → W p l e R s m args below meth c H locs cells slots Q (F0 m (pc + 3) ls (.int r :: rest))) : W p l e R s m args below meth c H locs cells slots Q (F0 m pc ls st0) :=
  vp_callSi (W.runV (As := As) (rest := rest) G hM (cwV n G.2.2.2.2 cw.1 rfl rfl rfl cw.2 hR.1) ⟨cf_blind, cf_recv I, fun U hU hW => ⟨rfl, cfI_U I hU hW.alike⟩⟩ rfl hn hls hst (lv_room hrm) hdg hR.2) kk
/-- a call of a method that writes its object's cells, and answers -/
theorem cf_mi {S : Type} {post : Int32 → S → Prop} {f : S → CF} (G : CallFix p m c cc nL s args lw_all own) (I : cfI D dA dB h A s H locs x) (hM : Met l y (ws_ y cb mL ret) (rmL k) (va_Pc (.ref (h 0) :: As) (cfU D dA dB h x)) (va_Qi post (fun u t => cfU D dA dB h (f u) t) (cfA h)) 0 0 (cfA h)) (cw : callWords own idx RX0 y cb mL ret n) (hR : roomFor R cells slots k mL) (hn : As.length = n) (hls : ls.size = nL) (hrm : (rest.map fun v => v.category).sum ≤ 8) {st0 : List Value} (hst : st0 = As.reverse ++ .ref (h 0) :: rest) (hdg : decode cc pc = .ok (.invokevirtual idx, 3))
    (kk : ∀ (r : Int32) (u : S) (H1 : Heap) (locs1 : List Loc), post r u → cfI D dA dB h A s H1 locs1 (f u) → H.size ≤ H1.size → (∀ q : Nat, q < H.size → ¬ cfA h q → H1[q]? = H[q]?) → W p l e R s m args below meth c H1 locs1 cells slots Q (F0 m (pc + 3) ls (.int r :: rest))) : W p l e R s m args below meth c H locs cells slots Q (F0 m pc ls st0) :=
  va_calli (va_runV (As := As) (rest := rest) G hM (cwV n G.2.2.2.2 cw.1 rfl rfl rfl cw.2 hR.1) ⟨cf_blind, cf_recv I, fun U hU hW => ⟨rfl, cfI_U I hU hW.alike⟩⟩ rfl hn hls hst (lv_room hrm) hdg hR.2) I.2.2.2 (fun q _ hq => cfW_A I.2.2.1 q hq) (cfW_A I.2.2.1)
    (fun r u t H1 locs1 ht _ hp hB hz hk hS => kk r u H1 locs1 hp ⟨I.1, by rw [← ht]; exact hB.2.1, cfW_D I.2.2.1 (cfW_A I.2.2.1), hS⟩ hz hk)
theorem cf_mv {S : Type} {post : S → Prop} {f : S → CF} (G : CallFix p m c cc nL s args lw_all own) (I : cfI D dA dB h A s H locs x) (hM : Met l y (ws_ y cb mL ret) (rmL k) (va_Pc (.ref (h 0) :: As) (cfU D dA dB h x)) (va_Qv post (fun u t => cfU D dA dB h (f u) t) (cfA h)) 0 0 (cfA h)) (cw : callWords own idx RX0 y cb mL ret n) (hR : roomFor R cells slots k mL) (hn : As.length = n) (hls : ls.size = nL) (hrm : (rest.map fun v => v.category).sum ≤ 8) {st0 : List Value} (hst : st0 = As.reverse ++ .ref (h 0) :: rest) (hdg : decode cc pc = .ok (.invokevirtual idx, 3))
    (kk : ∀ (u : S) (H1 : Heap) (locs1 : List Loc), post u → cfI D dA dB h A s H1 locs1 (f u) → H.size ≤ H1.size → (∀ q : Nat, q < H.size → ¬ cfA h q → H1[q]? = H[q]?) → W p l e R s m args below meth c H1 locs1 cells slots Q (F0 m (pc + 3) ls rest)) : W p l e R s m args below meth c H locs cells slots Q (F0 m pc ls st0) :=
  va_callv (va_runV (As := As) (rest := rest) G hM (cwV n G.2.2.2.2 cw.1 rfl rfl rfl cw.2 hR.1) ⟨cf_blind, cf_recv I, fun U hU hW => ⟨rfl, cfI_U I hU hW.alike⟩⟩ rfl hn hls hst (lv_room hrm) hdg hR.2) I.2.2.2 (fun q _ hq => cfW_A I.2.2.1 q hq) (cfW_A I.2.2.1)
    (fun u t H1 locs1 ht _ hp hB hz hk hS => kk u H1 locs1 hp ⟨I.1, by rw [← ht]; exact hB.2.1, cfW_D I.2.2.1 (cfW_A I.2.2.1), hS⟩ hz hk)
theorem md_blind {av : List Value} : FrameBlind (va_Pc av (mdU D dA dB g cap)) := fun a U g mk q => ⟨q.1, va_K.moved (u := U) (U := U.calling g mk a) (Vm.Alike.refl U.vm) q.2.1, q.2.2⟩
theorem md_recv (I : mdI D dA dB g A s H locs cap) : ∃ cell : Cell, H[g 0]? = some cell ∧ cell.vm.isStatics = false ∧ s.vm.findClass RX1 = some cell.cls := va_recv I.1 I.2.1 (ci := 1) (q0 := 0) rfl rfl
/-- a call of a method that writes nothing -/
theorem md_ro (G : CallFix p m c cc nL s args lw_all own) (I : mdI D dA dB g A s H locs cap) {post : Int32 → Prop} (hM : Met l y (ws_ y cb mL ret) (rmL k) (va_Pc (.ref (g 0) :: As) (mdU D dA dB g cap)) (vp_Si post) 0 0 (fun _ => False)) (cw : callWords own idx RX1 y cb mL ret n) (hR : roomFor R cells slots k mL) (hn : As.length = n) (hls : ls.size = nL) (hrm : (rest.map fun v => v.category).sum ≤ 8) {st0 : List Value} (hst : st0 = As.reverse ++ .ref (g 0) :: rest) (hdg : decode cc pc = .ok (.invokevirtual idx, 3))
    (kk : ∀ r : Int32, post r → W p l e R s m args below meth c H locs cells slots Q (F0 m (pc + 3) ls (.int r :: rest))) : W p l e R s m args below meth c H locs cells slots Q (F0 m pc ls st0) :=
  vp_callSi (W.runV (As := As) (rest := rest) G hM (cwV n G.2.2.2.2 cw.1 rfl rfl rfl cw.2 hR.1) ⟨md_blind, md_recv I, fun U hU hW => ⟨rfl, mdI_U I hU hW.alike⟩⟩ rfl hn hls hst (lv_room hrm) hdg hR.2) kk
/-- a call of a method that writes its object's cells, and answers -/
theorem md_mi {S : Type} {post : Int32 → S → Prop} {f : S → (Nat → Nat)} (G : CallFix p m c cc nL s args lw_all own) (I : mdI D dA dB g A s H locs cap) (hM : Met l y (ws_ y cb mL ret) (rmL k) (va_Pc (.ref (g 0) :: As) (mdU D dA dB g cap)) (va_Qi post (fun u t => mdU D dA dB g (f u) t) (mdA g)) 0 0 (mdA g)) (cw : callWords own idx RX1 y cb mL ret n) (hR : roomFor R cells slots k mL) (hn : As.length = n) (hls : ls.size = nL) (hrm : (rest.map fun v => v.category).sum ≤ 8) {st0 : List Value} (hst : st0 = As.reverse ++ .ref (g 0) :: rest) (hdg : decode cc pc = .ok (.invokevirtual idx, 3))
    (kk : ∀ (r : Int32) (u : S) (H1 : Heap) (locs1 : List Loc), post r u → mdI D dA dB g A s H1 locs1 (f u) → H.size ≤ H1.size → (∀ q : Nat, q < H.size → ¬ mdA g q → H1[q]? = H[q]?) → W p l e R s m args below meth c H1 locs1 cells slots Q (F0 m (pc + 3) ls (.int r :: rest))) : W p l e R s m args below meth c H locs cells slots Q (F0 m pc ls st0) :=
  va_calli (va_runV (As := As) (rest := rest) G hM (cwV n G.2.2.2.2 cw.1 rfl rfl rfl cw.2 hR.1) ⟨md_blind, md_recv I, fun U hU hW => ⟨rfl, mdI_U I hU hW.alike⟩⟩ rfl hn hls hst (lv_room hrm) hdg hR.2) I.2.2.2 (fun q _ hq => mdW_A I.2.2.1 q hq) (mdW_A I.2.2.1)
    (fun r u t H1 locs1 ht _ hp hB hz hk hS => kk r u H1 locs1 hp ⟨I.1, by rw [← ht]; exact hB.2.1, mdW_D I.2.2.1 (mdW_A I.2.2.1), hS⟩ hz hk)
theorem md_mv {S : Type} {post : S → Prop} {f : S → (Nat → Nat)} (G : CallFix p m c cc nL s args lw_all own) (I : mdI D dA dB g A s H locs cap) (hM : Met l y (ws_ y cb mL ret) (rmL k) (va_Pc (.ref (g 0) :: As) (mdU D dA dB g cap)) (va_Qv post (fun u t => mdU D dA dB g (f u) t) (mdA g)) 0 0 (mdA g)) (cw : callWords own idx RX1 y cb mL ret n) (hR : roomFor R cells slots k mL) (hn : As.length = n) (hls : ls.size = nL) (hrm : (rest.map fun v => v.category).sum ≤ 8) {st0 : List Value} (hst : st0 = As.reverse ++ .ref (g 0) :: rest) (hdg : decode cc pc = .ok (.invokevirtual idx, 3))
    (kk : ∀ (u : S) (H1 : Heap) (locs1 : List Loc), post u → mdI D dA dB g A s H1 locs1 (f u) → H.size ≤ H1.size → (∀ q : Nat, q < H.size → ¬ mdA g q → H1[q]? = H[q]?) → W p l e R s m args below meth c H1 locs1 cells slots Q (F0 m (pc + 3) ls rest)) : W p l e R s m args below meth c H locs cells slots Q (F0 m pc ls st0) :=
  va_callv (va_runV (As := As) (rest := rest) G hM (cwV n G.2.2.2.2 cw.1 rfl rfl rfl cw.2 hR.1) ⟨md_blind, md_recv I, fun U hU hW => ⟨rfl, mdI_U I hU hW.alike⟩⟩ rfl hn hls hst (lv_room hrm) hdg hR.2) I.2.2.2 (fun q _ hq => mdW_A I.2.2.1 q hq) (mdW_A I.2.2.1)
    (fun u t H1 locs1 ht _ hp hB hz hk hS => kk u H1 locs1 hp ⟨I.1, by rw [← ht]; exact hB.2.1, mdW_D I.2.2.1 (mdW_A I.2.2.1), hS⟩ hz hk)
end CALLS
end
section
/-! sums over places, costs of sides: plain numbers, no machine -/
def sm : Nat → (Nat → Nat) → Nat
  | 0, _ => 0
  | n + 1, f => sm n f + f n
theorem sm_congr : ∀ {n : Nat} {f g : Nat → Nat}, (∀ i, i < n → f i = g i) → sm n f = sm n g
  | 0, _, _, _ => rfl
  | n + 1, f, g, h => by
    show sm n f + f n = sm n g + g n
    rw [sm_congr (fun i hi => h i (by omega)), h n (by omega)]
theorem sm_le : ∀ {n : Nat} {f g : Nat → Nat}, (∀ i, i < n → f i ≤ g i) → sm n f ≤ sm n g
  | 0, _, _, _ => Nat.le_refl _
  | n + 1, f, g, h => by
    have h1 := sm_le (n := n) (f := f) (g := g) (fun i hi => h i (by omega))
    have h2 := h n (by omega)
    show sm n f + f n ≤ sm n g + g n
    omega
theorem sm_lt : ∀ {n : Nat} {f g : Nat → Nat}, (∀ i, i < n → f i ≤ g i) → ∀ {k : Nat}, k < n → f k < g k → sm n f < sm n g
  | 0, _, _, _, _, hk, _ => absurd hk (by omega)
  | n + 1, f, g, h, k, hk, hlt => by
    have h2 := h n (by omega)
    show sm n f + f n < sm n g + g n
    by_cases hkn : k = n
    · subst hkn
      have h1 := sm_le (n := k) (f := f) (g := g) (fun i hi => h i (by omega))
      omega
    · have h1 := sm_lt (n := n) (f := f) (g := g) (fun i hi => h i (by omega)) (k := k) (by omega) hlt
      omega
theorem sm_add : ∀ (n : Nat) (f g : Nat → Nat), sm n (fun i => f i + g i) = sm n f + sm n g
  | 0, _, _ => rfl
  | n + 1, f, g => by
    show sm n (fun i => f i + g i) + (f n + g n) = (sm n f + f n) + (sm n g + g n)
    rw [sm_add n f g]
    omega
theorem sm_zero {n : Nat} {f : Nat → Nat} (h : ∀ i, i < n → f i = 0) : sm n f = 0 := by
  induction n with
  | zero => rfl
  | succ n ih =>
    show sm n f + f n = 0
    rw [ih (fun i hi => h i (by omega)), h n (by omega)]
theorem sm_ge : ∀ {n : Nat} {f : Nat → Nat} {k : Nat}, k < n → f k ≤ sm n f
  | 0, _, _, hk => absurd hk (by omega)
  | n + 1, f, k, hk => by
    show f k ≤ sm n f + f n
    by_cases hkn : k = n
    · subst hkn; omega
    · have := sm_ge (n := n) (f := f) (k := k) (by omega)
      omega
theorem sm_bound {n B : Nat} {f : Nat → Nat} (h : ∀ i, i < n → f i ≤ B) : sm n f ≤ n * B := by
  induction n with
  | zero => exact Nat.zero_le _
  | succ n ih =>
    have h1 := ih (fun i hi => h i (by omega))
    have h2 := h n (by omega)
    show sm n f + f n ≤ (n + 1) * B
    rw [Nat.succ_mul]
    omega
theorem sm_one {n : Nat} {f g : Nat → Nat} {k : Nat} (hk : k < n) (h : ∀ i, i < n → i ≠ k → g i = f i) : sm n g + f k = sm n f + g k := by
  induction n with
  | zero => exact absurd hk (by omega)
  | succ n ih =>
    show sm n g + g n + f k = sm n f + f n + g k
    by_cases hkn : k = n
    · subst hkn
      have := sm_congr (n := k) (f := g) (g := f) (fun i hi => h i (by omega) (by omega))
      omega
    · have h1 := ih (by omega) (fun i hi => h i (by omega))
      have h2 := h n (by omega) (by omega)
      omega
theorem sm_ite {n u k : Nat} (hu : u < n) : sm n (fun a => if a = u then k else 0) = k := by
  have h := sm_one (n := n) (f := fun _ => 0) (g := fun a => if a = u then k else 0) hu (fun i _ hne => if_neg hne)
  rw [sm_zero (f := fun _ => 0) (fun _ _ => rfl)] at h
  simpa using h
theorem sm_swap : ∀ (n m : Nat) (f : Nat → Nat → Nat), sm n (fun i => sm m (fun j => f i j)) = sm m (fun j => sm n (fun i => f i j))
  | 0, m, f => (sm_zero (fun _ _ => rfl)).symm
  | n + 1, m, f => by
    show sm n (fun i => sm m (fun j => f i j)) + sm m (fun j => f n j) = sm m (fun j => sm n (fun i => f i j) + f n j)
    rw [sm_swap n m f, sm_add]
def s2 (f : Nat → Nat → Nat) : Nat := sm 6 (fun a => sm 6 (fun b => f a b))
theorem s2_congr {f g : Nat → Nat → Nat} (h : ∀ a, a < 6 → ∀ b, b < 6 → f a b = g a b) : s2 f = s2 g := sm_congr (fun a ha => sm_congr (fun b hb => h a ha b hb))
theorem s2_le {f g : Nat → Nat → Nat} (h : ∀ a, a < 6 → ∀ b, b < 6 → f a b ≤ g a b) : s2 f ≤ s2 g := sm_le (fun a ha => sm_le (fun b hb => h a ha b hb))
theorem s2_lt {f g : Nat → Nat → Nat} (h : ∀ a, a < 6 → ∀ b, b < 6 → f a b ≤ g a b) {u v : Nat} (hu : u < 6) (hv : v < 6) (hlt : f u v < g u v) : s2 f < s2 g :=
  sm_lt (fun a ha => sm_le (fun b hb => h a ha b hb)) hu (sm_lt (fun b hb => h u hu b hb) hv hlt)
theorem s2_add (f g : Nat → Nat → Nat) : s2 (fun a b => f a b + g a b) = s2 f + s2 g := by
  unfold s2
  rw [← sm_add]
  exact sm_congr (fun a _ => sm_add 6 _ _)
theorem s2_swap (f : Nat → Nat → Nat) : s2 f = s2 (fun a b => f b a) := sm_swap 6 6 f
theorem s2_zero {f : Nat → Nat → Nat} (h : ∀ a, a < 6 → ∀ b, b < 6 → f a b = 0) : s2 f = 0 := sm_zero (fun a ha => sm_zero (fun b hb => h a ha b hb))
theorem s2_ge {f : Nat → Nat → Nat} {u v : Nat} (hu : u < 6) (hv : v < 6) : f u v ≤ s2 f := Nat.le_trans (sm_ge (f := fun b => f u b) hv) (sm_ge (f := fun a => sm 6 (fun b => f a b)) hu)
theorem s2_bound {B : Nat} {f : Nat → Nat → Nat} (h : ∀ a, a < 6 → ∀ b, b < 6 → f a b ≤ B) : s2 f ≤ 36 * B := by
  have h1 : s2 f ≤ 6 * (6 * B) := sm_bound (fun a ha => sm_bound (fun b hb => h a ha b hb))
  omega
theorem s2_one {f g : Nat → Nat → Nat} {u v : Nat} (hu : u < 6) (hv : v < 6) (h : ∀ a, a < 6 → ∀ b, b < 6 → ¬ (a = u ∧ b = v) → g a b = f a b) : s2 g + f u v = s2 f + g u v := by
  have h1 : sm 6 (fun b => g u b) + f u v = sm 6 (fun b => f u b) + g u v := sm_one (f := fun b => f u b) (g := fun b => g u b) hv (fun b hb hne => h u hu b hb (fun z => hne z.2))
  have h2 : s2 g + sm 6 (fun b => f u b) = s2 f + sm 6 (fun b => g u b) := sm_one (f := fun a => sm 6 (fun b => f a b)) (g := fun a => sm 6 (fun b => g a b)) hu (fun a ha hne => sm_congr (fun b hb => h a ha b hb (fun z => hne z.1)))
  omega
theorem s2_row {u : Nat} (hu : u < 6) (g : Nat → Nat) : s2 (fun a b => if a = u then g b else 0) = sm 6 g := by
  have h : s2 (fun a b => if a = u then g b else 0) = sm 6 (fun a => if a = u then sm 6 g else 0) := by
    refine sm_congr (fun a _ => ?_)
    by_cases e : a = u
    · simp only [e, if_true]
    · simp only [e, if_false]
      exact sm_zero (fun _ _ => rfl)
  rw [h, sm_ite hu]
theorem s2_col {u : Nat} (hu : u < 6) (g : Nat → Nat) : s2 (fun a b => if b = u then g a else 0) = sm 6 g := by
  rw [s2_swap]
  exact s2_row hu g
/-! matrices, sides, costs -/
def mx (c : Nat → Nat) : Nat → Nat → Nat := fun a b => c (a * 6 + b)
def cst (M : Nat → Nat → Nat) (P : Nat → Bool) : Nat := s2 (fun a b => if (P a && !P b) = true then M a b else 0)
def Sym (M : Nat → Nat → Nat) : Prop := ∀ a, a < 6 → ∀ b, b < 6 → M a b = M b a
theorem cst_congr {M : Nat → Nat → Nat} {P P' : Nat → Bool} (h : ∀ a, a < 6 → P a = P' a) : cst M P = cst M P' :=
  s2_congr (fun a ha b hb => by rw [h a ha, h b hb])
theorem cst_mx {M M' : Nat → Nat → Nat} {P : Nat → Bool} (h : ∀ a, a < 6 → ∀ b, b < 6 → M a b = M' a b) : cst M P = cst M' P :=
  s2_congr (fun a ha b hb => by rw [h a ha b hb])
theorem cst_flip {M : Nat → Nat → Nat} (hs : Sym M) (P : Nat → Bool) : cst M P = s2 (fun a b => if (P b && !P a) = true then M a b else 0) := by
  unfold cst
  rw [s2_swap]
  exact s2_congr (fun a ha b hb => by rw [hs b hb a ha])
theorem cst_compl {M : Nat → Nat → Nat} (hs : Sym M) (P : Nat → Bool) : cst M (fun a => !P a) = cst M P := by
  rw [cst_flip hs P]
  exact s2_congr (fun a _ b _ => by dsimp only; rw [Bool.not_not, Bool.and_comm])
theorem cst_dbl {M : Nat → Nat → Nat} (hs : Sym M) (P : Nat → Bool) : cst M P + cst M P = s2 (fun a b => if (P a != P b) = true then M a b else 0) := by
  have h : cst M P + cst M P = cst M P + s2 (fun a b => if (P b && !P a) = true then M a b else 0) := by rw [← cst_flip hs P]
  rw [h]
  unfold cst
  rw [← s2_add]
  exact s2_congr (fun a _ b _ => by cases P a <;> cases P b <;> simp)
/-- two sides that cross: what is in the one alone and in the other alone cost no more together -/
theorem cst_posi {M : Nat → Nat → Nat} (hs : Sym M) (P R : Nat → Bool) : cst M (fun a => P a && !R a) + cst M (fun a => R a && !P a) ≤ cst M P + cst M R := by
  have h1 := cst_dbl hs (fun a => P a && !R a)
  have h2 := cst_dbl hs (fun a => R a && !P a)
  have h3 := cst_dbl hs P
  have h4 := cst_dbl hs R
  have h5 : s2 (fun a b => if ((P a && !R a) != (P b && !R b)) = true then M a b else 0) + s2 (fun a b => if ((R a && !P a) != (R b && !P b)) = true then M a b else 0) ≤ s2 (fun a b => if (P a != P b) = true then M a b else 0) + s2 (fun a b => if (R a != R b) = true then M a b else 0) := by
    rw [← s2_add, ← s2_add]
    refine s2_le (fun a _ b _ => ?_)
    cases P a <;> cases P b <;> cases R a <;> cases R b <;> simp
  omega
theorem cst_bound {M : Nat → Nat → Nat} {B : Nat} (h : ∀ a, a < 6 → ∀ b, b < 6 → M a b ≤ B) (P : Nat → Bool) : cst M P ≤ 36 * B :=
  s2_bound (fun a ha b hb => by
    have := h a ha b hb
    split <;> omega)
/-! sets of places as numbers -/
theorem tb_hi {S i : Nat} (hS : S < 64) (hi : 6 ≤ i) : S.testBit i = false := Nat.testBit_lt_two_pow (Nat.lt_of_lt_of_le hS (Nat.pow_le_pow_right (by omega) hi : 2 ^ 6 ≤ 2 ^ i))
theorem tb_ext {S T : Nat} (hS : S < 64) (hT : T < 64) (h : ∀ i, i < 6 → S.testBit i = T.testBit i) : S = T := by
  refine Nat.eq_of_testBit_eq (fun i => ?_)
  by_cases hi : i < 6
  · exact h i hi
  · rw [tb_hi hS (by omega), tb_hi hT (by omega)]
theorem tb_0 (i : Nat) : Nat.testBit 0 i = false := Nat.zero_testBit i
theorem tb_63 : ∀ i, i < 6 → Nat.testBit 63 i = true := by decide
theorem tb_pow (a i : Nat) : Nat.testBit (2 ^ a) i = decide (a = i) := Nat.testBit_two_pow
theorem tb_or_lt {S a : Nat} (hS : S < 64) (ha : a < 6) : S ||| 2 ^ a < 64 := Nat.or_lt_two_pow (n := 6) hS (Nat.pow_lt_pow_right (by omega) ha)
theorem pow_lt64 {a : Nat} (ha : a < 6) : 2 ^ a < 64 := Nat.pow_lt_pow_right (by omega) ha
theorem tb_or (S a i : Nat) : (S ||| 2 ^ a).testBit i = (S.testBit i || decide (a = i)) := by rw [Nat.testBit_or, tb_pow]
theorem tb_not {S : Nat} {i : Nat} (hi : i < 6) : (63 ^^^ S).testBit i = !S.testBit i := by
  rw [Nat.testBit_xor, tb_63 i hi]
  cases S.testBit i <;> rfl
theorem not_lt64 {S : Nat} (hS : S < 64) : 63 ^^^ S < 64 := Nat.xor_lt_two_pow (n := 6) (by omega) hS
theorem and_lt64 {S T : Nat} (hS : S < 64) : S &&& T < 64 := Nat.lt_of_le_of_lt Nat.and_le_left hS
theorem tb_some {S : Nat} (hS : S < 64) (h0 : S ≠ 0) : ∃ a, a < 6 ∧ S.testBit a = true := by
  by_cases h : ∃ a, a < 6 ∧ S.testBit a = true
  · exact h
  · refine absurd (tb_ext hS (by omega) (fun i hi => ?_)) h0
    rw [tb_0]
    cases hb : S.testBit i with
    | false => rfl
    | true => exact absurd ⟨i, hi, hb⟩ h
theorem tb_none {S : Nat} (hS : S < 64) (h0 : S ≠ 63) : ∃ a, a < 6 ∧ S.testBit a = false := by
  by_cases h : ∃ a, a < 6 ∧ S.testBit a = false
  · exact h
  · refine absurd (tb_ext hS (by omega) (fun i hi => ?_)) h0
    rw [tb_63 i hi]
    cases hb : S.testBit i with
    | true => rfl
    | false => exact absurd ⟨i, hi, hb⟩ h
/-- a side as a number -/
def mk6 (P : Nat → Bool) : Nat := (P 0).toNat + 2 * (P 1).toNat + 4 * (P 2).toNat + 8 * (P 3).toNat + 16 * (P 4).toNat + 32 * (P 5).toNat
theorem mk6_lt (P : Nat → Bool) : mk6 P < 64 := by
  unfold mk6
  have h0 := Bool.toNat_le (P 0)
  have h1 := Bool.toNat_le (P 1)
  have h2 := Bool.toNat_le (P 2)
  have h3 := Bool.toNat_le (P 3)
  have h4 := Bool.toNat_le (P 4)
  have h5 := Bool.toNat_le (P 5)
  omega
theorem mk6_tb (P : Nat → Bool) : ∀ a, a < 6 → (mk6 P).testBit a = P a := by
  intro a ha
  unfold mk6
  have hc : a = 0 ∨ a = 1 ∨ a = 2 ∨ a = 3 ∨ a = 4 ∨ a = 5 := by omega
  generalize e0 : P 0 = p0
  generalize e1 : P 1 = p1
  generalize e2 : P 2 = p2
  generalize e3 : P 3 = p3
  generalize e4 : P 4 = p4
  generalize e5 : P 5 = p5
  rcases hc with rfl | rfl | rfl | rfl | rfl | rfl
  · rw [e0]; clear e0 e1 e2 e3 e4 e5 ha; revert p0 p1 p2 p3 p4 p5; decide
  · rw [e1]; clear e0 e1 e2 e3 e4 e5 ha; revert p0 p1 p2 p3 p4 p5; decide
  · rw [e2]; clear e0 e1 e2 e3 e4 e5 ha; revert p0 p1 p2 p3 p4 p5; decide
  · rw [e3]; clear e0 e1 e2 e3 e4 e5 ha; revert p0 p1 p2 p3 p4 p5; decide
  · rw [e4]; clear e0 e1 e2 e3 e4 e5 ha; revert p0 p1 p2 p3 p4 p5; decide
  · rw [e5]; clear e0 e1 e2 e3 e4 e5 ha; revert p0 p1 p2 p3 p4 p5; decide
/-- how many places -/
def pcn (F : Nat) : Nat := sm 6 (fun v => if F.testBit v = true then 1 else 0)
theorem pcn_le (F : Nat) : pcn F ≤ 6 := by
  have := sm_bound (n := 6) (B := 1) (f := fun v => if F.testBit v = true then 1 else 0) (fun i _ => by split <;> omega)
  unfold pcn
  omega
theorem pcn_add {F b : Nat} (hb : b < 6) (h : F.testBit b = false) : pcn (F ||| 2 ^ b) = pcn F + 1 := by
  have h1 := sm_one (n := 6) (f := fun v => if F.testBit v = true then 1 else 0) (g := fun v => if (F ||| 2 ^ b).testBit v = true then 1 else 0) hb (fun i _ hne => by
    have e : (F ||| 2 ^ b).testBit i = F.testBit i := by rw [tb_or, decide_eq_false (fun z => hne z.symm), Bool.or_false]
    simp only [e])
  have e1 : (F ||| 2 ^ b).testBit b = true := by rw [tb_or]; simp
  simp only [e1, h] at h1
  unfold pcn
  simpa using h1
theorem pcn_lt {F b : Nat} (hb : b < 6) (h : F.testBit b = false) : pcn F < 6 := by
  have h1 := pcn_add hb h
  have h2 := pcn_le (F ||| 2 ^ b)
  omega
theorem pcn_0 : pcn 0 = 0 := by decide
theorem pcn_63 : pcn 63 = 6 := by decide
/-! the sides that a question asks about: all of I, none of O, neither empty nor all -/
def okP (I O : Nat) (P : Nat → Bool) : Prop := (∃ a, a < 6 ∧ P a = true) ∧ (∃ b, b < 6 ∧ P b = false) ∧ (∀ a, a < 6 → I.testBit a = true → P a = true) ∧ (∀ a, a < 6 → O.testBit a = true → P a = false)
def isMin (c : Nat → Nat) (I O v : Nat) : Prop := (∃ P, okP I O P ∧ cst (mx c) P = v) ∧ ∀ P, okP I O P → v ≤ cst (mx c) P
theorem isMin_uniq {c : Nat → Nat} {I O v w : Nat} (h1 : isMin c I O v) (h2 : isMin c I O w) : v = w := by
  obtain ⟨P, hP, e1⟩ := h1.1
  obtain ⟨R, hR, e2⟩ := h2.1
  have a := h1.2 R hR
  have b := h2.2 P hP
  omega
theorem okP_congr {I O : Nat} {P P' : Nat → Bool} (h : ∀ a, a < 6 → P a = P' a) (hP : okP I O P) : okP I O P' := by
  obtain ⟨⟨a, ha, h1⟩, ⟨b, hb, h2⟩, h3, h4⟩ := hP
  exact ⟨⟨a, ha, by rw [← h a ha]; exact h1⟩, ⟨b, hb, by rw [← h b hb]; exact h2⟩, fun a ha z => by rw [← h a ha]; exact h3 a ha z, fun a ha z => by rw [← h a ha]; exact h4 a ha z⟩
theorem sub_iff {I S : Nat} (hI : I < 64) : I &&& (63 ^^^ S) = 0 ↔ ∀ a, a < 6 → I.testBit a = true → S.testBit a = true := by
  constructor
  · intro h a ha hi
    have h1 : (I &&& (63 ^^^ S)).testBit a = false := by rw [h, tb_0]
    rw [Nat.testBit_and, tb_not ha, hi] at h1
    simpa using h1
  · intro h
    refine tb_ext (and_lt64 hI) (by omega) (fun i hi => ?_)
    rw [Nat.testBit_and, tb_not hi, tb_0]
    cases h1 : I.testBit i with
    | false => rfl
    | true => rw [h i hi h1]; rfl
theorem dis_iff {O S : Nat} (hO : O < 64) : O &&& S = 0 ↔ ∀ a, a < 6 → O.testBit a = true → S.testBit a = false := by
  constructor
  · intro h a ha hi
    have h1 : (O &&& S).testBit a = false := by rw [h, tb_0]
    rw [Nat.testBit_and, hi] at h1
    simpa using h1
  · intro h
    refine tb_ext (and_lt64 hO) (by omega) (fun i hi => ?_)
    rw [Nat.testBit_and, tb_0]
    cases h1 : O.testBit i with
    | false => rfl
    | true => rw [h i hi h1]; rfl
theorem side_iff {S : Nat} (hS : S < 64) : (1 ≤ S ∧ S ≤ 62) ↔ (∃ a, a < 6 ∧ S.testBit a = true) ∧ (∃ b, b < 6 ∧ S.testBit b = false) := by
  constructor
  · intro h
    exact ⟨tb_some hS (by omega), tb_none hS (by omega)⟩
  · intro ⟨⟨a, ha, h1⟩, ⟨b, hb, h2⟩⟩
    have h0 : S ≠ 0 := fun z => by rw [z, tb_0] at h1; cases h1
    have h3 : S ≠ 63 := fun z => by rw [z, tb_63 b hb] at h2; cases h2
    omega
theorem okP_side {I O S : Nat} (hI : I < 64) (hO : O < 64) (h1 : 1 ≤ S) (h2 : S ≤ 62) (h3 : I &&& (63 ^^^ S) = 0) (h4 : O &&& S = 0) : okP I O S.testBit := by
  obtain ⟨a, b⟩ := (side_iff (by omega)).mp ⟨h1, h2⟩
  exact ⟨a, b, (sub_iff hI).mp h3, (dis_iff hO).mp h4⟩
theorem side_okP {I O S : Nat} (hI : I < 64) (hO : O < 64) (hS : S < 64) (h : okP I O S.testBit) : 1 ≤ S ∧ S ≤ 62 ∧ I &&& (63 ^^^ S) = 0 ∧ O &&& S = 0 := by
  obtain ⟨a, b⟩ := (side_iff hS).mpr ⟨h.1, h.2.1⟩
  exact ⟨a, b, (sub_iff hI).mpr h.2.2.1, (dis_iff hO).mpr h.2.2.2⟩
end
section
set_option maxRecDepth 100000
theorem nI_dec {a : Nat} (h : 0 < a) : nI a + Int32.ofInt (-1) = nI (a - 1) := by
  obtain ⟨b, rfl⟩ : ∃ b, a = b + 1 := ⟨a - 1, by omega⟩
  exact pk_m1 b
section LEAF0
variable {p : Program} {l : Launch} {e : Env} {R : Room} {s : State} {m : MethodId} {args : Array Value} {below : List Frame} {meth : Method} {c : Code} {H : Heap} {locs : List Loc} {cells slots : Nat} {Q : State → Prop}
variable {cc : ByteArray} {own : String} {nL pc : Nat} {ls : Array Slot} {rest : List Value}
theorem n_ldc (G : CallFix p m c cc nL s args lw_all RX0) (hdg : decode cc pc = .ok (.ldc 50, 2)) (k : W p l e R s m args below meth c H locs cells slots Q (F0 m (pc + 2) ls (.int (nI 1048576) :: rest))) : W p l e R s m args below meth c H locs cells slots Q (F0 m pc ls rest) :=
  lv_ldc (v := nI 1048576) G.1 G.2.1 G.2.2.2.1 (G.2.2.2.2 _ q83) hdg k
end LEAF0
/-! what is a place, what a pair -/
def plc (a : Int32) : Bool := decide (¬ a < 0) && decide (a < nI 6)
def prB (a b : Int32) : Bool := plc a && plc b && decide (a ≠ b)
theorem plc_f1 {a : Int32} (h : a < 0) : nI 0 = b2i (plc a) := by
  have e : plc a = false := by unfold plc; rw [decide_eq_false (fun z => z h), Bool.false_and]
  rw [e]; rfl
theorem plc_f2 {a : Int32} (h : nI 6 ≤ a) : nI 0 = b2i (plc a) := by
  have e : plc a = false := by unfold plc; rw [decide_eq_false (p := a < nI 6) (Int32.not_lt.mpr h), Bool.and_false]
  rw [e]; rfl
theorem plc_t {a : Int32} (h1 : ¬ a < 0) (h : ¬ nI 6 ≤ a) : nI 1 = b2i (plc a) := by
  have e : plc a = true := by unfold plc; rw [decide_eq_true h1, decide_eq_true (Int32.not_le.mp h), Bool.true_and]
  rw [e]; rfl
theorem plc_of {a : Int32} (h : plc a = true) : ∃ k, k < 6 ∧ a = nI k := by
  unfold plc at h
  rw [Bool.and_eq_true, decide_eq_true_eq, decide_eq_true_eq] at h
  obtain ⟨j, hj, rfl⟩ := nI_of h.1
  exact ⟨j, (nI_ltI hj (by omega)).mp h.2, rfl⟩
theorem plc_nI {k : Nat} (h : k < 6) : plc (nI k) = true := by
  unfold plc
  rw [decide_eq_true (nI_pos (by omega)), decide_eq_true (nI_lt h (by omega))]
  rfl
theorem prB_of {a b : Int32} (h : prB a b = true) : ∃ i j, i < 6 ∧ j < 6 ∧ i ≠ j ∧ a = nI i ∧ b = nI j := by
  unfold prB at h
  rw [Bool.and_eq_true, Bool.and_eq_true, decide_eq_true_eq] at h
  obtain ⟨⟨h1, h2⟩, h3⟩ := h
  obtain ⟨i, hi, rfl⟩ := plc_of h1
  obtain ⟨j, hj, rfl⟩ := plc_of h2
  exact ⟨i, j, hi, hj, fun z => h3 (by rw [z]), rfl, rfl⟩
theorem prB_nI {i j : Nat} (hi : i < 6) (hj : j < 6) (hne : i ≠ j) : prB (nI i) (nI j) = true := by
  unfold prB
  rw [plc_nI hi, plc_nI hj, decide_eq_true (p := nI i ≠ nI j) (fun z => hne ((nI_eq (by omega) (by omega)).mp z))]
  rfl
theorem prB_not {a b : Int32} (h : prB a b = false) : ∀ i j, i < 6 → j < 6 → i ≠ j → ¬ (a = nI i ∧ b = nI j) := by
  intro i j hi hj hne hz
  rw [hz.1, hz.2, prB_nI hi hj hne] at h
  cases h
theorem bq0 {t : Bool} (h : t = false) : nI 0 = b2i t := by rw [h]; rfl
theorem bq1 {t : Bool} (h : t = true) : nI 1 = b2i t := by rw [h]; rfl
theorem prB_f1 {a b : Int32} (h : plc a = false) : prB a b = false := by unfold prB; rw [h]; rfl
theorem prB_f2 {a b : Int32} (h : plc b = false) : prB a b = false := by unfold prB; rw [h, Bool.and_false]; rfl
theorem prB_f3 {a b : Int32} (h : a = b) : prB a b = false := by unfold prB; rw [decide_eq_false (fun z => z h), Bool.and_false]
theorem prB_t {a b : Int32} (h1 : plc a = true) (h2 : plc b = true) (h3 : ¬ a = b) : prB a b = true := by unfold prB; rw [h1, h2, decide_eq_true h3]; rfl
set_option maxHeartbeats 4000000 in
set_option maxRecDepth 100000 in
theorem met_isPlace (l : Launch) (a : Int32) : Met l yX0_isPlace (ws_ yX0_isPlace cX0_isPlace 1 (some .boolean)) (rmL 0) (va_Pc [.int a] (fun _ => True)) (vp_Si (fun r => r = b2i (plc a))) 0 0 (fun _ => False) := by
  refine ro_metz (own := RX0) (by decide) rfl (Nat.le_of_ble_eq_true rfl) ?_
  intro p e s m args below meth c Q ls G _ hret hl
  have hl : lv_has ls 1 [(0, .int a)] := hl
  refine lv_iload_n G.1 G.2.1 dX0_isPlace_0 rfl (lv_at hl 0 rfl) ?_
  refine lv_if_lt (tgt := 14) G.1 G.2.1 dX0_isPlace_1 (by decide) (fun c_1 => ?_) (fun c_1 => ?_)
  · refine n_iconst (a := 0) G dX0_isPlace_14 (by decide) ?_
    first | exact hret _ _ _ dX0_isPlace_15 (Or.inl rfl) (plc_f1 c_1) | exact hret _ _ _ dX0_isPlace_15 (Or.inl rfl) (plc_f2 c_7) | exact hret _ _ _ dX0_isPlace_15 (Or.inr rfl) (plc_t c_1 c_7)
  · refine lv_iload_n G.1 G.2.1 dX0_isPlace_4 rfl (lv_at hl 0 rfl) ?_
    refine n_bipush (a := 6) G dX0_isPlace_5 (by decide) ?_
    refine lv_icmp_ge (tgt := 14) G.1 G.2.1 dX0_isPlace_7 (by decide) (fun c_7 => ?_) (fun c_7 => ?_)
    · refine n_iconst (a := 0) G dX0_isPlace_14 (by decide) ?_
      first | exact hret _ _ _ dX0_isPlace_15 (Or.inl rfl) (plc_f1 c_1) | exact hret _ _ _ dX0_isPlace_15 (Or.inl rfl) (plc_f2 c_7) | exact hret _ _ _ dX0_isPlace_15 (Or.inr rfl) (plc_t c_1 c_7)
    · refine n_iconst (a := 1) G dX0_isPlace_10 (by decide) ?_
      refine lv_goto (tgt := 15) G.1 G.2.1 dX0_isPlace_11 (by decide) ?_
      first | exact hret _ _ _ dX0_isPlace_15 (Or.inl rfl) (plc_f1 c_1) | exact hret _ _ _ dX0_isPlace_15 (Or.inl rfl) (plc_f2 c_7) | exact hret _ _ _ dX0_isPlace_15 (Or.inr rfl) (plc_t c_1 c_7)
set_option maxHeartbeats 4000000 in
set_option maxRecDepth 100000 in
theorem met_in (l : Launch) (S a : Nat) (hS : S < 2 ^ 31) (ha : a < 32) : Met l yX0_in (ws_ yX0_in cX0_in 2 (some .boolean)) (rmL 0) (va_Pc [.int (nI S), .int (nI a)] (fun _ => True)) (vp_Si (fun r => r = b2i (S.testBit a))) 0 0 (fun _ => False) := by
  refine ro_metz (own := RX0) (by decide) rfl (Nat.le_of_ble_eq_true rfl) ?_
  intro p e s m args below meth c Q ls G _ hret hl
  have hl : lv_has ls 2 [(0, .int (nI S)), (1, .int (nI a))] := hl
  refine lv_iload_n G.1 G.2.1 dX0_in_0 rfl (lv_at hl 0 rfl) ?_
  refine lv_iload_n G.1 G.2.1 dX0_in_1 rfl (lv_at hl 1 rfl) ?_
  refine lv_ishr G.1 G.2.1 dX0_in_2 ?_
  refine n_iconst (a := 1) G dX0_in_3 (by decide) ?_
  refine lv_iand G.1 G.2.1 dX0_in_4 ?_
  rw [nx_bit hS ha]
  refine n_ifeq (tgt := 12) G dX0_in_5 (by decide) (fun c_5 => ?_) (fun c_5 => ?_)
  · refine n_iconst (a := 0) G dX0_in_12 (by decide) ?_
    exact hret _ _ _ dX0_in_13 (Or.inl rfl) (bq0 c_5)
  · refine n_iconst (a := 1) G dX0_in_8 (by decide) ?_
    refine lv_goto (tgt := 13) G.1 G.2.1 dX0_in_9 (by decide) ?_
    exact hret _ _ _ dX0_in_13 (Or.inr rfl) (bq1 c_5)
theorem cwS_in : callWordsS RX0 47 yX0_in cX0_in 2 (some .boolean) 2 := ⟨lw_S q76 q77 q14 q78, by decide +kernel⟩
theorem cwS_isPlace : callWordsS RX0 35 yX0_isPlace cX0_isPlace 1 (some .boolean) 1 := ⟨lw_S q61 q62 q14 q63, by decide +kernel⟩
theorem cwS_isPair : callWordsS RX0 39 yX0_isPair cX0_isPair 2 (some .boolean) 2 := ⟨lw_S q58 q59 q14 q60, by decide +kernel⟩
section LEAF1
variable {p : Program} {l : Launch} {e : Env} {R : Room} {s : State} {m : MethodId} {args : Array Value} {below : List Frame} {meth : Method} {c : Code} {H : Heap} {locs : List Loc} {cells slots : Nat} {Q : State → Prop}
variable {cc : ByteArray} {own : String} {nL pc : Nat} {ls : Array Slot} {rest : List Value}
theorem c_in (G : CallFix p m c cc nL s args lw_all RX0) {S a : Nat} (hS : S < 2 ^ 31) (ha : a < 32) (hR : roomFor R cells slots 0 2) (hls : ls.size = nL) (hrm : (rest.map fun v => v.category).sum ≤ 8) (hdg : decode cc pc = .ok (.invokestatic 47, 3)) (kk : W p l e R s m args below meth c H locs cells slots Q (F0 m (pc + 3) ls (.int (b2i (S.testBit a)) :: rest))) : W p l e R s m args below meth c H locs cells slots Q (F0 m pc ls (.int (nI a) :: .int (nI S) :: rest)) :=
  st_call (As := [.int (nI S), .int (nI a)]) (rest := rest) G (met_in l S a hS ha) cwS_in hR rfl hls hrm rfl hdg (fun r hr => by subst hr; exact kk)
theorem c_isPlace (G : CallFix p m c cc nL s args lw_all RX0) {a : Int32} (hR : roomFor R cells slots 0 1) (hls : ls.size = nL) (hrm : (rest.map fun v => v.category).sum ≤ 8) (hdg : decode cc pc = .ok (.invokestatic 35, 3)) (kk : W p l e R s m args below meth c H locs cells slots Q (F0 m (pc + 3) ls (.int (b2i (plc a)) :: rest))) : W p l e R s m args below meth c H locs cells slots Q (F0 m pc ls (.int a :: rest)) :=
  st_call (As := [.int a]) (rest := rest) G (met_isPlace l a) cwS_isPlace hR rfl hls hrm rfl hdg (fun r hr => by subst hr; exact kk)
end LEAF1
set_option maxHeartbeats 4000000 in
set_option maxRecDepth 100000 in
theorem met_isPair (l : Launch) (a b : Int32) : Met l yX0_isPair (ws_ yX0_isPair cX0_isPair 2 (some .boolean)) (rmL 1) (va_Pc [.int a, .int b] (fun _ => True)) (vp_Si (fun r => r = b2i (prB a b))) 0 0 (fun _ => False) := by
  refine ro_metz (own := RX0) (by decide) rfl (Nat.le_of_ble_eq_true rfl) ?_
  intro p e s m args below meth c Q ls G _ hret hl
  have hl : lv_has ls 2 [(0, .int a), (1, .int b)] := hl
  refine lv_iload_n G.1 G.2.1 dX0_isPair_0 rfl (lv_at hl 0 rfl) ?_
  refine c_isPlace G (by decide) hl.1 (Nat.le_of_ble_eq_true rfl) dX0_isPair_1 ?_
  refine n_ifeq (tgt := 23) G dX0_isPair_4 (by decide) (fun c_4 => ?_) (fun c_4 => ?_)
  · refine n_iconst (a := 0) G dX0_isPair_23 (by decide) ?_
    first | exact hret _ _ _ dX0_isPair_24 (Or.inl rfl) (bq0 (prB_f1 c_4)) | exact hret _ _ _ dX0_isPair_24 (Or.inl rfl) (bq0 (prB_f2 c_11)) | exact hret _ _ _ dX0_isPair_24 (Or.inl rfl) (bq0 (prB_f3 c_16)) | exact hret _ _ _ dX0_isPair_24 (Or.inr rfl) (bq1 (prB_t c_4 c_11 c_16))
  · refine lv_iload_n G.1 G.2.1 dX0_isPair_7 rfl (lv_at hl 1 rfl) ?_
    refine c_isPlace G (by decide) hl.1 (Nat.le_of_ble_eq_true rfl) dX0_isPair_8 ?_
    refine n_ifeq (tgt := 23) G dX0_isPair_11 (by decide) (fun c_11 => ?_) (fun c_11 => ?_)
    · refine n_iconst (a := 0) G dX0_isPair_23 (by decide) ?_
      first | exact hret _ _ _ dX0_isPair_24 (Or.inl rfl) (bq0 (prB_f1 c_4)) | exact hret _ _ _ dX0_isPair_24 (Or.inl rfl) (bq0 (prB_f2 c_11)) | exact hret _ _ _ dX0_isPair_24 (Or.inl rfl) (bq0 (prB_f3 c_16)) | exact hret _ _ _ dX0_isPair_24 (Or.inr rfl) (bq1 (prB_t c_4 c_11 c_16))
    · refine lv_iload_n G.1 G.2.1 dX0_isPair_14 rfl (lv_at hl 0 rfl) ?_
      refine lv_iload_n G.1 G.2.1 dX0_isPair_15 rfl (lv_at hl 1 rfl) ?_
      refine lv_icmp_eq (tgt := 23) G.1 G.2.1 dX0_isPair_16 (by decide) (fun c_16 => ?_) (fun c_16 => ?_)
      · refine n_iconst (a := 0) G dX0_isPair_23 (by decide) ?_
        first | exact hret _ _ _ dX0_isPair_24 (Or.inl rfl) (bq0 (prB_f1 c_4)) | exact hret _ _ _ dX0_isPair_24 (Or.inl rfl) (bq0 (prB_f2 c_11)) | exact hret _ _ _ dX0_isPair_24 (Or.inl rfl) (bq0 (prB_f3 c_16)) | exact hret _ _ _ dX0_isPair_24 (Or.inr rfl) (bq1 (prB_t c_4 c_11 c_16))
      · refine n_iconst (a := 1) G dX0_isPair_19 (by decide) ?_
        refine lv_goto (tgt := 24) G.1 G.2.1 dX0_isPair_20 (by decide) ?_
        first | exact hret _ _ _ dX0_isPair_24 (Or.inl rfl) (bq0 (prB_f1 c_4)) | exact hret _ _ _ dX0_isPair_24 (Or.inl rfl) (bq0 (prB_f2 c_11)) | exact hret _ _ _ dX0_isPair_24 (Or.inl rfl) (bq0 (prB_f3 c_16)) | exact hret _ _ _ dX0_isPair_24 (Or.inr rfl) (bq1 (prB_t c_4 c_11 c_16))
section LEAF2
variable {p : Program} {l : Launch} {e : Env} {R : Room} {s : State} {m : MethodId} {args : Array Value} {below : List Frame} {meth : Method} {c : Code} {H : Heap} {locs : List Loc} {cells slots : Nat} {Q : State → Prop}
variable {cc : ByteArray} {own : String} {nL pc : Nat} {ls : Array Slot} {rest : List Value}
theorem c_isPair (G : CallFix p m c cc nL s args lw_all RX0) {a b : Int32} (hR : roomFor R cells slots 1 2) (hls : ls.size = nL) (hrm : (rest.map fun v => v.category).sum ≤ 8) (hdg : decode cc pc = .ok (.invokestatic 39, 3)) (kk : W p l e R s m args below meth c H locs cells slots Q (F0 m (pc + 3) ls (.int (b2i (prB a b)) :: rest))) : W p l e R s m args below meth c H locs cells slots Q (F0 m pc ls (.int b :: .int a :: rest)) :=
  st_call (As := [.int a, .int b]) (rest := rest) G (met_isPair l a b) cwS_isPair hR rfl hls hrm rfl hdg (fun r hr => by subst hr; exact kk)
end LEAF2
theorem gt5 {a : Int32} (h : nI 5 < a) : nI 6 ≤ a := by
  rw [Int32.lt_iff_toInt_lt, nI_toInt (by omega)] at h
  rw [Int32.le_iff_toInt_le, nI_toInt (by omega)]
  omega
theorem ngt5 {a : Int32} (h : ¬ nI 5 < a) : ¬ nI 6 ≤ a := by
  intro z
  refine h ?_
  rw [Int32.le_iff_toInt_le, nI_toInt (by omega)] at z
  rw [Int32.lt_iff_toInt_lt, nI_toInt (by omega)]
  omega
theorem b2i_f {t : Bool} (h : nI 0 = b2i t) : t = false := by
  cases t
  · rfl
  · exact absurd h (by decide)
theorem b2i_t {t : Bool} (h : nI 1 = b2i t) : t = true := by
  cases t
  · exact absurd h (by decide)
  · rfl
theorem mpr_f {a b : Int32} (h : a = b ∨ a < 0 ∨ nI 5 < a ∨ b < 0 ∨ nI 5 < b) : nI 0 = b2i (prB a b) := by
  rcases h with h | h | h | h | h
  · exact bq0 (prB_f3 h)
  · exact bq0 (prB_f1 (b2i_f (plc_f1 h)))
  · exact bq0 (prB_f1 (b2i_f (plc_f2 (gt5 h))))
  · exact bq0 (prB_f2 (b2i_f (plc_f1 h)))
  · exact bq0 (prB_f2 (b2i_f (plc_f2 (gt5 h))))
theorem mpr_t {a b : Int32} (h1 : ¬ a = b) (h2 : ¬ a < 0) (h3 : ¬ nI 5 < a) (h4 : ¬ b < 0) (h5 : ¬ nI 5 < b) : nI 1 = b2i (prB a b) := bq1 (prB_t (b2i_t (plc_t h2 (ngt5 h3))) (b2i_t (plc_t h4 (ngt5 h5))) h1)
set_option maxHeartbeats 4000000 in
set_option maxRecDepth 100000 in
theorem met_mpair (l : Launch) (D : va_G) (dA dB : ClassId) (g : Nat → Nat) (cap : Nat → Nat) (a b : Int32) : Met l yX1_pair (ws_ yX1_pair cX1_pair 3 (some .boolean)) (rmL 0) (va_Pc [.ref (g 0), .int a, .int b] (mdU D dA dB g cap)) (vp_Si (fun r => r = b2i (prB a b))) 0 0 (fun _ => False) := by
  refine ro_metz (own := RX1) (by decide) rfl (Nat.le_of_ble_eq_true rfl) ?_
  intro p e s m args below meth c Q ls G _ hret hl
  have hl : lv_has ls 3 [(0, .ref (g 0)), (1, .int a), (2, .int b)] := hl
  refine lv_iload_n G.1 G.2.1 dX1_pair_0 rfl (lv_at hl 1 rfl) ?_
  refine lv_iload_n G.1 G.2.1 dX1_pair_1 rfl (lv_at hl 2 rfl) ?_
  refine lv_icmp_eq (tgt := 27) G.1 G.2.1 dX1_pair_2 (by decide) (fun c_2 => ?_) (fun c_2 => ?_)
  · refine n_iconst (a := 0) G dX1_pair_27 (by decide) ?_
    first | exact hret _ _ _ dX1_pair_28 (Or.inl rfl) (mpr_f (Or.inl c_2)) | exact hret _ _ _ dX1_pair_28 (Or.inl rfl) (mpr_f (Or.inr (Or.inl c_6))) | exact hret _ _ _ dX1_pair_28 (Or.inl rfl) (mpr_f (Or.inr (Or.inr (Or.inl c_11)))) | exact hret _ _ _ dX1_pair_28 (Or.inl rfl) (mpr_f (Or.inr (Or.inr (Or.inr (Or.inl c_15))))) | exact hret _ _ _ dX1_pair_28 (Or.inl rfl) (mpr_f (Or.inr (Or.inr (Or.inr (Or.inr c_20))))) | exact hret _ _ _ dX1_pair_28 (Or.inr rfl) (mpr_t c_2 c_6 c_11 c_15 c_20)
  · refine lv_iload_n G.1 G.2.1 dX1_pair_5 rfl (lv_at hl 1 rfl) ?_
    refine lv_if_lt (tgt := 27) G.1 G.2.1 dX1_pair_6 (by decide) (fun c_6 => ?_) (fun c_6 => ?_)
    · refine n_iconst (a := 0) G dX1_pair_27 (by decide) ?_
      first | exact hret _ _ _ dX1_pair_28 (Or.inl rfl) (mpr_f (Or.inl c_2)) | exact hret _ _ _ dX1_pair_28 (Or.inl rfl) (mpr_f (Or.inr (Or.inl c_6))) | exact hret _ _ _ dX1_pair_28 (Or.inl rfl) (mpr_f (Or.inr (Or.inr (Or.inl c_11)))) | exact hret _ _ _ dX1_pair_28 (Or.inl rfl) (mpr_f (Or.inr (Or.inr (Or.inr (Or.inl c_15))))) | exact hret _ _ _ dX1_pair_28 (Or.inl rfl) (mpr_f (Or.inr (Or.inr (Or.inr (Or.inr c_20))))) | exact hret _ _ _ dX1_pair_28 (Or.inr rfl) (mpr_t c_2 c_6 c_11 c_15 c_20)
    · refine lv_iload_n G.1 G.2.1 dX1_pair_9 rfl (lv_at hl 1 rfl) ?_
      refine n_iconst (a := 5) G dX1_pair_10 (by decide) ?_
      refine lv_icmp_gt (tgt := 27) G.1 G.2.1 dX1_pair_11 (by decide) (fun c_11 => ?_) (fun c_11 => ?_)
      · refine n_iconst (a := 0) G dX1_pair_27 (by decide) ?_
        first | exact hret _ _ _ dX1_pair_28 (Or.inl rfl) (mpr_f (Or.inl c_2)) | exact hret _ _ _ dX1_pair_28 (Or.inl rfl) (mpr_f (Or.inr (Or.inl c_6))) | exact hret _ _ _ dX1_pair_28 (Or.inl rfl) (mpr_f (Or.inr (Or.inr (Or.inl c_11)))) | exact hret _ _ _ dX1_pair_28 (Or.inl rfl) (mpr_f (Or.inr (Or.inr (Or.inr (Or.inl c_15))))) | exact hret _ _ _ dX1_pair_28 (Or.inl rfl) (mpr_f (Or.inr (Or.inr (Or.inr (Or.inr c_20))))) | exact hret _ _ _ dX1_pair_28 (Or.inr rfl) (mpr_t c_2 c_6 c_11 c_15 c_20)
      · refine lv_iload_n G.1 G.2.1 dX1_pair_14 rfl (lv_at hl 2 rfl) ?_
        refine lv_if_lt (tgt := 27) G.1 G.2.1 dX1_pair_15 (by decide) (fun c_15 => ?_) (fun c_15 => ?_)
        · refine n_iconst (a := 0) G dX1_pair_27 (by decide) ?_
          first | exact hret _ _ _ dX1_pair_28 (Or.inl rfl) (mpr_f (Or.inl c_2)) | exact hret _ _ _ dX1_pair_28 (Or.inl rfl) (mpr_f (Or.inr (Or.inl c_6))) | exact hret _ _ _ dX1_pair_28 (Or.inl rfl) (mpr_f (Or.inr (Or.inr (Or.inl c_11)))) | exact hret _ _ _ dX1_pair_28 (Or.inl rfl) (mpr_f (Or.inr (Or.inr (Or.inr (Or.inl c_15))))) | exact hret _ _ _ dX1_pair_28 (Or.inl rfl) (mpr_f (Or.inr (Or.inr (Or.inr (Or.inr c_20))))) | exact hret _ _ _ dX1_pair_28 (Or.inr rfl) (mpr_t c_2 c_6 c_11 c_15 c_20)
        · refine lv_iload_n G.1 G.2.1 dX1_pair_18 rfl (lv_at hl 2 rfl) ?_
          refine n_iconst (a := 5) G dX1_pair_19 (by decide) ?_
          refine lv_icmp_gt (tgt := 27) G.1 G.2.1 dX1_pair_20 (by decide) (fun c_20 => ?_) (fun c_20 => ?_)
          · refine n_iconst (a := 0) G dX1_pair_27 (by decide) ?_
            first | exact hret _ _ _ dX1_pair_28 (Or.inl rfl) (mpr_f (Or.inl c_2)) | exact hret _ _ _ dX1_pair_28 (Or.inl rfl) (mpr_f (Or.inr (Or.inl c_6))) | exact hret _ _ _ dX1_pair_28 (Or.inl rfl) (mpr_f (Or.inr (Or.inr (Or.inl c_11)))) | exact hret _ _ _ dX1_pair_28 (Or.inl rfl) (mpr_f (Or.inr (Or.inr (Or.inr (Or.inl c_15))))) | exact hret _ _ _ dX1_pair_28 (Or.inl rfl) (mpr_f (Or.inr (Or.inr (Or.inr (Or.inr c_20))))) | exact hret _ _ _ dX1_pair_28 (Or.inr rfl) (mpr_t c_2 c_6 c_11 c_15 c_20)
          · refine n_iconst (a := 1) G dX1_pair_23 (by decide) ?_
            refine lv_goto (tgt := 28) G.1 G.2.1 dX1_pair_24 (by decide) ?_
            first | exact hret _ _ _ dX1_pair_28 (Or.inl rfl) (mpr_f (Or.inl c_2)) | exact hret _ _ _ dX1_pair_28 (Or.inl rfl) (mpr_f (Or.inr (Or.inl c_6))) | exact hret _ _ _ dX1_pair_28 (Or.inl rfl) (mpr_f (Or.inr (Or.inr (Or.inl c_11)))) | exact hret _ _ _ dX1_pair_28 (Or.inl rfl) (mpr_f (Or.inr (Or.inr (Or.inr (Or.inl c_15))))) | exact hret _ _ _ dX1_pair_28 (Or.inl rfl) (mpr_f (Or.inr (Or.inr (Or.inr (Or.inr c_20))))) | exact hret _ _ _ dX1_pair_28 (Or.inr rfl) (mpr_t c_2 c_6 c_11 c_15 c_20)
end
section
/-! what the calls answer, as relations between the capacities, the arguments and the answer -/
def CutOK (c : Nat → Nat) : Prop := Sym (mx c) ∧ ∀ k, k < 36 → c k ≤ 31
theorem CutOK_mx {c : Nat → Nat} (h : CutOK c) : ∀ a, a < 6 → ∀ b, b < 6 → mx c a b ≤ 31 := fun a ha b hb => h.2 _ (by omega)
theorem CutOK_cst {c : Nat → Nat} (h : CutOK c) (P : Nat → Bool) : cst (mx c) P ≤ 1116 := by
  have := cst_bound (CutOK_mx h) P
  omega
def putc (c : Nat → Nat) (i j v : Nat) : Nat → Nat := va_up (va_up c (i * 6 + j) v) (j * 6 + i) v
theorem putc_at {c : Nat → Nat} {i j v a b : Nat} (hi : i < 6) (hj : j < 6) (ha : a < 6) (hb : b < 6) : mx (putc c i j v) a b = if (a = i ∧ b = j) ∨ (a = j ∧ b = i) then v else mx c a b := by
  unfold mx putc va_up
  by_cases h1 : a * 6 + b = j * 6 + i
  · rw [if_pos h1, if_pos (Or.inr (by omega))]
  · rw [if_neg h1]
    by_cases h2 : a * 6 + b = i * 6 + j
    · rw [if_pos h2, if_pos (Or.inl (by omega))]
    · rw [if_neg h2, if_neg (by omega)]
theorem putc_ok {c : Nat → Nat} {i j v : Nat} (h : CutOK c) (hi : i < 6) (hj : j < 6) (hv : v ≤ 31) : CutOK (putc c i j v) := by
  refine ⟨fun a ha b hb => ?_, fun k hk => ?_⟩
  · rw [putc_at hi hj ha hb, putc_at hi hj hb ha, h.1 a ha b hb]
    by_cases z : (a = i ∧ b = j) ∨ (a = j ∧ b = i)
    · rw [if_pos z, if_pos (by omega)]
    · rw [if_neg z, if_neg (by omega)]
  · unfold putc va_up
    have := h.2 k hk
    split
    · exact hv
    · split
      · exact hv
      · exact this
theorem putc_30 {c : Nat → Nat} {i j v : Nat} (h : ∀ k, k < 36 → c k ≤ 30) (hv : v ≤ 30) : ∀ k, k < 36 → putc c i j v k ≤ 30 := by
  intro k hk
  unfold putc va_up
  have := h k hk
  split
  · exact hv
  · split
    · exact hv
    · exact this
theorem putc_back {c : Nat → Nat} {i j v : Nat} (h : Sym (mx c)) (hi : i < 6) (hj : j < 6) : putc (putc c i j v) i j (c (i * 6 + j)) = c := by
  have e : c (i * 6 + j) = c (j * 6 + i) := h i hi j hj
  funext k
  unfold putc va_up
  by_cases h1 : k = j * 6 + i
  · rw [if_pos h1, h1, e]
  · rw [if_neg h1]
    by_cases h2 : k = i * 6 + j
    · rw [if_pos h2, h2]
    · rw [if_neg h2, if_neg h1, if_neg h2]
theorem putc_md (c : Nat → Nat) (i j v : Nat) : va_up (va_up c (6 * i + j) v) (6 * j + i) v = putc c i j v := by
  unfold putc
  rw [Nat.mul_comm 6 i, Nat.mul_comm 6 j]
/-! set -/
def stB (a b v : Int32) : Bool := prB a b && decide (¬ v < 0) && decide (v ≤ nI 30)
def setc (c : Nat → Nat) (a b v : Int32) : Nat → Nat := if stB a b v = true then putc c a.toNatClampNeg b.toNatClampNeg v.toNatClampNeg else c
theorem setc_f {c : Nat → Nat} {a b v : Int32} (h : stB a b v = false) : setc c a b v = c := by unfold setc; rw [h]; rfl
theorem setc_t {c : Nat → Nat} {i j v : Nat} (hi : i < 6) (hj : j < 6) (hne : i ≠ j) (hv : v ≤ 30) : stB (nI i) (nI j) (nI v) = true ∧ setc c (nI i) (nI j) (nI v) = putc c i j v := by
  have e : stB (nI i) (nI j) (nI v) = true := by
    unfold stB
    rw [prB_nI hi hj hne, decide_eq_true (nI_pos (by omega)), decide_eq_true (nI_le hv (by omega))]
    rfl
  refine ⟨e, ?_⟩
  unfold setc
  rw [if_pos e, nI_clamp (by omega), nI_clamp (by omega), nI_clamp (by omega)]
theorem stB_f1 {a b v : Int32} (h : prB a b = false) : stB a b v = false := by unfold stB; rw [h]; rfl
theorem stB_f2 {a b v : Int32} (h : v < 0) : stB a b v = false := by unfold stB; rw [decide_eq_false (fun z => z h), Bool.and_false]; rfl
theorem stB_f3 {a b v : Int32} (h : ¬ v ≤ nI 30) : stB a b v = false := by unfold stB; rw [decide_eq_false (p := v ≤ nI 30) h, Bool.and_false]
theorem stB_of {a b v : Int32} (h : stB a b v = true) : ∃ i j w, i < 6 ∧ j < 6 ∧ i ≠ j ∧ w ≤ 30 ∧ a = nI i ∧ b = nI j ∧ v = nI w := by
  unfold stB at h
  rw [Bool.and_eq_true, Bool.and_eq_true, decide_eq_true_eq, decide_eq_true_eq] at h
  obtain ⟨⟨h1, h2⟩, h3⟩ := h
  obtain ⟨i, j, hi, hj, hne, rfl, rfl⟩ := prB_of h1
  obtain ⟨w, hw, rfl⟩ := nI_of h2
  exact ⟨i, j, w, hi, hj, hne, (nI_leI hw (by omega)).mp h3, rfl, rfl, rfl⟩
theorem le30 {v : Int32} (h0 : ¬ v < 0) (h : v ≤ nI 30) : ∃ w, w ≤ 30 ∧ v = nI w := by
  obtain ⟨w, hw, rfl⟩ := nI_of h0
  exact ⟨w, (nI_leI hw (by omega)).mp h, rfl⟩
theorem setc_ok {c : Nat → Nat} (h : CutOK c) (h30 : ∀ k, k < 36 → c k ≤ 30) (a b v : Int32) : CutOK (setc c a b v) ∧ ∀ k, k < 36 → setc c a b v k ≤ 30 := by
  cases e : stB a b v with
  | false => rw [setc_f e]; exact ⟨h, h30⟩
  | true =>
    obtain ⟨i, j, w, hi, hj, hne, hw, rfl, rfl, rfl⟩ := stB_of e
    rw [(setc_t hi hj hne hw).2]
    exact ⟨putc_ok h hi hj (by omega), putc_30 h30 hw⟩
/-! capacity, cost -/
def capP (c : Nat → Nat) (a b r : Int32) : Prop := (∃ i j, i < 6 ∧ j < 6 ∧ i ≠ j ∧ a = nI i ∧ b = nI j ∧ r = nI (c (i * 6 + j))) ∨ (prB a b = false ∧ r = -1)
theorem pair_uniq {i j i' j' : Nat} (hi : i < 6) (hj : j < 6) (hi' : i' < 6) (hj' : j' < 6) (h1 : nI i = nI i') (h2 : nI j = nI j') : i = i' ∧ j = j' := ⟨(nI_eq (by omega) (by omega)).mp h1, (nI_eq (by omega) (by omega)).mp h2⟩
theorem capP_uniq {c : Nat → Nat} {a b r1 r2 : Int32} (h1 : capP c a b r1) (h2 : capP c a b r2) : r1 = r2 := by
  rcases h1 with ⟨i, j, hi, hj, hne, rfl, rfl, rfl⟩ | ⟨hn, rfl⟩
  · rcases h2 with ⟨i', j', hi', hj', hne', e1, e2, rfl⟩ | ⟨hn, rfl⟩
    · obtain ⟨rfl, rfl⟩ := pair_uniq hi hj hi' hj' e1 e2
      rfl
    · rw [prB_nI hi hj hne] at hn; cases hn
  · rcases h2 with ⟨i', j', hi', hj', hne', e1, e2, rfl⟩ | ⟨hn', rfl⟩
    · rw [e1, e2, prB_nI hi' hj' hne'] at hn; cases hn
    · rfl
def cosP (c : Nat → Nat) (a r : Int32) : Prop := (∃ S, 1 ≤ S ∧ S ≤ 62 ∧ a = nI S ∧ r = nI (cst (mx c) S.testBit)) ∨ ((∀ S, 1 ≤ S → S ≤ 62 → a ≠ nI S) ∧ r = -1)
theorem cosP_uniq {c : Nat → Nat} {a r1 r2 : Int32} (h1 : cosP c a r1) (h2 : cosP c a r2) : r1 = r2 := by
  rcases h1 with ⟨S, hS1, hS2, rfl, rfl⟩ | ⟨hn, rfl⟩
  · rcases h2 with ⟨S', hS1', hS2', e, rfl⟩ | ⟨hn, rfl⟩
    · obtain rfl : S = S' := (nI_eq (by omega) (by omega)).mp e
      rfl
    · exact absurd rfl (hn S hS1 hS2)
  · rcases h2 with ⟨S', hS1', hS2', e, rfl⟩ | ⟨hn', rfl⟩
    · exact absurd e (hn S' hS1' hS2')
    · rfl
theorem lt1_no {a : Int32} (h : a < nI 1) : ∀ S, 1 ≤ S → S ≤ 62 → a ≠ nI S := by
  rintro S h1 h2 rfl
  exact nI_nlt h1 (by omega) h
theorem gt62_no {a : Int32} (h : nI 62 < a) : ∀ S, 1 ≤ S → S ≤ 62 → a ≠ nI S := by
  rintro S h1 h2 rfl
  exact nI_nlt h2 (by omega) h
theorem ge63_no {a : Int32} (h : ¬ a < nI 63) : ∀ S, 1 ≤ S → S ≤ 62 → a ≠ nI S := by
  rintro S h1 h2 rfl
  exact h (nI_lt (by omega) (by omega))
theorem side_of {a : Int32} (h1 : ¬ a < nI 1) (h2 : a < nI 63) : ∃ S, 1 ≤ S ∧ S ≤ 62 ∧ a = nI S := by
  have h0 : ¬ a < 0 := fun z => h1 (Int32.lt_trans z (by decide))
  obtain ⟨S, hS, rfl⟩ := nI_of h0
  refine ⟨S, ?_, ?_, rfl⟩
  · rcases Nat.lt_or_ge S 1 with q | q
    · exact absurd (nI_lt q (by omega)) h1
    · exact q
  · have := (nI_ltI hS (by omega)).mp h2
    omega
theorem side_of2 {a : Int32} (h1 : ¬ a < nI 1) (h2 : ¬ nI 62 < a) : ∃ S, 1 ≤ S ∧ S ≤ 62 ∧ a = nI S := by
  have h0 : ¬ a < 0 := fun z => h1 (Int32.lt_trans z (by decide))
  obtain ⟨S, hS, rfl⟩ := nI_of h0
  refine ⟨S, ?_, ?_, rfl⟩
  · rcases Nat.lt_or_ge S 1 with q | q
    · exact absurd (nI_lt q (by omega)) h1
    · exact q
  · rcases Nat.lt_or_ge 62 S with q | q
    · exact absurd (nI_lt q hS) h2
    · exact q
/-- the cost of a side, as the double loop adds it up -/
def ctr (c : Nat → Nat) (S a b : Nat) : Nat := if (S.testBit a && !S.testBit b) = true then c (a * 6 + b) else 0
def cstA (c : Nat → Nat) (S a : Nat) : Nat := sm a (fun a => sm 6 (fun b => ctr c S a b))
theorem cstA_6 (c : Nat → Nat) (S : Nat) : cstA c S 6 = cst (mx c) S.testBit := rfl
theorem cstA_s (c : Nat → Nat) (S a : Nat) : cstA c S (a + 1) = cstA c S a + sm 6 (fun b => ctr c S a b) := rfl
theorem ctr_1 {c : Nat → Nat} {S a b : Nat} (h1 : S.testBit a = true) (h2 : S.testBit b = false) : ctr c S a b = c (a * 6 + b) := by unfold ctr; rw [h1, h2]; rfl
theorem ctr_0a {c : Nat → Nat} {S a b : Nat} (h1 : S.testBit a = false) : ctr c S a b = 0 := by unfold ctr; rw [h1]; rfl
theorem ctr_0b {c : Nat → Nat} {S a b : Nat} (h1 : S.testBit b = true) : ctr c S a b = 0 := by unfold ctr; rw [h1, Bool.not_true, Bool.and_false]; rfl
/-- and as the single loop does -/
def cs36 (c : Nat → Nat) (S k : Nat) : Nat := sm k (fun k => ctr c S (k / 6) (k % 6))
theorem cs36_s (c : Nat → Nat) (S k : Nat) : cs36 c S (k + 1) = cs36 c S k + ctr c S (k / 6) (k % 6) := rfl
theorem cs36_row (c : Nat → Nat) (S a : Nat) : cs36 c S (a * 6 + 6) = cs36 c S (a * 6) + sm 6 (fun b => ctr c S a b) := by
  have e : ∀ b, b < 6 → ctr c S ((a * 6 + b) / 6) ((a * 6 + b) % 6) = ctr c S a b := fun b hb => by
    rw [show (a * 6 + b) / 6 = a by omega, show (a * 6 + b) % 6 = b by omega]
  have e0 := e 0 (by omega)
  have e1 := e 1 (by omega)
  have e2 := e 2 (by omega)
  have e3 := e 3 (by omega)
  have e4 := e 4 (by omega)
  have e5 := e 5 (by omega)
  show cs36 c S (a * 6) + ctr c S ((a * 6 + 0) / 6) ((a * 6 + 0) % 6) + ctr c S ((a * 6 + 1) / 6) ((a * 6 + 1) % 6) + ctr c S ((a * 6 + 2) / 6) ((a * 6 + 2) % 6) + ctr c S ((a * 6 + 3) / 6) ((a * 6 + 3) % 6) + ctr c S ((a * 6 + 4) / 6) ((a * 6 + 4) % 6) + ctr c S ((a * 6 + 5) / 6) ((a * 6 + 5) % 6) = cs36 c S (a * 6) + (0 + ctr c S a 0 + ctr c S a 1 + ctr c S a 2 + ctr c S a 3 + ctr c S a 4 + ctr c S a 5)
  rw [e0, e1, e2, e3, e4, e5]
  omega
theorem cs36_36 (c : Nat → Nat) (S : Nat) : cs36 c S 36 = cst (mx c) S.testBit := by
  have h : ∀ a, cs36 c S (a * 6) = cstA c S a := by
    intro a
    induction a with
    | zero => rfl
    | succ a ih => rw [show (a + 1) * 6 = a * 6 + 6 by omega, cs36_row, ih, cstA_s]
  have := h 6
  rw [cstA_6] at this
  exact this
/-! the cheapest of the sides below a number -/
def okS (I O S : Nat) : Prop := 1 ≤ S ∧ S ≤ 62 ∧ I &&& (63 ^^^ S) = 0 ∧ O &&& S = 0
theorem okS_P {I O S : Nat} (hI : I < 64) (hO : O < 64) (h : okS I O S) : okP I O S.testBit := okP_side hI hO h.1 h.2.1 h.2.2.1 h.2.2.2
theorem okP_S {I O : Nat} {P : Nat → Bool} (hI : I < 64) (hO : O < 64) (h : okP I O P) : okS I O (mk6 P) :=
  side_okP hI hO (mk6_lt P) (okP_congr (fun a ha => (mk6_tb P a ha).symm) h)
theorem cst_mk6 (M : Nat → Nat → Nat) (P : Nat → Bool) : cst M (mk6 P).testBit = cst M P := cst_congr (fun a ha => mk6_tb P a ha)
def chI (c : Nat → Nat) (I O n : Nat) (L : Int32) : Prop := (L = -1 ∧ ∀ S, S < n → ¬ okS I O S) ∨ ∃ v, L = nI v ∧ (∃ S, S < n ∧ okS I O S ∧ cst (mx c) S.testBit = v) ∧ ∀ S, S < n → okS I O S → v ≤ cst (mx c) S.testBit
theorem chI_0 (c : Nat → Nat) (I O : Nat) : chI c I O 1 (-1) := Or.inl ⟨rfl, fun S hS h => by have := h.1; omega⟩
theorem lt_split {S n : Nat} (h : S < n + 1) : S < n ∨ S = n := by omega
theorem chI_skip {c : Nat → Nat} {I O n : Nat} {L : Int32} (h : chI c I O n L) (hn : ¬ okS I O n) : chI c I O (n + 1) L := by
  rcases h with ⟨rfl, h⟩ | ⟨v, rfl, ⟨S, h1, h2, h3⟩, h4⟩
  · refine Or.inl ⟨rfl, fun S hS => ?_⟩
    rcases lt_split hS with q | rfl
    · exact h S q
    · exact hn
  · refine Or.inr ⟨v, rfl, ⟨S, by omega, h2, h3⟩, fun T hT hk => ?_⟩
    rcases lt_split hT with q | rfl
    · exact h4 T q hk
    · exact absurd hk hn
theorem chI_a {c : Nat → Nat} {I O n : Nat} {L : Int32} (hc : CutOK c) (h : chI c I O n L) (hn : okS I O n) (hL : L < 0) : chI c I O (n + 1) (nI (cst (mx c) n.testBit)) := by
  rcases h with ⟨rfl, h⟩ | ⟨v, rfl, ⟨S, h1, h2, h3⟩, h4⟩
  · refine Or.inr ⟨_, rfl, ⟨n, by omega, hn, rfl⟩, fun T hT hk => ?_⟩
    rcases lt_split hT with q | rfl
    · exact absurd hk (h T q)
    · exact Nat.le_refl _
  · have := CutOK_cst hc S.testBit
    exact absurd hL (nI_pos (by omega))
theorem chI_b {c : Nat → Nat} {I O n : Nat} {L : Int32} (hc : CutOK c) (h : chI c I O n L) (hn : okS I O n) (h0 : ¬ L < 0) (hL : ¬ L ≤ nI (cst (mx c) n.testBit)) : chI c I O (n + 1) (nI (cst (mx c) n.testBit)) := by
  rcases h with ⟨rfl, h⟩ | ⟨v, rfl, ⟨S, h1, h2, h3⟩, h4⟩
  · exact absurd (by decide) h0
  · have hb1 := CutOK_cst hc S.testBit
    have hb2 := CutOK_cst hc n.testBit
    have hlt : cst (mx c) n.testBit < v := by
      rcases Nat.lt_or_ge (cst (mx c) n.testBit) v with q | q
      · exact q
      · exact absurd (nI_le q (by omega)) hL
    refine Or.inr ⟨_, rfl, ⟨n, by omega, hn, rfl⟩, fun T hT hk => ?_⟩
    rcases lt_split hT with q | rfl
    · have := h4 T q hk
      omega
    · exact Nat.le_refl _
theorem chI_c {c : Nat → Nat} {I O n : Nat} {L : Int32} (hc : CutOK c) (h : chI c I O n L) (h0 : ¬ L < 0) (hL : L ≤ nI (cst (mx c) n.testBit)) : chI c I O (n + 1) L := by
  rcases h with ⟨rfl, h⟩ | ⟨v, rfl, ⟨S, h1, h2, h3⟩, h4⟩
  · exact absurd (by decide) h0
  · have hb1 := CutOK_cst hc S.testBit
    have hb2 := CutOK_cst hc n.testBit
    have hle : v ≤ cst (mx c) n.testBit := (nI_leI (by omega) (by omega)).mp hL
    refine Or.inr ⟨v, rfl, ⟨S, by omega, h2, h3⟩, fun T hT hk => ?_⟩
    rcases lt_split hT with q | rfl
    · exact h4 T q hk
    · exact hle
/-- the answer of the plain form's search -/
def cheP (c : Nat → Nat) (I O : Nat) (r : Int32) : Prop := (∃ v, isMin c I O v ∧ r = nI v) ∨ ((∀ P, ¬ okP I O P) ∧ r = -1)
theorem chI_end {c : Nat → Nat} {I O n : Nat} {L : Int32} (hI : I < 64) (hO : O < 64) (hn : 63 ≤ n) (h : chI c I O n L) : cheP c I O L := by
  rcases h with ⟨rfl, h⟩ | ⟨v, rfl, ⟨S, h1, h2, h3⟩, h4⟩
  · refine Or.inr ⟨fun P hP => ?_, rfl⟩
    have hk := okP_S hI hO hP
    exact h (mk6 P) (by have := hk.2.1; omega) hk
  · refine Or.inl ⟨v, ⟨⟨S.testBit, okS_P hI hO h2, h3⟩, fun P hP => ?_⟩, rfl⟩
    have hk := okP_S hI hO hP
    have := h4 (mk6 P) (by have := hk.2.1; omega) hk
    rw [cst_mk6] at this
    exact this
theorem cheP_uniq {c : Nat → Nat} {I O : Nat} {r1 r2 : Int32} (h1 : cheP c I O r1) (h2 : cheP c I O r2) : r1 = r2 := by
  rcases h1 with ⟨v, hv, rfl⟩ | ⟨hn, rfl⟩
  · rcases h2 with ⟨w, hw, rfl⟩ | ⟨hn, rfl⟩
    · rw [isMin_uniq hv hw]
    · obtain ⟨P, hP, -⟩ := hv.1
      exact absurd hP (hn P)
  · rcases h2 with ⟨w, hw, rfl⟩ | ⟨hn', rfl⟩
    · obtain ⟨P, hP, -⟩ := hw.1
      exact absurd hP (hn P)
    · rfl
/-- there is a side between two places -/
theorem okP_pair {i j : Nat} (hi : i < 6) (hj : j < 6) (hne : i ≠ j) : okP (2 ^ i) (2 ^ j) (fun a => decide (a = i)) := by
  refine ⟨⟨i, hi, by simp⟩, ⟨j, hj, by simp; omega⟩, fun a ha h => ?_, fun a ha h => ?_⟩
  · rw [tb_pow, decide_eq_true_eq] at h
    simp [h]
  · rw [tb_pow, decide_eq_true_eq] at h
    simp only [decide_eq_false_iff_not]
    omega
theorem okP_00 : okP 0 0 (fun a => decide (a = 0)) := ⟨⟨0, by omega, rfl⟩, ⟨1, by omega, rfl⟩, fun a _ h => (by rw [tb_0] at h; cases h), fun a _ h => (by rw [tb_0] at h; cases h)⟩
theorem cheP_min {c : Nat → Nat} {I O : Nat} {r : Int32} {P : Nat → Bool} (h : cheP c I O r) (hP : okP I O P) : ∃ v, isMin c I O v ∧ r = nI v := by
  rcases h with h | ⟨hn, -⟩
  · exact h
  · exact absurd hP (hn P)
def leaP (c : Nat → Nat) (r : Int32) : Prop := ∃ v, isMin c 0 0 v ∧ r = nI v
theorem leaP_uniq {c : Nat → Nat} {r1 r2 : Int32} (h1 : leaP c r1) (h2 : leaP c r2) : r1 = r2 := by
  obtain ⟨v, hv, rfl⟩ := h1
  obtain ⟨w, hw, rfl⟩ := h2
  rw [isMin_uniq hv hw]
theorem isMin_le {c : Nat → Nat} {I O v : Nat} (hc : CutOK c) (h : isMin c I O v) : v ≤ 1116 := by
  obtain ⟨P, -, rfl⟩ := h.1
  exact CutOK_cst hc P
def betP (c : Nat → Nat) (a b r : Int32) : Prop := (∃ i j v, i < 6 ∧ j < 6 ∧ i ≠ j ∧ a = nI i ∧ b = nI j ∧ isMin c (2 ^ i) (2 ^ j) v ∧ r = nI v) ∨ (prB a b = false ∧ r = -1)
theorem betP_uniq {c : Nat → Nat} {a b r1 r2 : Int32} (h1 : betP c a b r1) (h2 : betP c a b r2) : r1 = r2 := by
  rcases h1 with ⟨i, j, v, hi, hj, hne, rfl, rfl, hv, rfl⟩ | ⟨hn, rfl⟩
  · rcases h2 with ⟨i', j', w, hi', hj', hne', e1, e2, hw, rfl⟩ | ⟨hn, rfl⟩
    · obtain ⟨rfl, rfl⟩ := pair_uniq hi hj hi' hj' e1 e2
      rw [isMin_uniq hv hw]
    · rw [prB_nI hi hj hne] at hn; cases hn
  · rcases h2 with ⟨i', j', w, hi', hj', hne', e1, e2, hw, rfl⟩ | ⟨hn', rfl⟩
    · rw [e1, e2, prB_nI hi' hj' hne'] at hn; cases hn
    · rfl
/-- the least side that has place 0 -/
def lsdP (c : Nat → Nat) (r : Int32) : Prop := ∃ v S, isMin c 0 0 v ∧ 1 ≤ S ∧ S ≤ 62 ∧ S % 2 = 1 ∧ cst (mx c) S.testBit = v ∧ (∀ T, 1 ≤ T → T < S → T % 2 = 1 → cst (mx c) T.testBit ≠ v) ∧ r = nI S
theorem lsdP_uniq {c : Nat → Nat} {r1 r2 : Int32} (h1 : lsdP c r1) (h2 : lsdP c r2) : r1 = r2 := by
  obtain ⟨v, S, hv, a1, a2, a3, a4, a5, rfl⟩ := h1
  obtain ⟨w, T, hw, b1, b2, b3, b4, b5, rfl⟩ := h2
  have e := isMin_uniq hv hw
  subst e
  have : S = T := by
    rcases Nat.lt_trichotomy S T with q | q | q
    · exact absurd a4 (b5 S a1 q a3)
    · exact q
    · exact absurd b4 (a5 T b1 q b3)
  rw [this]
/-- core, reach: what all, what some of the cheapest sides have -/
def corP (c : Nat → Nat) (a b r : Int32) : Prop := (∃ i j v M, i < 6 ∧ j < 6 ∧ i ≠ j ∧ a = nI i ∧ b = nI j ∧ isMin c (2 ^ i) (2 ^ j) v ∧ M < 64 ∧ (∀ q, q < 6 → (M.testBit q = true ↔ ∀ P, okP (2 ^ i) (2 ^ j) P → cst (mx c) P = v → P q = true)) ∧ r = nI M) ∨ (prB a b = false ∧ r = nI 0)
def reaP (c : Nat → Nat) (a b r : Int32) : Prop := (∃ i j v M, i < 6 ∧ j < 6 ∧ i ≠ j ∧ a = nI i ∧ b = nI j ∧ isMin c (2 ^ i) (2 ^ j) v ∧ M < 64 ∧ (∀ q, q < 6 → (M.testBit q = true ↔ ∃ P, okP (2 ^ i) (2 ^ j) P ∧ cst (mx c) P = v ∧ P q = true)) ∧ r = nI M) ∨ (prB a b = false ∧ r = nI 0)
theorem bool_iff {s t : Bool} (h : s = true ↔ t = true) : s = t := by
  cases s <;> cases t
  · rfl
  · exact absurd (h.mpr rfl) (by decide)
  · exact absurd (h.mp rfl) (by decide)
  · rfl
theorem corP_uniq {c : Nat → Nat} {a b r1 r2 : Int32} (h1 : corP c a b r1) (h2 : corP c a b r2) : r1 = r2 := by
  rcases h1 with ⟨i, j, v, M, hi, hj, hne, rfl, rfl, hv, hM, hb, rfl⟩ | ⟨hn, rfl⟩
  · rcases h2 with ⟨i', j', w, M', hi', hj', hne', e1, e2, hw, hM', hb', rfl⟩ | ⟨hn, rfl⟩
    · obtain ⟨rfl, rfl⟩ := pair_uniq hi hj hi' hj' e1 e2
      have e := isMin_uniq hv hw
      subst e
      rw [tb_ext hM hM' (fun q hq => bool_iff ((hb q hq).trans (hb' q hq).symm))]
    · rw [prB_nI hi hj hne] at hn; cases hn
  · rcases h2 with ⟨i', j', w, M', hi', hj', hne', e1, e2, hw, hM', hb', rfl⟩ | ⟨hn', rfl⟩
    · rw [e1, e2, prB_nI hi' hj' hne'] at hn; cases hn
    · rfl
theorem reaP_uniq {c : Nat → Nat} {a b r1 r2 : Int32} (h1 : reaP c a b r1) (h2 : reaP c a b r2) : r1 = r2 := by
  rcases h1 with ⟨i, j, v, M, hi, hj, hne, rfl, rfl, hv, hM, hb, rfl⟩ | ⟨hn, rfl⟩
  · rcases h2 with ⟨i', j', w, M', hi', hj', hne', e1, e2, hw, hM', hb', rfl⟩ | ⟨hn, rfl⟩
    · obtain ⟨rfl, rfl⟩ := pair_uniq hi hj hi' hj' e1 e2
      have e := isMin_uniq hv hw
      subst e
      rw [tb_ext hM hM' (fun q hq => bool_iff ((hb q hq).trans (hb' q hq).symm))]
    · rw [prB_nI hi hj hne] at hn; cases hn
  · rcases h2 with ⟨i', j', w, M', hi', hj', hne', e1, e2, hw, hM', hb', rfl⟩ | ⟨hn', rfl⟩
    · rw [e1, e2, prB_nI hi' hj' hne'] at hn; cases hn
    · rfl
/-- forced: the least cost of a side that has all of a and none of b -/
def forP (c : Nat → Nat) (a b r : Int32) : Prop := (∃ I O, I < 64 ∧ O < 64 ∧ a = nI I ∧ b = nI O ∧ cheP c I O r) ∨ ((∀ I O, I < 64 → O < 64 → ¬ (a = nI I ∧ b = nI O)) ∧ r = -1)
theorem forP_uniq {c : Nat → Nat} {a b r1 r2 : Int32} (h1 : forP c a b r1) (h2 : forP c a b r2) : r1 = r2 := by
  rcases h1 with ⟨I, O, hI, hO, rfl, rfl, hc⟩ | ⟨hn, rfl⟩
  · rcases h2 with ⟨I', O', hI', hO', e1, e2, hc'⟩ | ⟨hn, rfl⟩
    · obtain rfl : I = I' := (nI_eq (by omega) (by omega)).mp e1
      obtain rfl : O = O' := (nI_eq (by omega) (by omega)).mp e2
      exact cheP_uniq hc hc'
    · exact absurd ⟨rfl, rfl⟩ (hn I O hI hO)
  · rcases h2 with ⟨I', O', hI', hO', e1, e2, hc'⟩ | ⟨hn', rfl⟩
    · exact absurd ⟨e1, e2⟩ (hn I' O' hI' hO')
    · rfl
/-! the least cost between two places, as a number -/
noncomputable def lam (c : Nat → Nat) (i j : Nat) : Nat := Classical.epsilon (fun v => isMin c (2 ^ i) (2 ^ j) v)
theorem isMin_ex {c : Nat → Nat} {I O : Nat} {P : Nat → Bool} (h : okP I O P) : ∃ v, isMin c I O v := by
  obtain ⟨v, ⟨P', hP', e⟩, hmin⟩ := pk_least (fun v => ∃ P, okP I O P ∧ cst (mx c) P = v) ⟨_, P, h, rfl⟩
  refine ⟨v, ⟨P', hP', e⟩, fun P'' h'' => ?_⟩
  rcases Nat.lt_or_ge (cst (mx c) P'') v with q | q
  · exact absurd ⟨P'', h'', rfl⟩ (hmin _ q)
  · exact q
theorem lam_min {c : Nat → Nat} {i j : Nat} (hi : i < 6) (hj : j < 6) (hne : i ≠ j) : isMin c (2 ^ i) (2 ^ j) (lam c i j) := Classical.epsilon_spec (isMin_ex (okP_pair hi hj hne))
theorem lam_eq {c : Nat → Nat} {i j v : Nat} (hi : i < 6) (hj : j < 6) (hne : i ≠ j) (h : isMin c (2 ^ i) (2 ^ j) v) : v = lam c i j := isMin_uniq h (lam_min hi hj hne)
noncomputable def palN (c : Nat → Nat) (z : Int32) (k : Nat) : Nat := sm k (fun k => if k / 6 < k % 6 ∧ ¬ nI (lam c (k / 6) (k % 6)) < z then 1 else 0)
def palP (c : Nat → Nat) (z r : Int32) : Prop := r = nI (palN c z 36)
def grpP (c : Nat → Nat) (a z r : Int32) : Prop := (∃ i M, i < 6 ∧ a = nI i ∧ M < 64 ∧ (∀ b, b < 6 → (M.testBit b = true ↔ b = i ∨ ¬ nI (lam c i b) < z)) ∧ r = nI M) ∨ (plc a = false ∧ r = nI 0)
theorem grpP_uniq {c : Nat → Nat} {a z r1 r2 : Int32} (h1 : grpP c a z r1) (h2 : grpP c a z r2) : r1 = r2 := by
  rcases h1 with ⟨i, M, hi, rfl, hM, hb, rfl⟩ | ⟨hn, rfl⟩
  · rcases h2 with ⟨i', M', hi', e, hM', hb', rfl⟩ | ⟨hn, rfl⟩
    · obtain rfl : i = i' := (nI_eq (by omega) (by omega)).mp e
      rw [tb_ext hM hM' (fun q hq => bool_iff ((hb q hq).trans (hb' q hq).symm))]
    · rw [plc_nI hi] at hn; cases hn
  · rcases h2 with ⟨i', M', hi', e, hM', hb', rfl⟩ | ⟨hn', rfl⟩
    · rw [e, plc_nI hi'] at hn; cases hn
    · rfl
def losP (c : Nat → Nat) (a b r : Int32) : Prop := (∃ i j v w, i < 6 ∧ j < 6 ∧ i ≠ j ∧ a = nI i ∧ b = nI j ∧ isMin c 0 0 v ∧ isMin (putc c i j 0) 0 0 w ∧ r = nI v - nI w) ∨ (prB a b = false ∧ r = -1)
theorem losP_uniq {c : Nat → Nat} {a b r1 r2 : Int32} (h1 : losP c a b r1) (h2 : losP c a b r2) : r1 = r2 := by
  rcases h1 with ⟨i, j, v, w, hi, hj, hne, rfl, rfl, hv, hw, rfl⟩ | ⟨hn, rfl⟩
  · rcases h2 with ⟨i', j', v', w', hi', hj', hne', e1, e2, hv', hw', rfl⟩ | ⟨hn, rfl⟩
    · obtain ⟨rfl, rfl⟩ := pair_uniq hi hj hi' hj' e1 e2
      rw [isMin_uniq hv hv', isMin_uniq hw hw']
    · rw [prB_nI hi hj hne] at hn; cases hn
  · rcases h2 with ⟨i', j', v', w', hi', hj', hne', e1, e2, hv', hw', rfl⟩ | ⟨hn', rfl⟩
    · rw [e1, e2, prB_nI hi' hj' hne'] at hn; cases hn
    · rfl
def tigP (c : Nat → Nat) (a b y z r : Int32) : Prop := (∃ i j x t v w, i < 6 ∧ j < 6 ∧ i ≠ j ∧ x < 6 ∧ t < 6 ∧ x ≠ t ∧ a = nI i ∧ b = nI j ∧ y = nI x ∧ z = nI t ∧ isMin c (2 ^ i) (2 ^ j) v ∧ isMin (putc c x t (c (x * 6 + t) + 1)) (2 ^ i) (2 ^ j) w ∧ r = b2i (decide (v < w))) ∨ ((prB a b && prB y z) = false ∧ r = nI 0)
theorem tigP_uniq {c : Nat → Nat} {a b y z r1 r2 : Int32} (h1 : tigP c a b y z r1) (h2 : tigP c a b y z r2) : r1 = r2 := by
  rcases h1 with ⟨i, j, x, t, v, w, hi, hj, hne, hx, ht, hxt, rfl, rfl, rfl, rfl, hv, hw, rfl⟩ | ⟨hn, rfl⟩
  · rcases h2 with ⟨i', j', x', t', v', w', hi', hj', hne', hx', ht', hxt', e1, e2, e3, e4, hv', hw', rfl⟩ | ⟨hn, rfl⟩
    · obtain ⟨rfl, rfl⟩ := pair_uniq hi hj hi' hj' e1 e2
      obtain ⟨rfl, rfl⟩ := pair_uniq hx ht hx' ht' e3 e4
      rw [isMin_uniq hv hv', isMin_uniq hw hw']
    · rw [prB_nI hi hj hne, prB_nI hx ht hxt] at hn; cases hn
  · rcases h2 with ⟨i', j', x', t', v', w', hi', hj', hne', hx', ht', hxt', e1, e2, e3, e4, hv', hw', rfl⟩ | ⟨hn', rfl⟩
    · rw [e1, e2, e3, e4, prB_nI hi' hj' hne', prB_nI hx' ht' hxt'] at hn; cases hn
    · rfl
end
section
set_option maxRecDepth 100000
set_option maxHeartbeats 4000000 in
set_option maxRecDepth 100000 in
theorem met_mput (l : Launch) (D : va_G) (dA dB : ClassId) (g : Nat → Nat) (cap : Nat → Nat) (i j v : Nat) (hi : i < 6) (hj : j < 6) : Met l yX1_put (ws_ yX1_put cX1_put 4 none) (rmL 0) (va_Pc [.ref (g 0), .int (nI i), .int (nI j), .int (nI v)] (mdU D dA dB g cap)) (va_Qv (fun _ : Unit => True) (fun _ t => mdU D dA dB g (putc cap i j v) t) (mdA g)) 0 0 (mdA g) := by
  refine md_metv (own := RX1) (by decide) rfl (Nat.le_of_ble_eq_true rfl) ?_
  intro p e s m args below meth c Q ls G I hret hl
  have hl : lv_has ls 4 [(0, .ref (g 0)), (1, .int (nI i)), (2, .int (nI j)), (3, .int (nI v))] := hl
  refine lv_aload_n G.1 G.2.1 dX1_put_0 rfl (lv_at hl 0 rfl) ?_
  refine mg_cap G I dX1_put_1 ?_
  refine n_bipush (a := 6) G dX1_put_4 (by decide) ?_
  refine lv_iload_n G.1 G.2.1 dX1_put_6 rfl (lv_at hl 1 rfl) ?_
  refine n_imul G dX1_put_7 ?_
  refine lv_iload_n G.1 G.2.1 dX1_put_8 rfl (lv_at hl 2 rfl) ?_
  refine n_iadd G dX1_put_9 ?_
  refine lv_iload_n G.1 G.2.1 dX1_put_10 rfl (lv_at hl 3 rfl) ?_
  refine mw_cap G I (by omega) dX1_put_11 (fun H locs I => ?_)
  refine lv_aload_n G.1 G.2.1 dX1_put_12 rfl (lv_at hl 0 rfl) ?_
  refine mg_cap G I dX1_put_13 ?_
  refine n_bipush (a := 6) G dX1_put_16 (by decide) ?_
  refine lv_iload_n G.1 G.2.1 dX1_put_18 rfl (lv_at hl 2 rfl) ?_
  refine n_imul G dX1_put_19 ?_
  refine lv_iload_n G.1 G.2.1 dX1_put_20 rfl (lv_at hl 1 rfl) ?_
  refine n_iadd G dX1_put_21 ?_
  refine lv_iload_n G.1 G.2.1 dX1_put_22 rfl (lv_at hl 3 rfl) ?_
  refine mw_cap G I (by omega) dX1_put_23 (fun H locs I => ?_)
  exact hret _ _ _ _ () dX1_put_24 trivial (by rw [← putc_md]; exact I)
section MLEAF
variable {p : Program} {l : Launch} {e : Env} {R : Room} {s : State} {m : MethodId} {args : Array Value} {below : List Frame} {meth : Method} {c : Code} {H : Heap} {locs : List Loc} {cells slots : Nat} {Q : State → Prop}
variable {cc : ByteArray} {own : String} {nL pc : Nat} {ls : Array Slot} {rest : List Value}
theorem n_bne1 (G : CallFix p m c cc nL s args lw_all own) {t : Bool} {off : Int} {tgt : Nat} (hdg : decode cc pc = .ok (.if_icmp .ne off, 3)) (ht : (pc : Int) + off = (tgt : Int)) (kt : t = false → W p l e R s m args below meth c H locs cells slots Q (F0 m tgt ls rest)) (kf : t = true → W p l e R s m args below meth c H locs cells slots Q (F0 m (pc + 3) ls rest)) : W p l e R s m args below meth c H locs cells slots Q (F0 m pc ls (.int (nI 1) :: .int (b2i t) :: rest)) :=
  lv_icmp_ne G.1 G.2.1 hdg ht (fun q => kt (by cases t with | false => rfl | true => exact absurd rfl q)) (fun q => kf (b2i_t q.symm))
end MLEAF
set_option maxHeartbeats 4000000 in
set_option maxRecDepth 100000 in
theorem met_costOf (l : Launch) (D : va_G) (dA dB : ClassId) (g : Nat → Nat) (cap : Nat → Nat) (S : Nat) (hS : S < 64) : Met l yX1_costOf (ws_ yX1_costOf cX1_costOf 5 (some .int)) (rmL 0) (va_Pc [.ref (g 0), .int (nI S)] (mdU D dA dB g cap)) (vp_Si (fun r => r = nI (cst (mx cap) S.testBit))) 0 0 (fun _ => False) := by
  refine ro_meti (own := RX1) (by decide) rfl (Nat.le_of_ble_eq_true rfl) ?_
  intro p e s m args below meth c Q ls G hU hret hl
  have I : mdI D dA dB g (fun _ => True) s s.heap [] cap := ⟨hU.1, hU.2.1, hU.2.2, va_S.rf⟩
  have hl : lv_has ls 5 [(0, .ref (g 0)), (1, .int (nI S))] := hl
  have loop : ∀ n k, k ≤ 36 → 37 ≤ k + n → ∀ (ls : Array Slot), lv_has ls 5 [(0, .ref (g 0)), (1, .int (nI S)), (2, .int (nI (cs36 cap S k))), (3, .int (nI k))] → W p l e (rmL 0) s m args below meth c s.heap [] 0 0 Q (F0 m 4 ls []) := by
    intro n
    induction n with
    | zero =>
      intro k h1 h2
      exact absurd h2 (by omega)
    | succ n ih =>
      intro k hk hn ls hl
      refine lv_iload_n G.1 G.2.1 dX1_costOf_4 rfl (lv_at hl 3 rfl) ?_
      refine n_bipush (a := 36) G dX1_costOf_5 (by decide) ?_
      refine n_icmp_ge (tgt := 64) G dX1_costOf_7 (by decide) (by omega) (by omega) (fun c_7 => ?_) (fun c_7 => ?_)
      · refine lv_iload_n G.1 G.2.1 dX1_costOf_64 rfl (lv_at hl 2 rfl) ?_
        obtain rfl : k = 36 := by omega
        rw [cs36_36]
        exact hret _ _ _ dX1_costOf_65 rfl
      · refine lv_iload_n G.1 G.2.1 dX1_costOf_10 rfl (lv_at hl 1 rfl) ?_
        refine lv_iload_n G.1 G.2.1 dX1_costOf_11 rfl (lv_at hl 3 rfl) ?_
        refine n_bipush (a := 6) G dX1_costOf_12 (by decide) ?_
        refine n_idiv G (by omega) (by decide) (by decide) dX1_costOf_14 ?_
        refine lv_ishr G.1 G.2.1 dX1_costOf_15 ?_
        refine n_iconst (a := 1) G dX1_costOf_16 (by decide) ?_
        refine lv_iand G.1 G.2.1 dX1_costOf_17 ?_
        rw [nx_bit (by omega) (by omega)]
        refine n_iconst (a := 1) G dX1_costOf_18 (by decide) ?_
        refine n_bne1 (tgt := 37) G dX1_costOf_19 (by decide) (fun c_19 => ?_) (fun c_19 => ?_)
        · refine n_iconst (a := 0) G dX1_costOf_37 (by decide) ?_
          refine lv_istore (lv' := [(4, .int (nI 0)), (0, .ref (g 0)), (1, .int (nI S)), (2, .int (nI (cs36 cap S k))), (3, .int (nI k))]) G.1 G.2.1 dX1_costOf_38 hl (by decide) rfl (fun ls hl => ?_)
          refine lv_iload G.1 G.2.1 dX1_costOf_40 (lv_at hl 0 rfl) ?_
          refine n_ifeqN (tgt := 56) G (by omega) dX1_costOf_42 (by decide) (fun c_42 => ?_) (fun c_42 => ?_)
          · refine lv_iload_n G.1 G.2.1 dX1_costOf_56 rfl (lv_at hl 3 rfl) ?_
            refine lv_istore_n (lv' := [(2, .int (nI (cs36 cap S k))), (4, .int (nI 0)), (0, .ref (g 0)), (1, .int (nI S)), (3, .int (nI k))]) G.1 G.2.1 dX1_costOf_57 rfl hl (by decide) rfl (fun ls hl => ?_)
            refine n_iinc (b := 1) (lv' := [(3, .int (nI (k + 1))), (2, .int (nI (cs36 cap S k))), (4, .int (nI 0)), (0, .ref (g 0)), (1, .int (nI S))]) G dX1_costOf_58 hl (q := 4) rfl (by decide) (by decide) rfl (fun ls hl => ?_)
            refine lv_goto (tgt := 4) G.1 G.2.1 dX1_costOf_61 (by decide) ?_
            refine ih (k + 1) (by omega) (by omega) ls ?_
            first | rw [cs36_s, ctr_0a c_19, Nat.add_zero] | rw [cs36_s, ctr_0b c_30, Nat.add_zero]
            exact (lv_sub hl [3, 4, 1, 0] rfl)
          · exact absurd c_42 (by decide)
        · refine lv_iload_n G.1 G.2.1 dX1_costOf_22 rfl (lv_at hl 1 rfl) ?_
          refine lv_iload_n G.1 G.2.1 dX1_costOf_23 rfl (lv_at hl 3 rfl) ?_
          refine n_bipush (a := 6) G dX1_costOf_24 (by decide) ?_
          refine n_irem G (by omega) (by decide) (by decide) dX1_costOf_26 ?_
          refine lv_ishr G.1 G.2.1 dX1_costOf_27 ?_
          refine n_iconst (a := 1) G dX1_costOf_28 (by decide) ?_
          refine lv_iand G.1 G.2.1 dX1_costOf_29 ?_
          rw [nx_bit (by omega) (by omega)]
          refine n_ifne (tgt := 37) G dX1_costOf_30 (by decide) (fun c_30 => ?_) (fun c_30 => ?_)
          · refine n_iconst (a := 0) G dX1_costOf_37 (by decide) ?_
            refine lv_istore (lv' := [(4, .int (nI 0)), (0, .ref (g 0)), (1, .int (nI S)), (2, .int (nI (cs36 cap S k))), (3, .int (nI k))]) G.1 G.2.1 dX1_costOf_38 hl (by decide) rfl (fun ls hl => ?_)
            refine lv_iload G.1 G.2.1 dX1_costOf_40 (lv_at hl 0 rfl) ?_
            refine n_ifeqN (tgt := 56) G (by omega) dX1_costOf_42 (by decide) (fun c_42 => ?_) (fun c_42 => ?_)
            · refine lv_iload_n G.1 G.2.1 dX1_costOf_56 rfl (lv_at hl 3 rfl) ?_
              refine lv_istore_n (lv' := [(2, .int (nI (cs36 cap S k))), (4, .int (nI 0)), (0, .ref (g 0)), (1, .int (nI S)), (3, .int (nI k))]) G.1 G.2.1 dX1_costOf_57 rfl hl (by decide) rfl (fun ls hl => ?_)
              refine n_iinc (b := 1) (lv' := [(3, .int (nI (k + 1))), (2, .int (nI (cs36 cap S k))), (4, .int (nI 0)), (0, .ref (g 0)), (1, .int (nI S))]) G dX1_costOf_58 hl (q := 4) rfl (by decide) (by decide) rfl (fun ls hl => ?_)
              refine lv_goto (tgt := 4) G.1 G.2.1 dX1_costOf_61 (by decide) ?_
              refine ih (k + 1) (by omega) (by omega) ls ?_
              first | rw [cs36_s, ctr_0a c_19, Nat.add_zero] | rw [cs36_s, ctr_0b c_30, Nat.add_zero]
              exact (lv_sub hl [3, 4, 1, 0] rfl)
            · exact absurd c_42 (by decide)
          · refine n_iconst (a := 1) G dX1_costOf_33 (by decide) ?_
            refine lv_goto (tgt := 38) G.1 G.2.1 dX1_costOf_34 (by decide) ?_
            refine lv_istore (lv' := [(4, .int (nI 1)), (0, .ref (g 0)), (1, .int (nI S)), (2, .int (nI (cs36 cap S k))), (3, .int (nI k))]) G.1 G.2.1 dX1_costOf_38 hl (by decide) rfl (fun ls hl => ?_)
            refine lv_iload G.1 G.2.1 dX1_costOf_40 (lv_at hl 0 rfl) ?_
            refine n_ifeqN (tgt := 56) G (by omega) dX1_costOf_42 (by decide) (fun c_42 => ?_) (fun c_42 => ?_)
            · exact absurd c_42 (by decide)
            · refine lv_iload_n G.1 G.2.1 dX1_costOf_45 rfl (lv_at hl 3 rfl) ?_
              refine lv_aload_n G.1 G.2.1 dX1_costOf_46 rfl (lv_at hl 1 rfl) ?_
              refine mg_cap G I dX1_costOf_47 ?_
              refine lv_iload_n G.1 G.2.1 dX1_costOf_50 rfl (lv_at hl 4 rfl) ?_
              refine mr_cap G I (by omega) dX1_costOf_51 ?_
              refine n_iadd G dX1_costOf_52 ?_
              refine lv_goto (tgt := 57) G.1 G.2.1 dX1_costOf_53 (by decide) ?_
              refine lv_istore_n (lv' := [(2, .int (nI ((cs36 cap S k) + (cap k)))), (4, .int (nI 1)), (0, .ref (g 0)), (1, .int (nI S)), (3, .int (nI k))]) G.1 G.2.1 dX1_costOf_57 rfl hl (by decide) rfl (fun ls hl => ?_)
              refine n_iinc (b := 1) (lv' := [(3, .int (nI (k + 1))), (2, .int (nI ((cs36 cap S k) + (cap k)))), (4, .int (nI 1)), (0, .ref (g 0)), (1, .int (nI S))]) G dX1_costOf_58 hl (q := 4) rfl (by decide) (by decide) rfl (fun ls hl => ?_)
              refine lv_goto (tgt := 4) G.1 G.2.1 dX1_costOf_61 (by decide) ?_
              refine ih (k + 1) (by omega) (by omega) ls ?_
              rw [cs36_s, ctr_1 c_19 c_30, show k / 6 * 6 + k % 6 = k by omega]
              exact (lv_sub hl [3, 4, 1, 0] rfl)
  refine n_iconst (a := 0) G dX1_costOf_0 (by decide) ?_
  refine lv_istore_n (lv' := [(2, .int (nI 0)), (0, .ref (g 0)), (1, .int (nI S))]) G.1 G.2.1 dX1_costOf_1 rfl hl (by decide) rfl (fun ls hl => ?_)
  refine n_iconst (a := 0) G dX1_costOf_2 (by decide) ?_
  refine lv_istore_n (lv' := [(3, .int (nI 0)), (2, .int (nI 0)), (0, .ref (g 0)), (1, .int (nI S))]) G.1 G.2.1 dX1_costOf_3 rfl hl (by decide) rfl (fun ls hl => ?_)
  exact loop 37 0 (by omega) (by omega) ls (lv_sub hl [2, 3, 1, 0] rfl)
theorem cw_mpair : callWords RX1 13 RX1 yX1_pair cX1_pair 3 (some .boolean) 2 := ⟨lw_V q169 q171 qs9 q15 q172, by decide +kernel⟩
theorem cw_mput : callWords RX1 17 RX1 yX1_put cX1_put 4 none 3 := ⟨lw_V q173 q175 qs10 q15 q176, by decide +kernel⟩
theorem cw_costOf : callWords RX1 21 RX1 yX1_costOf cX1_costOf 5 (some .int) 1 := ⟨lw_V q185 q187 qs11 q15 q188, by decide +kernel⟩
theorem cw_cheapest : callWords RX1 25 RX1 yX1_cheapest cX1_cheapest 6 (some .int) 2 := ⟨lw_V q193 q195 qs12 q15 q196, by decide +kernel⟩
theorem cw_mbetween : callWords RX1 29 RX1 yX1_between cX1_between 3 (some .int) 2 := ⟨lw_V q209 q202 q203 q15 q204, by decide +kernel⟩
theorem cw_mleast : callWords RX1 32 RX1 yX1_least cX1_least 1 (some .int) 0 := ⟨lw_V q230 q190 q191 q15 q192, by decide +kernel⟩
set_option maxHeartbeats 4000000 in
set_option maxRecDepth 100000 in
theorem met_mcapacity (l : Launch) (D : va_G) (dA dB : ClassId) (g : Nat → Nat) (cap : Nat → Nat) (a b : Int32) : Met l yX1_capacity (ws_ yX1_capacity cX1_capacity 3 (some .int)) (rmL 1) (va_Pc [.ref (g 0), .int a, .int b] (mdU D dA dB g cap)) (vp_Si (capP cap a b)) 0 0 (fun _ => False) := by
  refine ro_meti (own := RX1) (by decide) rfl (Nat.le_of_ble_eq_true rfl) ?_
  intro p e s m args below meth c Q ls G hU hret hl
  have I : mdI D dA dB g (fun _ => True) s s.heap [] cap := ⟨hU.1, hU.2.1, hU.2.2, va_S.rf⟩
  have hl : lv_has ls 3 [(0, .ref (g 0)), (1, .int a), (2, .int b)] := hl
  refine lv_aload_n G.1 G.2.1 dX1_capacity_0 rfl (lv_at hl 0 rfl) ?_
  refine lv_iload_n G.1 G.2.1 dX1_capacity_1 rfl (lv_at hl 1 rfl) ?_
  refine lv_iload_n G.1 G.2.1 dX1_capacity_2 rfl (lv_at hl 2 rfl) ?_
  refine md_ro (rest := []) G I (met_mpair l D dA dB g cap a b) cw_mpair (by decide) rfl hl.1 (Nat.le_of_ble_eq_true rfl) rfl dX1_capacity_3 (fun r_3 hr_3 => ?_)
  subst hr_3
  refine n_ifeq (tgt := 23) G dX1_capacity_6 (by decide) (fun c_6 => ?_) (fun c_6 => ?_)
  · refine lv_iconst (v := -1) G.1 G.2.1 dX1_capacity_23 (by decide) ?_
    exact hret _ _ _ dX1_capacity_24 (Or.inr ⟨c_6, rfl⟩)
  · obtain ⟨i, j, hi, hj, hne, rfl, rfl⟩ := prB_of c_6
    refine lv_aload_n G.1 G.2.1 dX1_capacity_9 rfl (lv_at hl 0 rfl) ?_
    refine mg_cap G I dX1_capacity_10 ?_
    refine n_bipush (a := 6) G dX1_capacity_13 (by decide) ?_
    refine lv_iload_n G.1 G.2.1 dX1_capacity_15 rfl (lv_at hl 1 rfl) ?_
    refine n_imul G dX1_capacity_16 ?_
    refine lv_iload_n G.1 G.2.1 dX1_capacity_17 rfl (lv_at hl 2 rfl) ?_
    refine n_iadd G dX1_capacity_18 ?_
    refine mr_cap G I (by omega) dX1_capacity_19 ?_
    refine lv_goto (tgt := 24) G.1 G.2.1 dX1_capacity_20 (by decide) ?_
    exact hret _ _ _ dX1_capacity_24 (Or.inl ⟨i, j, hi, hj, hne, rfl, rfl, by rw [Nat.mul_comm]⟩)
set_option maxHeartbeats 4000000 in
set_option maxRecDepth 100000 in
theorem met_mcost (l : Launch) (D : va_G) (dA dB : ClassId) (g : Nat → Nat) (cap : Nat → Nat) (a : Int32) : Met l yX1_cost (ws_ yX1_cost cX1_cost 2 (some .int)) (rmL 1) (va_Pc [.ref (g 0), .int a] (mdU D dA dB g cap)) (vp_Si (cosP cap a)) 0 0 (fun _ => False) := by
  refine ro_meti (own := RX1) (by decide) rfl (Nat.le_of_ble_eq_true rfl) ?_
  intro p e s m args below meth c Q ls G hU hret hl
  have I : mdI D dA dB g (fun _ => True) s s.heap [] cap := ⟨hU.1, hU.2.1, hU.2.2, va_S.rf⟩
  have hl : lv_has ls 2 [(0, .ref (g 0)), (1, .int a)] := hl
  refine lv_iload_n G.1 G.2.1 dX1_cost_0 rfl (lv_at hl 1 rfl) ?_
  refine n_iconst (a := 1) G dX1_cost_1 (by decide) ?_
  refine lv_icmp_lt (tgt := 19) G.1 G.2.1 dX1_cost_2 (by decide) (fun c_2 => ?_) (fun c_2 => ?_)
  · refine lv_iconst (v := -1) G.1 G.2.1 dX1_cost_19 (by decide) ?_
    first | exact hret _ _ _ dX1_cost_20 (Or.inr ⟨lt1_no c_2, rfl⟩) | exact hret _ _ _ dX1_cost_20 (Or.inr ⟨gt62_no c_8, rfl⟩)
  · refine lv_iload_n G.1 G.2.1 dX1_cost_5 rfl (lv_at hl 1 rfl) ?_
    refine n_bipush (a := 62) G dX1_cost_6 (by decide) ?_
    refine lv_icmp_gt (tgt := 19) G.1 G.2.1 dX1_cost_8 (by decide) (fun c_8 => ?_) (fun c_8 => ?_)
    · refine lv_iconst (v := -1) G.1 G.2.1 dX1_cost_19 (by decide) ?_
      first | exact hret _ _ _ dX1_cost_20 (Or.inr ⟨lt1_no c_2, rfl⟩) | exact hret _ _ _ dX1_cost_20 (Or.inr ⟨gt62_no c_8, rfl⟩)
    · obtain ⟨S, hS1, hS2, rfl⟩ := side_of2 c_2 c_8
      refine lv_aload_n G.1 G.2.1 dX1_cost_11 rfl (lv_at hl 0 rfl) ?_
      refine lv_iload_n G.1 G.2.1 dX1_cost_12 rfl (lv_at hl 1 rfl) ?_
      refine md_ro (rest := []) G I (met_costOf l D dA dB g cap S (by omega)) cw_costOf (by decide) rfl hl.1 (Nat.le_of_ble_eq_true rfl) rfl dX1_cost_13 (fun r_13 hr_13 => ?_)
      subst hr_13
      refine lv_goto (tgt := 20) G.1 G.2.1 dX1_cost_16 (by decide) ?_
      exact hret _ _ _ dX1_cost_20 (Or.inl ⟨S, hS1, hS2, rfl, rfl⟩)
set_option maxHeartbeats 4000000 in
set_option maxRecDepth 100000 in
theorem met_mset (l : Launch) (D : va_G) (dA dB : ClassId) (g : Nat → Nat) (cap : Nat → Nat) (a b v : Int32) : Met l yX1_set (ws_ yX1_set cX1_set 4 (some .boolean)) (rmL 1) (va_Pc [.ref (g 0), .int a, .int b, .int v] (mdU D dA dB g cap)) (va_Qi (fun r (_ : Unit) => r = b2i (stB a b v)) (fun _ t => mdU D dA dB g (setc cap a b v) t) (mdA g)) 0 0 (mdA g) := by
  refine md_metz (own := RX1) (by decide) rfl (Nat.le_of_ble_eq_true rfl) ?_
  intro p e s m args below meth c Q ls G I hret hl
  have hl : lv_has ls 4 [(0, .ref (g 0)), (1, .int a), (2, .int b), (3, .int v)] := hl
  refine lv_aload_n G.1 G.2.1 dX1_set_0 rfl (lv_at hl 0 rfl) ?_
  refine lv_iload_n G.1 G.2.1 dX1_set_1 rfl (lv_at hl 1 rfl) ?_
  refine lv_iload_n G.1 G.2.1 dX1_set_2 rfl (lv_at hl 2 rfl) ?_
  refine md_ro (rest := []) G I (met_mpair l D dA dB g cap a b) cw_mpair (by decide) rfl hl.1 (Nat.le_of_ble_eq_true rfl) rfl dX1_set_3 (fun r_3 hr_3 => ?_)
  subst hr_3
  refine n_ifeq (tgt := 19) G dX1_set_6 (by decide) (fun c_6 => ?_) (fun c_6 => ?_)
  · refine n_iconst (a := 0) G dX1_set_19 (by decide) ?_
    have hf : stB a b v = false := by first | exact stB_f1 c_6 | exact stB_f2 c_10 | exact stB_f3 c_16
    exact hret _ _ _ _ _ () dX1_set_20 (Or.inl rfl) (bq0 hf) (by rw [setc_f hf]; exact I)
  · refine lv_iload_n G.1 G.2.1 dX1_set_9 rfl (lv_at hl 3 rfl) ?_
    refine lv_if_lt (tgt := 19) G.1 G.2.1 dX1_set_10 (by decide) (fun c_10 => ?_) (fun c_10 => ?_)
    · refine n_iconst (a := 0) G dX1_set_19 (by decide) ?_
      have hf : stB a b v = false := by first | exact stB_f1 c_6 | exact stB_f2 c_10 | exact stB_f3 c_16
      exact hret _ _ _ _ _ () dX1_set_20 (Or.inl rfl) (bq0 hf) (by rw [setc_f hf]; exact I)
    · refine lv_iload_n G.1 G.2.1 dX1_set_13 rfl (lv_at hl 3 rfl) ?_
      refine n_bipush (a := 30) G dX1_set_14 (by decide) ?_
      refine lv_icmp_le (tgt := 21) G.1 G.2.1 dX1_set_16 (by decide) (fun c_16 => ?_) (fun c_16 => ?_)
      · obtain ⟨i, j, hi, hj, hne, rfl, rfl⟩ := prB_of c_6
        obtain ⟨x, hx, rfl⟩ := le30 c_10 c_16
        refine lv_aload_n G.1 G.2.1 dX1_set_21 rfl (lv_at hl 0 rfl) ?_
        refine lv_iload_n G.1 G.2.1 dX1_set_22 rfl (lv_at hl 1 rfl) ?_
        refine lv_iload_n G.1 G.2.1 dX1_set_23 rfl (lv_at hl 2 rfl) ?_
        refine lv_iload_n G.1 G.2.1 dX1_set_24 rfl (lv_at hl 3 rfl) ?_
        refine md_mv (rest := []) G I (met_mput l D dA dB g cap i j x (by omega) (by omega)) cw_mput (by decide) rfl hl.1 (Nat.le_of_ble_eq_true rfl) rfl dX1_set_25 (fun _ H locs _ I _ _ => ?_)
        have I : mdI D dA dB g (mdA g) s H locs (putc cap i j x) := I
        refine n_iconst (a := 1) G dX1_set_28 (by decide) ?_
        exact hret _ _ _ _ _ () dX1_set_29 (Or.inr rfl) (bq1 (setc_t (c := cap) hi hj hne hx).1) (by rw [(setc_t hi hj hne hx).2]; exact I)
      · refine n_iconst (a := 0) G dX1_set_19 (by decide) ?_
        have hf : stB a b v = false := by first | exact stB_f1 c_6 | exact stB_f2 c_10 | exact stB_f3 c_16
        exact hret _ _ _ _ _ () dX1_set_20 (Or.inl rfl) (bq0 hf) (by rw [setc_f hf]; exact I)
end
section
/-! the plain form's loops over the sides: what they have gathered -/
theorem betP_lam {c : Nat → Nat} {i j : Nat} {r : Int32} (hi : i < 6) (hj : j < 6) (hne : i ≠ j) (h : betP c (nI i) (nI j) r) : r = nI (lam c i j) := by
  rcases h with ⟨i', j', v, hi', hj', hne', e1, e2, hv, rfl⟩ | ⟨hn, rfl⟩
  · obtain ⟨rfl, rfl⟩ := pair_uniq hi hj hi' hj' e1 e2
    rw [lam_eq hi hj hne hv]
  · rw [prB_nI hi hj hne] at hn; cases hn
theorem lam_le {c : Nat → Nat} {i j : Nat} (hc : CutOK c) (hi : i < 6) (hj : j < 6) (hne : i ≠ j) : lam c i j ≤ 1116 := isMin_le hc (lam_min hi hj hne)
theorem okP_ij {i j : Nat} {P : Nat → Bool} (hi : i < 6) (hj : j < 6) : okP (2 ^ i) (2 ^ j) P ↔ P i = true ∧ P j = false := by
  constructor
  · intro h
    exact ⟨h.2.2.1 i hi (by rw [tb_pow]; simp), h.2.2.2 j hj (by rw [tb_pow]; simp)⟩
  · intro ⟨h1, h2⟩
    refine ⟨⟨i, hi, h1⟩, ⟨j, hj, h2⟩, fun a _ h => ?_, fun a _ h => ?_⟩
    · rw [tb_pow, decide_eq_true_eq] at h
      rw [← h]; exact h1
    · rw [tb_pow, decide_eq_true_eq] at h
      rw [← h]; exact h2
def bestS (c : Nat → Nat) (i j S : Nat) : Prop := S.testBit i = true ∧ S.testBit j = false ∧ cst (mx c) S.testBit = lam c i j
def coI (c : Nat → Nat) (i j n M : Nat) : Prop := M < 64 ∧ ∀ q, q < 6 → (M.testBit q = true ↔ ∀ S, 1 ≤ S → S < n → bestS c i j S → S.testBit q = true)
def reI (c : Nat → Nat) (i j n M : Nat) : Prop := M < 64 ∧ ∀ q, q < 6 → (M.testBit q = true ↔ ∃ S, 1 ≤ S ∧ S < n ∧ bestS c i j S ∧ S.testBit q = true)
theorem co_0 (c : Nat → Nat) (i j : Nat) : coI c i j 1 63 := ⟨by omega, fun q hq => ⟨fun _ S h1 h2 => absurd h2 (by omega), fun _ => tb_63 q hq⟩⟩
theorem re_0 (c : Nat → Nat) (i j : Nat) : reI c i j 1 0 := ⟨by omega, fun q _ => ⟨fun h => (by rw [tb_0] at h; cases h), fun ⟨S, h1, h2, _⟩ => absurd h2 (by omega)⟩⟩
theorem co_in {c : Nat → Nat} {i j n M : Nat} (h : coI c i j n M) (h1 : 1 ≤ n) (hb : bestS c i j n) : coI c i j (n + 1) (M &&& n) := by
  refine ⟨and_lt64 h.1, fun q hq => ?_⟩
  rw [Nat.testBit_and, Bool.and_eq_true, h.2 q hq]
  constructor
  · intro ⟨a1, a2⟩ S s1 s2 s3
    rcases lt_split s2 with z | rfl
    · exact a1 S s1 z s3
    · exact a2
  · intro a
    exact ⟨fun S s1 s2 s3 => a S s1 (by omega) s3, a n h1 (by omega) hb⟩
theorem co_out {c : Nat → Nat} {i j n M : Nat} (h : coI c i j n M) (hb : ¬ bestS c i j n) : coI c i j (n + 1) M := by
  refine ⟨h.1, fun q hq => ?_⟩
  rw [h.2 q hq]
  constructor
  · intro a1 S s1 s2 s3
    rcases lt_split s2 with z | rfl
    · exact a1 S s1 z s3
    · exact absurd s3 hb
  · intro a S s1 s2 s3
    exact a S s1 (by omega) s3
theorem re_in {c : Nat → Nat} {i j n M : Nat} (h : reI c i j n M) (h1 : 1 ≤ n) (hn : n ≤ 62) (hb : bestS c i j n) : reI c i j (n + 1) (M ||| n) := by
  refine ⟨Nat.or_lt_two_pow (n := 6) h.1 (by omega), fun q hq => ?_⟩
  rw [Nat.testBit_or, Bool.or_eq_true, h.2 q hq]
  constructor
  · rintro (⟨S, s1, s2, s3, s4⟩ | a)
    · exact ⟨S, s1, by omega, s3, s4⟩
    · exact ⟨n, h1, by omega, hb, a⟩
  · rintro ⟨S, s1, s2, s3, s4⟩
    rcases lt_split s2 with z | rfl
    · exact Or.inl ⟨S, s1, z, s3, s4⟩
    · exact Or.inr s4
theorem re_out {c : Nat → Nat} {i j n M : Nat} (h : reI c i j n M) (hb : ¬ bestS c i j n) : reI c i j (n + 1) M := by
  refine ⟨h.1, fun q hq => ?_⟩
  rw [h.2 q hq]
  constructor
  · rintro ⟨S, s1, s2, s3, s4⟩
    exact ⟨S, s1, by omega, s3, s4⟩
  · rintro ⟨S, s1, s2, s3, s4⟩
    rcases lt_split s2 with z | rfl
    · exact ⟨S, s1, z, s3, s4⟩
    · exact absurd s3 hb
theorem bestS_P {c : Nat → Nat} {i j : Nat} {P : Nat → Bool} (hi : i < 6) (hj : j < 6) (h : okP (2 ^ i) (2 ^ j) P) (hv : cst (mx c) P = lam c i j) : 1 ≤ mk6 P ∧ mk6 P < 63 ∧ bestS c i j (mk6 P) := by
  have hk := okP_S (pow_lt64 hi) (pow_lt64 hj) h
  obtain ⟨h1, h2⟩ := (okP_ij hi hj).mp h
  exact ⟨hk.1, by have := hk.2.1; omega, by rw [mk6_tb P i hi]; exact h1, by rw [mk6_tb P j hj]; exact h2, by rw [cst_mk6]; exact hv⟩
theorem co_end {c : Nat → Nat} {i j n M : Nat} (hi : i < 6) (hj : j < 6) (hne : i ≠ j) (hn : 63 ≤ n) (h : coI c i j n M) : corP c (nI i) (nI j) (nI M) := by
  refine Or.inl ⟨i, j, lam c i j, M, hi, hj, hne, rfl, rfl, lam_min hi hj hne, h.1, fun q hq => ?_, rfl⟩
  rw [h.2 q hq]
  constructor
  · intro a P hP hv
    obtain ⟨b1, b2, b3⟩ := bestS_P hi hj hP hv
    have := a (mk6 P) b1 (by omega) b3
    rw [mk6_tb P q hq] at this
    exact this
  · intro a S s1 s2 s3
    exact a S.testBit ((okP_ij hi hj).mpr ⟨s3.1, s3.2.1⟩) s3.2.2
theorem re_end {c : Nat → Nat} {i j n M : Nat} (hi : i < 6) (hj : j < 6) (hne : i ≠ j) (hn : 63 ≤ n) (h : reI c i j n M) : reaP c (nI i) (nI j) (nI M) := by
  refine Or.inl ⟨i, j, lam c i j, M, hi, hj, hne, rfl, rfl, lam_min hi hj hne, h.1, fun q hq => ?_, rfl⟩
  rw [h.2 q hq]
  constructor
  · rintro ⟨S, s1, s2, s3, s4⟩
    exact ⟨S.testBit, (okP_ij hi hj).mpr ⟨s3.1, s3.2.1⟩, s3.2.2, s4⟩
  · rintro ⟨P, hP, hv, hq'⟩
    obtain ⟨b1, b2, b3⟩ := bestS_P hi hj hP hv
    exact ⟨mk6 P, b1, by omega, b3, by rw [mk6_tb P q hq]; exact hq'⟩
/-! leastSide -/
theorem odd_tb (S : Nat) : S.testBit 0 = decide (S % 2 = 1) := Nat.testBit_zero S
theorem ls_no {c : Nat → Nat} {v n : Nat} (hc : CutOK c) (hv : isMin c 0 0 v) (hn : 63 ≤ n) (h : ∀ T, 1 ≤ T → T < n → T % 2 = 1 → cst (mx c) T.testBit ≠ v) : False := by
  obtain ⟨P, hP, e⟩ := hv.1
  have key : ∀ R : Nat → Bool, okP 0 0 R → cst (mx c) R = v → R 0 = true → False := by
    intro R hR eR h0
    have hk := okP_S (by omega) (by omega) hR
    refine h (mk6 R) hk.1 (by have := hk.2.1; omega) ?_ (by rw [cst_mk6]; exact eR)
    have h1 := mk6_tb R 0 (by omega)
    rw [odd_tb, h0, decide_eq_true_eq] at h1
    exact h1
  cases h0 : P 0 with
  | true => exact key P hP e h0
  | false =>
    refine key (fun a => !P a) ⟨?_, ?_, fun a _ h => (by rw [tb_0] at h; cases h), fun a _ h => (by rw [tb_0] at h; cases h)⟩ (by rw [cst_compl hc.1]; exact e) (by simp [h0])
    · obtain ⟨b, hb, h2⟩ := hP.2.1
      exact ⟨b, hb, by simp [h2]⟩
    · obtain ⟨b, hb, h2⟩ := hP.1
      exact ⟨b, hb, by simp [h2]⟩
theorem ls_skip {c : Nat → Nat} {v n : Nat} (h : ∀ T, 1 ≤ T → T < n → T % 2 = 1 → cst (mx c) T.testBit ≠ v) (hn : n % 2 ≠ 1 ∨ cst (mx c) n.testBit ≠ v) : ∀ T, 1 ≤ T → T < n + 1 → T % 2 = 1 → cst (mx c) T.testBit ≠ v := by
  intro T h1 h2 h3
  rcases lt_split h2 with q | rfl
  · exact h T h1 q h3
  · rcases hn with z | z
    · exact absurd h3 z
    · exact z
/-! pairsAtLeast, group -/
theorem palN_1 {c : Nat → Nat} {z : Int32} {k : Nat} (h1 : k / 6 < k % 6) (h2 : ¬ nI (lam c (k / 6) (k % 6)) < z) : palN c z (k + 1) = palN c z k + 1 := by
  show palN c z k + (if k / 6 < k % 6 ∧ ¬ nI (lam c (k / 6) (k % 6)) < z then 1 else 0) = _
  rw [if_pos ⟨h1, h2⟩]
theorem palN_0 {c : Nat → Nat} {z : Int32} {k : Nat} (h : ¬ (k / 6 < k % 6) ∨ nI (lam c (k / 6) (k % 6)) < z) : palN c z (k + 1) = palN c z k := by
  show palN c z k + (if k / 6 < k % 6 ∧ ¬ nI (lam c (k / 6) (k % 6)) < z then 1 else 0) = _
  rw [if_neg (by rintro ⟨a, b⟩; rcases h with q | q; exact q a; exact b q), Nat.add_zero]
def gI (c : Nat → Nat) (a z : Int32) (b M : Nat) : Prop := (∃ i, i < 6 ∧ a = nI i ∧ M < 64 ∧ ∀ q, q < 6 → (M.testBit q = true ↔ q = i ∨ (q < b ∧ q ≠ i ∧ ¬ nI (lam c i q) < z))) ∨ (plc a = false ∧ M = 0)
theorem gI_0 {c : Nat → Nat} {i : Nat} {z : Int32} (hi : i < 6) : gI c (nI i) z 0 (2 ^ i) := by
  refine Or.inl ⟨i, hi, rfl, pow_lt64 hi, fun q _ => ?_⟩
  rw [tb_pow, decide_eq_true_eq]
  constructor
  · intro h; exact Or.inl h.symm
  · rintro (h | h)
    · exact h.symm
    · exact absurd h.1 (by omega)
theorem gI_0n {c : Nat → Nat} {a z : Int32} (h : plc a = false) : gI c a z 0 0 := Or.inr ⟨h, rfl⟩
theorem gI_lt {c : Nat → Nat} {a z : Int32} {b M : Nat} (h : gI c a z b M) : M < 64 := by
  rcases h with ⟨_, _, _, h, _⟩ | ⟨_, rfl⟩
  · exact h
  · omega
theorem gI_skip1 {c : Nat → Nat} {a z : Int32} {b M : Nat} (h : gI c a z b M) (hb : b < 6) (hp : prB a (nI b) = false) : gI c a z (b + 1) M := by
  rcases h with ⟨i, hi, rfl, hM, hq⟩ | h
  · refine Or.inl ⟨i, hi, rfl, hM, fun q h6 => ?_⟩
    rw [hq q h6]
    have hbi : i = b := by
      rcases Nat.decEq i b with z | z
      · rw [prB_nI hi hb z] at hp; cases hp
      · exact z
    constructor
    · rintro (h | ⟨h1, h2, h3⟩)
      · exact Or.inl h
      · exact Or.inr ⟨by omega, h2, h3⟩
    · rintro (h | ⟨h1, h2, h3⟩)
      · exact Or.inl h
      · exact Or.inr ⟨by omega, h2, h3⟩
  · exact Or.inr h
theorem gI_skip2 {c : Nat → Nat} {a z r : Int32} {b M : Nat} (h : gI c a z b M) (hb : b < 6) (hp : prB a (nI b) = true) (hr : betP c a (nI b) r) (hz : r < z) : gI c a z (b + 1) M := by
  rcases h with ⟨i, hi, rfl, hM, hq⟩ | h
  · refine Or.inl ⟨i, hi, rfl, hM, fun q h6 => ?_⟩
    rw [hq q h6]
    have hne : i ≠ b := by
      rintro rfl
      rw [prB_f3 rfl] at hp; cases hp
    have e := betP_lam hi hb hne hr
    subst e
    constructor
    · rintro (h | ⟨h1, h2, h3⟩)
      · exact Or.inl h
      · exact Or.inr ⟨by omega, h2, h3⟩
    · rintro (h | ⟨h1, h2, h3⟩)
      · exact Or.inl h
      · rcases lt_split h1 with w | rfl
        · exact Or.inr ⟨w, h2, h3⟩
        · exact absurd hz h3
  · rw [prB_f1 h.1] at hp; cases hp
theorem gI_in {c : Nat → Nat} {a z r : Int32} {b M : Nat} (h : gI c a z b M) (hb : b < 6) (hp : prB a (nI b) = true) (hr : betP c a (nI b) r) (hz : ¬ r < z) : gI c a z (b + 1) (M ||| 2 ^ b) := by
  rcases h with ⟨i, hi, rfl, hM, hq⟩ | h
  · refine Or.inl ⟨i, hi, rfl, tb_or_lt hM hb, fun q h6 => ?_⟩
    rw [tb_or, Bool.or_eq_true, hq q h6, decide_eq_true_eq]
    have hne : i ≠ b := by
      rintro rfl
      rw [prB_f3 rfl] at hp; cases hp
    have e := betP_lam hi hb hne hr
    subst e
    constructor
    · rintro ((h | ⟨h1, h2, h3⟩) | rfl)
      · exact Or.inl h
      · exact Or.inr ⟨by omega, h2, h3⟩
      · exact Or.inr ⟨by omega, fun w => hne w.symm, hz⟩
    · rintro (h | ⟨h1, h2, h3⟩)
      · exact Or.inl (Or.inl h)
      · rcases lt_split h1 with w | rfl
        · exact Or.inl (Or.inr ⟨w, h2, h3⟩)
        · exact Or.inr rfl
  · rw [prB_f1 h.1] at hp; cases hp
theorem gI_end {c : Nat → Nat} {a z : Int32} {b M : Nat} (h : gI c a z b M) (hb : 6 ≤ b) : grpP c a z (nI M) := by
  rcases h with ⟨i, hi, rfl, hM, hq⟩ | ⟨h, rfl⟩
  · refine Or.inl ⟨i, M, hi, rfl, hM, fun q h6 => ?_, rfl⟩
    rw [hq q h6]
    constructor
    · rintro (h | ⟨h1, h2, h3⟩)
      · exact Or.inl h
      · exact Or.inr h3
    · rintro (h | h)
      · exact Or.inl h
      · rcases Nat.decEq q i with w | w
        · exact Or.inr ⟨by omega, w, h⟩
        · exact Or.inl w
  · exact Or.inr ⟨h, rfl⟩
/-! forced -/
theorem set_of {a : Int32} (h0 : ¬ a < 0) (h : ¬ nI 63 < a) : ∃ I, I < 64 ∧ a = nI I := by
  obtain ⟨w, hw, rfl⟩ := nI_of h0
  refine ⟨w, ?_, rfl⟩
  rcases Nat.lt_or_ge 63 w with q | q
  · exact absurd (nI_lt q hw) h
  · omega
theorem set_of2 {a : Int32} (h0 : ¬ a < 0) (h : a ≤ nI 63) : ∃ I, I < 64 ∧ a = nI I := by
  obtain ⟨w, hw, rfl⟩ := nI_of h0
  have := (nI_leI hw (by omega)).mp h
  exact ⟨w, by omega, rfl⟩
theorem forP_f {c : Nat → Nat} {a b : Int32} (h : a < 0 ∨ nI 63 < a ∨ b < 0 ∨ ¬ b ≤ nI 63) : forP c a b (-1) := by
  refine Or.inr ⟨fun I O hI hO => ?_, rfl⟩
  rintro ⟨rfl, rfl⟩
  rcases h with h | h | h | h
  · exact nI_pos (by omega) h
  · exact nI_nlt (by omega : I ≤ 63) (by omega) h
  · exact nI_pos (by omega) h
  · exact h (nI_le (by omega) (by omega))
end
section
set_option maxRecDepth 100000
set_option maxHeartbeats 4000000 in
set_option maxRecDepth 100000 in
theorem met_cheapest (l : Launch) (D : va_G) (dA dB : ClassId) (g : Nat → Nat) (cap : Nat → Nat) (hc : CutOK cap) (i j : Nat) (hi : i < 64) (hj : j < 64) : Met l yX1_cheapest (ws_ yX1_cheapest cX1_cheapest 6 (some .int)) (rmL 1) (va_Pc [.ref (g 0), .int (nI i), .int (nI j)] (mdU D dA dB g cap)) (vp_Si (cheP cap i j)) 0 0 (fun _ => False) := by
  refine ro_meti (own := RX1) (by decide) rfl (Nat.le_of_ble_eq_true rfl) ?_
  intro p e s m args below meth c Q ls G hU hret hl
  have I : mdI D dA dB g (fun _ => True) s s.heap [] cap := ⟨hU.1, hU.2.1, hU.2.2, va_S.rf⟩
  have hl : lv_has ls 6 [(0, .ref (g 0)), (1, .int (nI i)), (2, .int (nI j))] := hl
  have hcst : ∀ S, cst (mx cap) (Nat.testBit S) < 2 ^ 31 := fun S => by have := CutOK_cst hc (Nat.testBit S); omega
  have loop : ∀ n k z, 1 ≤ k → k ≤ 63 → 64 ≤ k + n → chI cap i j k z → ∀ (ls : Array Slot), lv_has ls 6 [(0, .ref (g 0)), (1, .int (nI i)), (2, .int (nI j)), (3, .int z), (4, .int (nI k))] → W p l e (rmL 1) s m args below meth c s.heap [] 0 0 Q (F0 m 5 ls []) := by
    intro n
    induction n with
    | zero =>
      intro k z h1 h2 h3
      exact absurd h3 (by omega)
    | succ n ih =>
      intro k z h1 hk hn hI ls hl
      refine lv_iload G.1 G.2.1 dX1_cheapest_5 (lv_at hl 4 rfl) ?_
      refine n_bipush (a := 62) G dX1_cheapest_7 (by decide) ?_
      refine n_icmp_gt (tgt := 59) G dX1_cheapest_9 (by decide) (by omega) (by omega) (fun c_9 => ?_) (fun c_9 => ?_)
      · refine lv_iload_n G.1 G.2.1 dX1_cheapest_59 rfl (lv_at hl 3 rfl) ?_
        exact hret _ _ _ dX1_cheapest_60 (chI_end hi hj (by omega) hI)
      · have hand : i &&& (63 ^^^ k) < 64 := and_lt64 hi
        have hand2 : j &&& k < 64 := and_lt64 hj
        refine lv_iload_n G.1 G.2.1 dX1_cheapest_12 rfl (lv_at hl 1 rfl) ?_
        refine lv_iload G.1 G.2.1 dX1_cheapest_13 (lv_at hl 4 rfl) ?_
        refine lv_iconst (v := -1) G.1 G.2.1 dX1_cheapest_15 (by decide) ?_
        refine lv_ixor G.1 G.2.1 dX1_cheapest_16 ?_
        refine n_iandn G hi (by omega) dX1_cheapest_17 ?_
        refine n_ifneN (tgt := 53) G (by omega) dX1_cheapest_18 (by decide) (fun c_18 => ?_) (fun c_18 => ?_)
        · refine n_iinc (b := 1) (lv' := [(4, .int (nI (k + 1))), (0, .ref (g 0)), (1, .int (nI i)), (2, .int (nI j)), (3, .int z)]) G dX1_cheapest_53 hl (q := 4) rfl (by decide) (by decide) rfl (fun ls hl => ?_)
          refine lv_goto (tgt := 5) G.1 G.2.1 dX1_cheapest_56 (by decide) ?_
          refine ih (k + 1) _ (by omega) (by omega) (by omega) (by first | exact chI_skip hI (fun q => c_18 q.2.2.1) | exact chI_skip hI (fun q => c_25 q.2.2.2) | exact chI_c hc hI c_37 c_43) ls (lv_sub hl [1, 2, 3, 4, 0] rfl)
        · refine lv_iload_n G.1 G.2.1 dX1_cheapest_21 rfl (lv_at hl 2 rfl) ?_
          refine lv_iload G.1 G.2.1 dX1_cheapest_22 (lv_at hl 4 rfl) ?_
          refine n_iand G dX1_cheapest_24 ?_
          refine n_ifneN (tgt := 53) G (by omega) dX1_cheapest_25 (by decide) (fun c_25 => ?_) (fun c_25 => ?_)
          · refine n_iinc (b := 1) (lv' := [(4, .int (nI (k + 1))), (0, .ref (g 0)), (1, .int (nI i)), (2, .int (nI j)), (3, .int z)]) G dX1_cheapest_53 hl (q := 4) rfl (by decide) (by decide) rfl (fun ls hl => ?_)
            refine lv_goto (tgt := 5) G.1 G.2.1 dX1_cheapest_56 (by decide) ?_
            refine ih (k + 1) _ (by omega) (by omega) (by omega) (by first | exact chI_skip hI (fun q => c_18 q.2.2.1) | exact chI_skip hI (fun q => c_25 q.2.2.2) | exact chI_c hc hI c_37 c_43) ls (lv_sub hl [1, 2, 3, 4, 0] rfl)
          · refine lv_aload_n G.1 G.2.1 dX1_cheapest_28 rfl (lv_at hl 0 rfl) ?_
            refine lv_iload G.1 G.2.1 dX1_cheapest_29 (lv_at hl 4 rfl) ?_
            refine md_ro (rest := []) G I (met_costOf l D dA dB g cap k (by omega)) cw_costOf (by decide) rfl hl.1 (Nat.le_of_ble_eq_true rfl) rfl dX1_cheapest_31 (fun r_31 hr_31 => ?_)
            subst hr_31
            refine lv_istore (lv' := [(5, .int (nI (cst (mx cap) (Nat.testBit k)))), (0, .ref (g 0)), (1, .int (nI i)), (2, .int (nI j)), (3, .int z), (4, .int (nI k))]) G.1 G.2.1 dX1_cheapest_34 hl (by decide) rfl (fun ls hl => ?_)
            refine lv_iload_n G.1 G.2.1 dX1_cheapest_36 rfl (lv_at hl 4 rfl) ?_
            refine lv_if_lt (tgt := 46) G.1 G.2.1 dX1_cheapest_37 (by decide) (fun c_37 => ?_) (fun c_37 => ?_)
            · refine lv_iload G.1 G.2.1 dX1_cheapest_46 (lv_at hl 0 rfl) ?_
              refine lv_goto (tgt := 52) G.1 G.2.1 dX1_cheapest_48 (by decide) ?_
              refine lv_istore_n (lv' := [(3, .int (nI (cst (mx cap) (Nat.testBit k)))), (5, .int (nI (cst (mx cap) (Nat.testBit k)))), (0, .ref (g 0)), (1, .int (nI i)), (2, .int (nI j)), (4, .int (nI k))]) G.1 G.2.1 dX1_cheapest_52 rfl hl (by decide) rfl (fun ls hl => ?_)
              refine n_iinc (b := 1) (lv' := [(4, .int (nI (k + 1))), (3, .int (nI (cst (mx cap) (Nat.testBit k)))), (5, .int (nI (cst (mx cap) (Nat.testBit k)))), (0, .ref (g 0)), (1, .int (nI i)), (2, .int (nI j))]) G dX1_cheapest_53 hl (q := 5) rfl (by decide) (by decide) rfl (fun ls hl => ?_)
              refine lv_goto (tgt := 5) G.1 G.2.1 dX1_cheapest_56 (by decide) ?_
              refine ih (k + 1) _ (by omega) (by omega) (by omega) (by first | exact chI_a hc hI ⟨h1, by omega, c_18, c_25⟩ c_37 | exact chI_b hc hI ⟨h1, by omega, c_18, c_25⟩ c_37 c_43) ls (lv_sub hl [3, 4, 5, 1, 0] rfl)
            · refine lv_iload G.1 G.2.1 dX1_cheapest_40 (lv_at hl 0 rfl) ?_
              refine lv_iload_n G.1 G.2.1 dX1_cheapest_42 rfl (lv_at hl 4 rfl) ?_
              refine lv_icmp_ge (tgt := 51) G.1 G.2.1 dX1_cheapest_43 (by decide) (fun c_43 => ?_) (fun c_43 => ?_)
              · refine lv_iload_n G.1 G.2.1 dX1_cheapest_51 rfl (lv_at hl 4 rfl) ?_
                refine lv_istore_n (lv' := [(3, .int z), (5, .int (nI (cst (mx cap) (Nat.testBit k)))), (0, .ref (g 0)), (1, .int (nI i)), (2, .int (nI j)), (4, .int (nI k))]) G.1 G.2.1 dX1_cheapest_52 rfl hl (by decide) rfl (fun ls hl => ?_)
                refine n_iinc (b := 1) (lv' := [(4, .int (nI (k + 1))), (3, .int z), (5, .int (nI (cst (mx cap) (Nat.testBit k)))), (0, .ref (g 0)), (1, .int (nI i)), (2, .int (nI j))]) G dX1_cheapest_53 hl (q := 5) rfl (by decide) (by decide) rfl (fun ls hl => ?_)
                refine lv_goto (tgt := 5) G.1 G.2.1 dX1_cheapest_56 (by decide) ?_
                refine ih (k + 1) _ (by omega) (by omega) (by omega) (by first | exact chI_skip hI (fun q => c_18 q.2.2.1) | exact chI_skip hI (fun q => c_25 q.2.2.2) | exact chI_c hc hI c_37 c_43) ls (lv_sub hl [3, 4, 5, 1, 0] rfl)
              · refine lv_iload G.1 G.2.1 dX1_cheapest_46 (lv_at hl 0 rfl) ?_
                refine lv_goto (tgt := 52) G.1 G.2.1 dX1_cheapest_48 (by decide) ?_
                refine lv_istore_n (lv' := [(3, .int (nI (cst (mx cap) (Nat.testBit k)))), (5, .int (nI (cst (mx cap) (Nat.testBit k)))), (0, .ref (g 0)), (1, .int (nI i)), (2, .int (nI j)), (4, .int (nI k))]) G.1 G.2.1 dX1_cheapest_52 rfl hl (by decide) rfl (fun ls hl => ?_)
                refine n_iinc (b := 1) (lv' := [(4, .int (nI (k + 1))), (3, .int (nI (cst (mx cap) (Nat.testBit k)))), (5, .int (nI (cst (mx cap) (Nat.testBit k)))), (0, .ref (g 0)), (1, .int (nI i)), (2, .int (nI j))]) G dX1_cheapest_53 hl (q := 5) rfl (by decide) (by decide) rfl (fun ls hl => ?_)
                refine lv_goto (tgt := 5) G.1 G.2.1 dX1_cheapest_56 (by decide) ?_
                refine ih (k + 1) _ (by omega) (by omega) (by omega) (by first | exact chI_a hc hI ⟨h1, by omega, c_18, c_25⟩ c_37 | exact chI_b hc hI ⟨h1, by omega, c_18, c_25⟩ c_37 c_43) ls (lv_sub hl [3, 4, 5, 1, 0] rfl)
  refine lv_iconst (v := -1) G.1 G.2.1 dX1_cheapest_0 (by decide) ?_
  refine lv_istore_n (lv' := [(3, .int (-1)), (0, .ref (g 0)), (1, .int (nI i)), (2, .int (nI j))]) G.1 G.2.1 dX1_cheapest_1 rfl hl (by decide) rfl (fun ls hl => ?_)
  refine n_iconst (a := 1) G dX1_cheapest_2 (by decide) ?_
  refine lv_istore (lv' := [(4, .int (nI 1)), (3, .int (-1)), (0, .ref (g 0)), (1, .int (nI i)), (2, .int (nI j))]) G.1 G.2.1 dX1_cheapest_3 hl (by decide) rfl (fun ls hl => ?_)
  exact loop 63 1 _ (by omega) (by omega) (by omega) (chI_0 cap i j) ls (lv_sub hl [2, 3, 4, 1, 0] rfl)
set_option maxHeartbeats 4000000 in
set_option maxRecDepth 100000 in
theorem met_mleast (l : Launch) (D : va_G) (dA dB : ClassId) (g : Nat → Nat) (cap : Nat → Nat) (hc : CutOK cap) : Met l yX1_least (ws_ yX1_least cX1_least 1 (some .int)) (rmL 2) (va_Pc [.ref (g 0)] (mdU D dA dB g cap)) (vp_Si (leaP cap)) 0 0 (fun _ => False) := by
  refine ro_meti (own := RX1) (by decide) rfl (Nat.le_of_ble_eq_true rfl) ?_
  intro p e s m args below meth c Q ls G hU hret hl
  have I : mdI D dA dB g (fun _ => True) s s.heap [] cap := ⟨hU.1, hU.2.1, hU.2.2, va_S.rf⟩
  have hl : lv_has ls 1 [(0, .ref (g 0))] := hl
  refine lv_aload_n G.1 G.2.1 dX1_least_0 rfl (lv_at hl 0 rfl) ?_
  refine n_iconst (a := 0) G dX1_least_1 (by decide) ?_
  refine n_iconst (a := 0) G dX1_least_2 (by decide) ?_
  refine md_ro (rest := []) G I (met_cheapest l D dA dB g cap hc 0 0 (by omega) (by omega)) cw_cheapest (by decide) rfl hl.1 (Nat.le_of_ble_eq_true rfl) rfl dX1_least_3 (fun r_3 hr_3 => ?_)
  exact hret _ _ _ dX1_least_6 (cheP_min hr_3 okP_00)
set_option maxHeartbeats 4000000 in
set_option maxRecDepth 100000 in
theorem met_mleastSide (l : Launch) (D : va_G) (dA dB : ClassId) (g : Nat → Nat) (cap : Nat → Nat) (hc : CutOK cap) : Met l yX1_leastSide (ws_ yX1_leastSide cX1_leastSide 3 (some .int)) (rmL 2) (va_Pc [.ref (g 0)] (mdU D dA dB g cap)) (vp_Si (lsdP cap)) 0 0 (fun _ => False) := by
  refine ro_meti (own := RX1) (by decide) rfl (Nat.le_of_ble_eq_true rfl) ?_
  intro p e s m args below meth c Q ls G hU hret hl
  have I : mdI D dA dB g (fun _ => True) s s.heap [] cap := ⟨hU.1, hU.2.1, hU.2.2, va_S.rf⟩
  have hl : lv_has ls 3 [(0, .ref (g 0))] := hl
  have hcst : ∀ S, cst (mx cap) (Nat.testBit S) < 2 ^ 31 := fun S => by have := CutOK_cst hc (Nat.testBit S); omega
  have loop : ∀ v, isMin cap 0 0 v → v ≤ 1116 → ∀ n k, 1 ≤ k → k ≤ 63 → 64 ≤ k + n → (∀ T, 1 ≤ T → T < k → T % 2 = 1 → cst (mx cap) T.testBit ≠ v) → ∀ (ls : Array Slot), lv_has ls 3 [(0, .ref (g 0)), (1, .int (nI v)), (2, .int (nI k))] → W p l e (rmL 2) s m args below meth c s.heap [] 0 0 Q (F0 m 9 ls []) := by
    intro v hv hvb n
    induction n with
    | zero =>
      intro k h1 h2 h3
      exact absurd h3 (by omega)
    | succ n ih =>
      intro k h1 hk hn hI ls hl
      refine lv_iload_n G.1 G.2.1 dX1_leastSide_9 rfl (lv_at hl 2 rfl) ?_
      refine n_bipush (a := 62) G dX1_leastSide_10 (by decide) ?_
      refine n_icmp_gt (tgt := 39) G dX1_leastSide_12 (by decide) (by omega) (by omega) (fun c_12 => ?_) (fun c_12 => ?_)
      · refine n_iconst (a := 0) G dX1_leastSide_39 (by decide) ?_
        exact (ls_no hc hv (by omega) hI).elim
      · refine lv_iload_n G.1 G.2.1 dX1_leastSide_15 rfl (lv_at hl 2 rfl) ?_
        refine n_iconst (a := 1) G dX1_leastSide_16 (by decide) ?_
        refine n_iand1 G dX1_leastSide_17 ?_
        refine n_iconst (a := 1) G dX1_leastSide_18 (by decide) ?_
        refine n_icmp_ne (tgt := 33) G dX1_leastSide_19 (by decide) (by omega) (by omega) (fun c_19 => ?_) (fun c_19 => ?_)
        · refine n_iinc (b := 1) (lv' := [(2, .int (nI (k + 1))), (0, .ref (g 0)), (1, .int (nI v))]) G dX1_leastSide_33 hl (q := 2) rfl (by decide) (by decide) rfl (fun ls hl => ?_)
          refine lv_goto (tgt := 9) G.1 G.2.1 dX1_leastSide_36 (by decide) ?_
          refine ih (k + 1) (by omega) (by omega) (by omega) (ls_skip hI (by first | exact Or.inl c_19 | exact Or.inr c_28)) ls (lv_sub hl [1, 2, 0] rfl)
        · refine lv_aload_n G.1 G.2.1 dX1_leastSide_22 rfl (lv_at hl 0 rfl) ?_
          refine lv_iload_n G.1 G.2.1 dX1_leastSide_23 rfl (lv_at hl 2 rfl) ?_
          refine md_ro (rest := []) G I (met_costOf l D dA dB g cap k (by omega)) cw_costOf (by decide) rfl hl.1 (Nat.le_of_ble_eq_true rfl) rfl dX1_leastSide_24 (fun r_24 hr_24 => ?_)
          subst hr_24
          refine lv_iload_n G.1 G.2.1 dX1_leastSide_27 rfl (lv_at hl 1 rfl) ?_
          refine n_icmp_ne (tgt := 33) G dX1_leastSide_28 (by decide) (hcst _) (by omega) (fun c_28 => ?_) (fun c_28 => ?_)
          · refine n_iinc (b := 1) (lv' := [(2, .int (nI (k + 1))), (0, .ref (g 0)), (1, .int (nI v))]) G dX1_leastSide_33 hl (q := 2) rfl (by decide) (by decide) rfl (fun ls hl => ?_)
            refine lv_goto (tgt := 9) G.1 G.2.1 dX1_leastSide_36 (by decide) ?_
            refine ih (k + 1) (by omega) (by omega) (by omega) (ls_skip hI (by first | exact Or.inl c_19 | exact Or.inr c_28)) ls (lv_sub hl [1, 2, 0] rfl)
          · refine lv_iload_n G.1 G.2.1 dX1_leastSide_31 rfl (lv_at hl 2 rfl) ?_
            exact hret _ _ _ dX1_leastSide_32 ⟨v, k, hv, h1, by omega, c_19, c_28, hI, rfl⟩
  refine lv_aload_n G.1 G.2.1 dX1_leastSide_0 rfl (lv_at hl 0 rfl) ?_
  refine n_iconst (a := 0) G dX1_leastSide_1 (by decide) ?_
  refine n_iconst (a := 0) G dX1_leastSide_2 (by decide) ?_
  refine md_ro (rest := []) G I (met_cheapest l D dA dB g cap hc 0 0 (by omega) (by omega)) cw_cheapest (by decide) rfl hl.1 (Nat.le_of_ble_eq_true rfl) rfl dX1_leastSide_3 (fun r_3 hr_3 => ?_)
  obtain ⟨v, hv, rfl⟩ := cheP_min hr_3 okP_00
  refine lv_istore_n (lv' := [(1, .int (nI v)), (0, .ref (g 0))]) G.1 G.2.1 dX1_leastSide_6 rfl hl (by decide) rfl (fun ls hl => ?_)
  refine n_iconst (a := 1) G dX1_leastSide_7 (by decide) ?_
  refine lv_istore_n (lv' := [(2, .int (nI 1)), (1, .int (nI v)), (0, .ref (g 0))]) G.1 G.2.1 dX1_leastSide_8 rfl hl (by decide) rfl (fun ls hl => ?_)
  exact loop v hv (isMin_le hc hv) 63 1 (by omega) (by omega) (by omega) (fun T a b => absurd b (by omega)) ls (lv_sub hl [2, 1, 0] rfl)
set_option maxHeartbeats 4000000 in
set_option maxRecDepth 100000 in
theorem met_mbetween (l : Launch) (D : va_G) (dA dB : ClassId) (g : Nat → Nat) (cap : Nat → Nat) (hc : CutOK cap) (a b : Int32) : Met l yX1_between (ws_ yX1_between cX1_between 3 (some .int)) (rmL 2) (va_Pc [.ref (g 0), .int a, .int b] (mdU D dA dB g cap)) (vp_Si (betP cap a b)) 0 0 (fun _ => False) := by
  refine ro_meti (own := RX1) (by decide) rfl (Nat.le_of_ble_eq_true rfl) ?_
  intro p e s m args below meth c Q ls G hU hret hl
  have I : mdI D dA dB g (fun _ => True) s s.heap [] cap := ⟨hU.1, hU.2.1, hU.2.2, va_S.rf⟩
  have hl : lv_has ls 3 [(0, .ref (g 0)), (1, .int a), (2, .int b)] := hl
  refine lv_aload_n G.1 G.2.1 dX1_between_0 rfl (lv_at hl 0 rfl) ?_
  refine lv_iload_n G.1 G.2.1 dX1_between_1 rfl (lv_at hl 1 rfl) ?_
  refine lv_iload_n G.1 G.2.1 dX1_between_2 rfl (lv_at hl 2 rfl) ?_
  refine md_ro (rest := []) G I (met_mpair l D dA dB g cap a b) cw_mpair (by decide) rfl hl.1 (Nat.le_of_ble_eq_true rfl) rfl dX1_between_3 (fun r_3 hr_3 => ?_)
  subst hr_3
  refine n_ifeq (tgt := 22) G dX1_between_6 (by decide) (fun c_6 => ?_) (fun c_6 => ?_)
  · refine lv_iconst (v := -1) G.1 G.2.1 dX1_between_22 (by decide) ?_
    exact hret _ _ _ dX1_between_23 (Or.inr ⟨c_6, rfl⟩)
  · obtain ⟨i, j, hi, hj, hne, rfl, rfl⟩ := prB_of c_6
    refine lv_aload_n G.1 G.2.1 dX1_between_9 rfl (lv_at hl 0 rfl) ?_
    refine n_iconst (a := 1) G dX1_between_10 (by decide) ?_
    refine lv_iload_n G.1 G.2.1 dX1_between_11 rfl (lv_at hl 1 rfl) ?_
    refine n_ishl G (by omega) dX1_between_12 ?_
    refine n_iconst (a := 1) G dX1_between_13 (by decide) ?_
    refine lv_iload_n G.1 G.2.1 dX1_between_14 rfl (lv_at hl 2 rfl) ?_
    refine n_ishl G (by omega) dX1_between_15 ?_
    refine md_ro (rest := []) G I (met_cheapest l D dA dB g cap hc (2 ^ i) (2 ^ j) (pow_lt64 hi) (pow_lt64 hj)) cw_cheapest (by decide) rfl hl.1 (Nat.le_of_ble_eq_true rfl) rfl dX1_between_16 (fun r_16 hr_16 => ?_)
    refine lv_goto (tgt := 23) G.1 G.2.1 dX1_between_19 (by decide) ?_
    obtain ⟨v, hv, rfl⟩ := cheP_min hr_16 (okP_pair hi hj hne)
    exact hret _ _ _ dX1_between_23 (Or.inl ⟨i, j, v, hi, hj, hne, rfl, rfl, hv, rfl⟩)
set_option maxHeartbeats 4000000 in
set_option maxRecDepth 100000 in
theorem met_mcore (l : Launch) (D : va_G) (dA dB : ClassId) (g : Nat → Nat) (cap : Nat → Nat) (hc : CutOK cap) (a b : Int32) : Met l yX1_core (ws_ yX1_core cX1_core 6 (some .int)) (rmL 3) (va_Pc [.ref (g 0), .int a, .int b] (mdU D dA dB g cap)) (vp_Si (corP cap a b)) 0 0 (fun _ => False) := by
  refine ro_meti (own := RX1) (by decide) rfl (Nat.le_of_ble_eq_true rfl) ?_
  intro p e s m args below meth c Q ls G hU hret hl
  have I : mdI D dA dB g (fun _ => True) s s.heap [] cap := ⟨hU.1, hU.2.1, hU.2.2, va_S.rf⟩
  have hl : lv_has ls 6 [(0, .ref (g 0)), (1, .int a), (2, .int b)] := hl
  have hcst : ∀ S, cst (mx cap) (Nat.testBit S) < 2 ^ 31 := fun S => by have := CutOK_cst hc (Nat.testBit S); omega
  have loop : ∀ i j, a = nI i → b = nI j → i < 6 → j < 6 → i ≠ j → ∀ n k M, 1 ≤ k → k ≤ 63 → 64 ≤ k + n → coI cap i j k M → ∀ (ls : Array Slot), lv_has ls 6 [(0, .ref (g 0)), (1, .int (nI i)), (2, .int (nI j)), (3, .int (nI M)), (4, .int (nI k))] → W p l e (rmL 3) s m args below meth c s.heap [] 0 0 Q (F0 m 19 ls []) := by
    intro i j ea eb hi hj hne n
    induction n with
    | zero =>
      intro k M h1 h2 h3
      exact absurd h3 (by omega)
    | succ n ih =>
      intro k M h1 hk hn hI ls hl
      have hlam : lam cap i j < 2 ^ 31 := by have := lam_le hc hi hj hne; omega
      refine lv_iload G.1 G.2.1 dX1_core_19 (lv_at hl 4 rfl) ?_
      refine n_bipush (a := 62) G dX1_core_21 (by decide) ?_
      refine n_icmp_gt (tgt := 96) G dX1_core_23 (by decide) (by omega) (by omega) (fun c_23 => ?_) (fun c_23 => ?_)
      · refine lv_iload_n G.1 G.2.1 dX1_core_96 rfl (lv_at hl 3 rfl) ?_
        rw [ea, eb] at hret
        exact hret _ _ _ dX1_core_97 (co_end hi hj hne (by omega) hI)
      · refine lv_aload_n G.1 G.2.1 dX1_core_26 rfl (lv_at hl 0 rfl) ?_
        refine lv_iload_n G.1 G.2.1 dX1_core_27 rfl (lv_at hl 1 rfl) ?_
        refine lv_iload_n G.1 G.2.1 dX1_core_28 rfl (lv_at hl 2 rfl) ?_
        refine md_ro (rest := []) G I (met_mpair l D dA dB g cap (nI i) (nI j)) cw_mpair (by decide) rfl hl.1 (Nat.le_of_ble_eq_true rfl) rfl dX1_core_29 (fun r_29 hr_29 => ?_)
        subst hr_29
        refine n_ifeq (tgt := 96) G dX1_core_32 (by decide) (fun c_32 => ?_) (fun c_32 => ?_)
        · exact absurd (prB_nI hi hj hne) (by rw [c_32]; decide)
        · refine lv_iload G.1 G.2.1 dX1_core_35 (lv_at hl 4 rfl) ?_
          refine lv_iload_n G.1 G.2.1 dX1_core_37 rfl (lv_at hl 1 rfl) ?_
          refine lv_ishr G.1 G.2.1 dX1_core_38 ?_
          refine n_iconst (a := 1) G dX1_core_39 (by decide) ?_
          refine lv_iand G.1 G.2.1 dX1_core_40 ?_
          rw [nx_bit (by omega) (by omega)]
          refine n_iconst (a := 1) G dX1_core_41 (by decide) ?_
          refine n_bne1 (tgt := 73) G dX1_core_42 (by decide) (fun c_42 => ?_) (fun c_42 => ?_)
          · refine n_iconst (a := 0) G dX1_core_73 (by decide) ?_
            refine lv_istore (lv' := [(5, .int (nI 0)), (0, .ref (g 0)), (1, .int (nI i)), (2, .int (nI j)), (3, .int (nI M)), (4, .int (nI k))]) G.1 G.2.1 dX1_core_74 hl (by decide) rfl (fun ls hl => ?_)
            refine lv_iload G.1 G.2.1 dX1_core_76 (lv_at hl 0 rfl) ?_
            refine n_ifeqN (tgt := 88) G (by omega) dX1_core_78 (by decide) (fun c_78 => ?_) (fun c_78 => ?_)
            · refine lv_iload_n G.1 G.2.1 dX1_core_88 rfl (lv_at hl 4 rfl) ?_
              refine lv_istore_n (lv' := [(3, .int (nI M)), (5, .int (nI 0)), (0, .ref (g 0)), (1, .int (nI i)), (2, .int (nI j)), (4, .int (nI k))]) G.1 G.2.1 dX1_core_89 rfl hl (by decide) rfl (fun ls hl => ?_)
              refine n_iinc (b := 1) (lv' := [(4, .int (nI (k + 1))), (3, .int (nI M)), (5, .int (nI 0)), (0, .ref (g 0)), (1, .int (nI i)), (2, .int (nI j))]) G dX1_core_90 hl (q := 5) rfl (by decide) (by decide) rfl (fun ls hl => ?_)
              refine lv_goto (tgt := 19) G.1 G.2.1 dX1_core_93 (by decide) ?_
              refine ih (k + 1) _ (by omega) (by omega) (by omega) (by first | exact co_out hI (fun q => absurd q.1 (by rw [c_42]; decide)) | exact co_out hI (fun q => absurd q.2.1 (by rw [c_51]; decide)) | exact co_out hI (fun q => c_66 q.2.2)) ls (lv_sub hl [3, 4, 5, 1, 0] rfl)
            · exact absurd c_78 (by decide)
          · refine lv_iload G.1 G.2.1 dX1_core_45 (lv_at hl 4 rfl) ?_
            refine lv_iload_n G.1 G.2.1 dX1_core_47 rfl (lv_at hl 2 rfl) ?_
            refine lv_ishr G.1 G.2.1 dX1_core_48 ?_
            refine n_iconst (a := 1) G dX1_core_49 (by decide) ?_
            refine lv_iand G.1 G.2.1 dX1_core_50 ?_
            rw [nx_bit (by omega) (by omega)]
            refine n_ifne (tgt := 73) G dX1_core_51 (by decide) (fun c_51 => ?_) (fun c_51 => ?_)
            · refine n_iconst (a := 0) G dX1_core_73 (by decide) ?_
              refine lv_istore (lv' := [(5, .int (nI 0)), (0, .ref (g 0)), (1, .int (nI i)), (2, .int (nI j)), (3, .int (nI M)), (4, .int (nI k))]) G.1 G.2.1 dX1_core_74 hl (by decide) rfl (fun ls hl => ?_)
              refine lv_iload G.1 G.2.1 dX1_core_76 (lv_at hl 0 rfl) ?_
              refine n_ifeqN (tgt := 88) G (by omega) dX1_core_78 (by decide) (fun c_78 => ?_) (fun c_78 => ?_)
              · refine lv_iload_n G.1 G.2.1 dX1_core_88 rfl (lv_at hl 4 rfl) ?_
                refine lv_istore_n (lv' := [(3, .int (nI M)), (5, .int (nI 0)), (0, .ref (g 0)), (1, .int (nI i)), (2, .int (nI j)), (4, .int (nI k))]) G.1 G.2.1 dX1_core_89 rfl hl (by decide) rfl (fun ls hl => ?_)
                refine n_iinc (b := 1) (lv' := [(4, .int (nI (k + 1))), (3, .int (nI M)), (5, .int (nI 0)), (0, .ref (g 0)), (1, .int (nI i)), (2, .int (nI j))]) G dX1_core_90 hl (q := 5) rfl (by decide) (by decide) rfl (fun ls hl => ?_)
                refine lv_goto (tgt := 19) G.1 G.2.1 dX1_core_93 (by decide) ?_
                refine ih (k + 1) _ (by omega) (by omega) (by omega) (by first | exact co_out hI (fun q => absurd q.1 (by rw [c_42]; decide)) | exact co_out hI (fun q => absurd q.2.1 (by rw [c_51]; decide)) | exact co_out hI (fun q => c_66 q.2.2)) ls (lv_sub hl [3, 4, 5, 1, 0] rfl)
              · exact absurd c_78 (by decide)
            · refine lv_aload_n G.1 G.2.1 dX1_core_54 rfl (lv_at hl 0 rfl) ?_
              refine lv_iload G.1 G.2.1 dX1_core_55 (lv_at hl 4 rfl) ?_
              refine md_ro (rest := []) G I (met_costOf l D dA dB g cap k (by omega)) cw_costOf (by decide) rfl hl.1 (Nat.le_of_ble_eq_true rfl) rfl dX1_core_57 (fun r_57 hr_57 => ?_)
              subst hr_57
              refine lv_aload_n G.1 G.2.1 dX1_core_60 rfl (lv_at hl 0 rfl) ?_
              refine lv_iload_n G.1 G.2.1 dX1_core_61 rfl (lv_at hl 1 rfl) ?_
              refine lv_iload_n G.1 G.2.1 dX1_core_62 rfl (lv_at hl 2 rfl) ?_
              refine md_ro (rest := [.int (nI (cst (mx cap) (Nat.testBit k)))]) G I (met_mbetween l D dA dB g cap hc (nI i) (nI j)) cw_mbetween (by decide) rfl hl.1 (Nat.le_of_ble_eq_true rfl) rfl dX1_core_63 (fun r_63 hr_63 => ?_)
              obtain rfl := betP_lam hi hj hne hr_63
              refine n_icmp_ne (tgt := 73) G dX1_core_66 (by decide) (hcst _) hlam (fun c_66 => ?_) (fun c_66 => ?_)
              · refine n_iconst (a := 0) G dX1_core_73 (by decide) ?_
                refine lv_istore (lv' := [(5, .int (nI 0)), (0, .ref (g 0)), (1, .int (nI i)), (2, .int (nI j)), (3, .int (nI M)), (4, .int (nI k))]) G.1 G.2.1 dX1_core_74 hl (by decide) rfl (fun ls hl => ?_)
                refine lv_iload G.1 G.2.1 dX1_core_76 (lv_at hl 0 rfl) ?_
                refine n_ifeqN (tgt := 88) G (by omega) dX1_core_78 (by decide) (fun c_78 => ?_) (fun c_78 => ?_)
                · refine lv_iload_n G.1 G.2.1 dX1_core_88 rfl (lv_at hl 4 rfl) ?_
                  refine lv_istore_n (lv' := [(3, .int (nI M)), (5, .int (nI 0)), (0, .ref (g 0)), (1, .int (nI i)), (2, .int (nI j)), (4, .int (nI k))]) G.1 G.2.1 dX1_core_89 rfl hl (by decide) rfl (fun ls hl => ?_)
                  refine n_iinc (b := 1) (lv' := [(4, .int (nI (k + 1))), (3, .int (nI M)), (5, .int (nI 0)), (0, .ref (g 0)), (1, .int (nI i)), (2, .int (nI j))]) G dX1_core_90 hl (q := 5) rfl (by decide) (by decide) rfl (fun ls hl => ?_)
                  refine lv_goto (tgt := 19) G.1 G.2.1 dX1_core_93 (by decide) ?_
                  refine ih (k + 1) _ (by omega) (by omega) (by omega) (by first | exact co_out hI (fun q => absurd q.1 (by rw [c_42]; decide)) | exact co_out hI (fun q => absurd q.2.1 (by rw [c_51]; decide)) | exact co_out hI (fun q => c_66 q.2.2)) ls (lv_sub hl [3, 4, 5, 1, 0] rfl)
                · exact absurd c_78 (by decide)
              · refine n_iconst (a := 1) G dX1_core_69 (by decide) ?_
                refine lv_goto (tgt := 74) G.1 G.2.1 dX1_core_70 (by decide) ?_
                refine lv_istore (lv' := [(5, .int (nI 1)), (0, .ref (g 0)), (1, .int (nI i)), (2, .int (nI j)), (3, .int (nI M)), (4, .int (nI k))]) G.1 G.2.1 dX1_core_74 hl (by decide) rfl (fun ls hl => ?_)
                refine lv_iload G.1 G.2.1 dX1_core_76 (lv_at hl 0 rfl) ?_
                refine n_ifeqN (tgt := 88) G (by omega) dX1_core_78 (by decide) (fun c_78 => ?_) (fun c_78 => ?_)
                · exact absurd c_78 (by decide)
                · refine lv_iload_n G.1 G.2.1 dX1_core_81 rfl (lv_at hl 4 rfl) ?_
                  refine lv_iload G.1 G.2.1 dX1_core_82 (lv_at hl 5 rfl) ?_
                  refine n_iand G dX1_core_84 ?_
                  refine lv_goto (tgt := 89) G.1 G.2.1 dX1_core_85 (by decide) ?_
                  refine lv_istore_n (lv' := [(3, .int (nI (M &&& k))), (5, .int (nI 1)), (0, .ref (g 0)), (1, .int (nI i)), (2, .int (nI j)), (4, .int (nI k))]) G.1 G.2.1 dX1_core_89 rfl hl (by decide) rfl (fun ls hl => ?_)
                  refine n_iinc (b := 1) (lv' := [(4, .int (nI (k + 1))), (3, .int (nI (M &&& k))), (5, .int (nI 1)), (0, .ref (g 0)), (1, .int (nI i)), (2, .int (nI j))]) G dX1_core_90 hl (q := 5) rfl (by decide) (by decide) rfl (fun ls hl => ?_)
                  refine lv_goto (tgt := 19) G.1 G.2.1 dX1_core_93 (by decide) ?_
                  refine ih (k + 1) _ (by omega) (by omega) (by omega) (by exact co_in hI h1 ⟨c_42, c_51, c_66⟩) ls (lv_sub hl [3, 4, 5, 1, 0] rfl)
  refine lv_aload_n G.1 G.2.1 dX1_core_0 rfl (lv_at hl 0 rfl) ?_
  refine lv_iload_n G.1 G.2.1 dX1_core_1 rfl (lv_at hl 1 rfl) ?_
  refine lv_iload_n G.1 G.2.1 dX1_core_2 rfl (lv_at hl 2 rfl) ?_
  refine md_ro (rest := []) G I (met_mpair l D dA dB g cap a b) cw_mpair (by decide) rfl hl.1 (Nat.le_of_ble_eq_true rfl) rfl dX1_core_3 (fun r_3 hr_3 => ?_)
  subst hr_3
  refine n_ifeq (tgt := 14) G dX1_core_6 (by decide) (fun c_6 => ?_) (fun c_6 => ?_)
  · refine n_iconst (a := 0) G dX1_core_14 (by decide) ?_
    refine lv_istore_n (lv' := [(3, .int (nI 0)), (0, .ref (g 0)), (1, .int a), (2, .int b)]) G.1 G.2.1 dX1_core_15 rfl hl (by decide) rfl (fun ls hl => ?_)
    refine n_iconst (a := 1) G dX1_core_16 (by decide) ?_
    refine lv_istore (lv' := [(4, .int (nI 1)), (3, .int (nI 0)), (0, .ref (g 0)), (1, .int a), (2, .int b)]) G.1 G.2.1 dX1_core_17 hl (by decide) rfl (fun ls hl => ?_)
    refine lv_iload G.1 G.2.1 dX1_core_19 (lv_at hl 0 rfl) ?_
    refine n_bipush (a := 62) G dX1_core_21 (by decide) ?_
    refine n_icmp_gt (tgt := 96) G dX1_core_23 (by decide) (by omega) (by omega) (fun c_23 => ?_) (fun c_23 => ?_)
    · exact absurd c_23 (by decide)
    · refine lv_aload_n G.1 G.2.1 dX1_core_26 rfl (lv_at hl 2 rfl) ?_
      refine lv_iload_n G.1 G.2.1 dX1_core_27 rfl (lv_at hl 3 rfl) ?_
      refine lv_iload_n G.1 G.2.1 dX1_core_28 rfl (lv_at hl 4 rfl) ?_
      refine md_ro (rest := []) G I (met_mpair l D dA dB g cap a b) cw_mpair (by decide) rfl hl.1 (Nat.le_of_ble_eq_true rfl) rfl dX1_core_29 (fun r_29 hr_29 => ?_)
      subst hr_29
      refine n_ifeq (tgt := 96) G dX1_core_32 (by decide) (fun c_32 => ?_) (fun c_32 => ?_)
      · refine lv_iload_n G.1 G.2.1 dX1_core_96 rfl (lv_at hl 1 rfl) ?_
        exact hret _ _ _ dX1_core_97 (Or.inr ⟨c_6, rfl⟩)
      · exact absurd c_32 (by rw [c_6]; decide)
  · refine n_bipush (a := 63) G dX1_core_9 (by decide) ?_
    refine lv_goto (tgt := 15) G.1 G.2.1 dX1_core_11 (by decide) ?_
    refine lv_istore_n (lv' := [(3, .int (nI 63)), (0, .ref (g 0)), (1, .int a), (2, .int b)]) G.1 G.2.1 dX1_core_15 rfl hl (by decide) rfl (fun ls hl => ?_)
    refine n_iconst (a := 1) G dX1_core_16 (by decide) ?_
    refine lv_istore (lv' := [(4, .int (nI 1)), (3, .int (nI 63)), (0, .ref (g 0)), (1, .int a), (2, .int b)]) G.1 G.2.1 dX1_core_17 hl (by decide) rfl (fun ls hl => ?_)
    obtain ⟨i, j, hi, hj, hne, ea, eb⟩ := prB_of c_6
    rw [ea, eb] at hl
    exact loop i j ea eb hi hj hne 63 1 63 (by omega) (by omega) (by omega) (co_0 cap i j) ls (lv_sub hl [2, 3, 4, 1, 0] rfl)
set_option maxHeartbeats 4000000 in
set_option maxRecDepth 100000 in
theorem met_mreach (l : Launch) (D : va_G) (dA dB : ClassId) (g : Nat → Nat) (cap : Nat → Nat) (hc : CutOK cap) (a b : Int32) : Met l yX1_reach (ws_ yX1_reach cX1_reach 6 (some .int)) (rmL 3) (va_Pc [.ref (g 0), .int a, .int b] (mdU D dA dB g cap)) (vp_Si (reaP cap a b)) 0 0 (fun _ => False) := by
  refine ro_meti (own := RX1) (by decide) rfl (Nat.le_of_ble_eq_true rfl) ?_
  intro p e s m args below meth c Q ls G hU hret hl
  have I : mdI D dA dB g (fun _ => True) s s.heap [] cap := ⟨hU.1, hU.2.1, hU.2.2, va_S.rf⟩
  have hl : lv_has ls 6 [(0, .ref (g 0)), (1, .int a), (2, .int b)] := hl
  have hcst : ∀ S, cst (mx cap) (Nat.testBit S) < 2 ^ 31 := fun S => by have := CutOK_cst hc (Nat.testBit S); omega
  have loop : ∀ i j, a = nI i → b = nI j → i < 6 → j < 6 → i ≠ j → ∀ n k M, 1 ≤ k → k ≤ 63 → 64 ≤ k + n → reI cap i j k M → ∀ (ls : Array Slot), lv_has ls 6 [(0, .ref (g 0)), (1, .int (nI i)), (2, .int (nI j)), (3, .int (nI M)), (4, .int (nI k))] → W p l e (rmL 3) s m args below meth c s.heap [] 0 0 Q (F0 m 5 ls []) := by
    intro i j ea eb hi hj hne n
    induction n with
    | zero =>
      intro k M h1 h2 h3
      exact absurd h3 (by omega)
    | succ n ih =>
      intro k M h1 hk hn hI ls hl
      have hlam : lam cap i j < 2 ^ 31 := by have := lam_le hc hi hj hne; omega
      refine lv_iload G.1 G.2.1 dX1_reach_5 (lv_at hl 4 rfl) ?_
      refine n_bipush (a := 62) G dX1_reach_7 (by decide) ?_
      refine n_icmp_gt (tgt := 82) G dX1_reach_9 (by decide) (by omega) (by omega) (fun c_9 => ?_) (fun c_9 => ?_)
      · refine lv_iload_n G.1 G.2.1 dX1_reach_82 rfl (lv_at hl 3 rfl) ?_
        rw [ea, eb] at hret
        exact hret _ _ _ dX1_reach_83 (re_end hi hj hne (by omega) hI)
      · refine lv_aload_n G.1 G.2.1 dX1_reach_12 rfl (lv_at hl 0 rfl) ?_
        refine lv_iload_n G.1 G.2.1 dX1_reach_13 rfl (lv_at hl 1 rfl) ?_
        refine lv_iload_n G.1 G.2.1 dX1_reach_14 rfl (lv_at hl 2 rfl) ?_
        refine md_ro (rest := []) G I (met_mpair l D dA dB g cap (nI i) (nI j)) cw_mpair (by decide) rfl hl.1 (Nat.le_of_ble_eq_true rfl) rfl dX1_reach_15 (fun r_15 hr_15 => ?_)
        subst hr_15
        refine n_ifeq (tgt := 82) G dX1_reach_18 (by decide) (fun c_18 => ?_) (fun c_18 => ?_)
        · exact absurd (prB_nI hi hj hne) (by rw [c_18]; decide)
        · refine lv_iload G.1 G.2.1 dX1_reach_21 (lv_at hl 4 rfl) ?_
          refine lv_iload_n G.1 G.2.1 dX1_reach_23 rfl (lv_at hl 1 rfl) ?_
          refine lv_ishr G.1 G.2.1 dX1_reach_24 ?_
          refine n_iconst (a := 1) G dX1_reach_25 (by decide) ?_
          refine lv_iand G.1 G.2.1 dX1_reach_26 ?_
          rw [nx_bit (by omega) (by omega)]
          refine n_iconst (a := 1) G dX1_reach_27 (by decide) ?_
          refine n_bne1 (tgt := 59) G dX1_reach_28 (by decide) (fun c_28 => ?_) (fun c_28 => ?_)
          · refine n_iconst (a := 0) G dX1_reach_59 (by decide) ?_
            refine lv_istore (lv' := [(5, .int (nI 0)), (0, .ref (g 0)), (1, .int (nI i)), (2, .int (nI j)), (3, .int (nI M)), (4, .int (nI k))]) G.1 G.2.1 dX1_reach_60 hl (by decide) rfl (fun ls hl => ?_)
            refine lv_iload G.1 G.2.1 dX1_reach_62 (lv_at hl 0 rfl) ?_
            refine n_ifeqN (tgt := 74) G (by omega) dX1_reach_64 (by decide) (fun c_64 => ?_) (fun c_64 => ?_)
            · refine lv_iload_n G.1 G.2.1 dX1_reach_74 rfl (lv_at hl 4 rfl) ?_
              refine lv_istore_n (lv' := [(3, .int (nI M)), (5, .int (nI 0)), (0, .ref (g 0)), (1, .int (nI i)), (2, .int (nI j)), (4, .int (nI k))]) G.1 G.2.1 dX1_reach_75 rfl hl (by decide) rfl (fun ls hl => ?_)
              refine n_iinc (b := 1) (lv' := [(4, .int (nI (k + 1))), (3, .int (nI M)), (5, .int (nI 0)), (0, .ref (g 0)), (1, .int (nI i)), (2, .int (nI j))]) G dX1_reach_76 hl (q := 5) rfl (by decide) (by decide) rfl (fun ls hl => ?_)
              refine lv_goto (tgt := 5) G.1 G.2.1 dX1_reach_79 (by decide) ?_
              refine ih (k + 1) _ (by omega) (by omega) (by omega) (by first | exact re_out hI (fun q => absurd q.1 (by rw [c_28]; decide)) | exact re_out hI (fun q => absurd q.2.1 (by rw [c_37]; decide)) | exact re_out hI (fun q => c_52 q.2.2)) ls (lv_sub hl [3, 4, 5, 1, 0] rfl)
            · exact absurd c_64 (by decide)
          · refine lv_iload G.1 G.2.1 dX1_reach_31 (lv_at hl 4 rfl) ?_
            refine lv_iload_n G.1 G.2.1 dX1_reach_33 rfl (lv_at hl 2 rfl) ?_
            refine lv_ishr G.1 G.2.1 dX1_reach_34 ?_
            refine n_iconst (a := 1) G dX1_reach_35 (by decide) ?_
            refine lv_iand G.1 G.2.1 dX1_reach_36 ?_
            rw [nx_bit (by omega) (by omega)]
            refine n_ifne (tgt := 59) G dX1_reach_37 (by decide) (fun c_37 => ?_) (fun c_37 => ?_)
            · refine n_iconst (a := 0) G dX1_reach_59 (by decide) ?_
              refine lv_istore (lv' := [(5, .int (nI 0)), (0, .ref (g 0)), (1, .int (nI i)), (2, .int (nI j)), (3, .int (nI M)), (4, .int (nI k))]) G.1 G.2.1 dX1_reach_60 hl (by decide) rfl (fun ls hl => ?_)
              refine lv_iload G.1 G.2.1 dX1_reach_62 (lv_at hl 0 rfl) ?_
              refine n_ifeqN (tgt := 74) G (by omega) dX1_reach_64 (by decide) (fun c_64 => ?_) (fun c_64 => ?_)
              · refine lv_iload_n G.1 G.2.1 dX1_reach_74 rfl (lv_at hl 4 rfl) ?_
                refine lv_istore_n (lv' := [(3, .int (nI M)), (5, .int (nI 0)), (0, .ref (g 0)), (1, .int (nI i)), (2, .int (nI j)), (4, .int (nI k))]) G.1 G.2.1 dX1_reach_75 rfl hl (by decide) rfl (fun ls hl => ?_)
                refine n_iinc (b := 1) (lv' := [(4, .int (nI (k + 1))), (3, .int (nI M)), (5, .int (nI 0)), (0, .ref (g 0)), (1, .int (nI i)), (2, .int (nI j))]) G dX1_reach_76 hl (q := 5) rfl (by decide) (by decide) rfl (fun ls hl => ?_)
                refine lv_goto (tgt := 5) G.1 G.2.1 dX1_reach_79 (by decide) ?_
                refine ih (k + 1) _ (by omega) (by omega) (by omega) (by first | exact re_out hI (fun q => absurd q.1 (by rw [c_28]; decide)) | exact re_out hI (fun q => absurd q.2.1 (by rw [c_37]; decide)) | exact re_out hI (fun q => c_52 q.2.2)) ls (lv_sub hl [3, 4, 5, 1, 0] rfl)
              · exact absurd c_64 (by decide)
            · refine lv_aload_n G.1 G.2.1 dX1_reach_40 rfl (lv_at hl 0 rfl) ?_
              refine lv_iload G.1 G.2.1 dX1_reach_41 (lv_at hl 4 rfl) ?_
              refine md_ro (rest := []) G I (met_costOf l D dA dB g cap k (by omega)) cw_costOf (by decide) rfl hl.1 (Nat.le_of_ble_eq_true rfl) rfl dX1_reach_43 (fun r_43 hr_43 => ?_)
              subst hr_43
              refine lv_aload_n G.1 G.2.1 dX1_reach_46 rfl (lv_at hl 0 rfl) ?_
              refine lv_iload_n G.1 G.2.1 dX1_reach_47 rfl (lv_at hl 1 rfl) ?_
              refine lv_iload_n G.1 G.2.1 dX1_reach_48 rfl (lv_at hl 2 rfl) ?_
              refine md_ro (rest := [.int (nI (cst (mx cap) (Nat.testBit k)))]) G I (met_mbetween l D dA dB g cap hc (nI i) (nI j)) cw_mbetween (by decide) rfl hl.1 (Nat.le_of_ble_eq_true rfl) rfl dX1_reach_49 (fun r_49 hr_49 => ?_)
              obtain rfl := betP_lam hi hj hne hr_49
              refine n_icmp_ne (tgt := 59) G dX1_reach_52 (by decide) (hcst _) hlam (fun c_52 => ?_) (fun c_52 => ?_)
              · refine n_iconst (a := 0) G dX1_reach_59 (by decide) ?_
                refine lv_istore (lv' := [(5, .int (nI 0)), (0, .ref (g 0)), (1, .int (nI i)), (2, .int (nI j)), (3, .int (nI M)), (4, .int (nI k))]) G.1 G.2.1 dX1_reach_60 hl (by decide) rfl (fun ls hl => ?_)
                refine lv_iload G.1 G.2.1 dX1_reach_62 (lv_at hl 0 rfl) ?_
                refine n_ifeqN (tgt := 74) G (by omega) dX1_reach_64 (by decide) (fun c_64 => ?_) (fun c_64 => ?_)
                · refine lv_iload_n G.1 G.2.1 dX1_reach_74 rfl (lv_at hl 4 rfl) ?_
                  refine lv_istore_n (lv' := [(3, .int (nI M)), (5, .int (nI 0)), (0, .ref (g 0)), (1, .int (nI i)), (2, .int (nI j)), (4, .int (nI k))]) G.1 G.2.1 dX1_reach_75 rfl hl (by decide) rfl (fun ls hl => ?_)
                  refine n_iinc (b := 1) (lv' := [(4, .int (nI (k + 1))), (3, .int (nI M)), (5, .int (nI 0)), (0, .ref (g 0)), (1, .int (nI i)), (2, .int (nI j))]) G dX1_reach_76 hl (q := 5) rfl (by decide) (by decide) rfl (fun ls hl => ?_)
                  refine lv_goto (tgt := 5) G.1 G.2.1 dX1_reach_79 (by decide) ?_
                  refine ih (k + 1) _ (by omega) (by omega) (by omega) (by first | exact re_out hI (fun q => absurd q.1 (by rw [c_28]; decide)) | exact re_out hI (fun q => absurd q.2.1 (by rw [c_37]; decide)) | exact re_out hI (fun q => c_52 q.2.2)) ls (lv_sub hl [3, 4, 5, 1, 0] rfl)
                · exact absurd c_64 (by decide)
              · refine n_iconst (a := 1) G dX1_reach_55 (by decide) ?_
                refine lv_goto (tgt := 60) G.1 G.2.1 dX1_reach_56 (by decide) ?_
                refine lv_istore (lv' := [(5, .int (nI 1)), (0, .ref (g 0)), (1, .int (nI i)), (2, .int (nI j)), (3, .int (nI M)), (4, .int (nI k))]) G.1 G.2.1 dX1_reach_60 hl (by decide) rfl (fun ls hl => ?_)
                refine lv_iload G.1 G.2.1 dX1_reach_62 (lv_at hl 0 rfl) ?_
                refine n_ifeqN (tgt := 74) G (by omega) dX1_reach_64 (by decide) (fun c_64 => ?_) (fun c_64 => ?_)
                · exact absurd c_64 (by decide)
                · refine lv_iload_n G.1 G.2.1 dX1_reach_67 rfl (lv_at hl 4 rfl) ?_
                  refine lv_iload G.1 G.2.1 dX1_reach_68 (lv_at hl 5 rfl) ?_
                  refine n_ior G dX1_reach_70 ?_
                  refine lv_goto (tgt := 75) G.1 G.2.1 dX1_reach_71 (by decide) ?_
                  refine lv_istore_n (lv' := [(3, .int (nI (M ||| k))), (5, .int (nI 1)), (0, .ref (g 0)), (1, .int (nI i)), (2, .int (nI j)), (4, .int (nI k))]) G.1 G.2.1 dX1_reach_75 rfl hl (by decide) rfl (fun ls hl => ?_)
                  refine n_iinc (b := 1) (lv' := [(4, .int (nI (k + 1))), (3, .int (nI (M ||| k))), (5, .int (nI 1)), (0, .ref (g 0)), (1, .int (nI i)), (2, .int (nI j))]) G dX1_reach_76 hl (q := 5) rfl (by decide) (by decide) rfl (fun ls hl => ?_)
                  refine lv_goto (tgt := 5) G.1 G.2.1 dX1_reach_79 (by decide) ?_
                  refine ih (k + 1) _ (by omega) (by omega) (by omega) (by exact re_in hI h1 (by omega) ⟨c_28, c_37, c_52⟩) ls (lv_sub hl [3, 4, 5, 1, 0] rfl)
  cases hpr : prB a b with
  | true =>
    refine n_iconst (a := 0) G dX1_reach_0 (by decide) ?_
    refine lv_istore_n (lv' := [(3, .int (nI 0)), (0, .ref (g 0)), (1, .int a), (2, .int b)]) G.1 G.2.1 dX1_reach_1 rfl hl (by decide) rfl (fun ls hl => ?_)
    refine n_iconst (a := 1) G dX1_reach_2 (by decide) ?_
    refine lv_istore (lv' := [(4, .int (nI 1)), (3, .int (nI 0)), (0, .ref (g 0)), (1, .int a), (2, .int b)]) G.1 G.2.1 dX1_reach_3 hl (by decide) rfl (fun ls hl => ?_)
    obtain ⟨i, j, hi, hj, hne, ea, eb⟩ := prB_of hpr
    rw [ea, eb] at hl
    exact loop i j ea eb hi hj hne 63 1 0 (by omega) (by omega) (by omega) (re_0 cap i j) ls (lv_sub hl [2, 3, 4, 1, 0] rfl)
  | false =>
    refine n_iconst (a := 0) G dX1_reach_0 (by decide) ?_
    refine lv_istore_n (lv' := [(3, .int (nI 0)), (0, .ref (g 0)), (1, .int a), (2, .int b)]) G.1 G.2.1 dX1_reach_1 rfl hl (by decide) rfl (fun ls hl => ?_)
    refine n_iconst (a := 1) G dX1_reach_2 (by decide) ?_
    refine lv_istore (lv' := [(4, .int (nI 1)), (3, .int (nI 0)), (0, .ref (g 0)), (1, .int a), (2, .int b)]) G.1 G.2.1 dX1_reach_3 hl (by decide) rfl (fun ls hl => ?_)
    refine lv_iload G.1 G.2.1 dX1_reach_5 (lv_at hl 0 rfl) ?_
    refine n_bipush (a := 62) G dX1_reach_7 (by decide) ?_
    refine n_icmp_gt (tgt := 82) G dX1_reach_9 (by decide) (by omega) (by omega) (fun c_9 => ?_) (fun c_9 => ?_)
    · exact absurd c_9 (by decide)
    · refine lv_aload_n G.1 G.2.1 dX1_reach_12 rfl (lv_at hl 2 rfl) ?_
      refine lv_iload_n G.1 G.2.1 dX1_reach_13 rfl (lv_at hl 3 rfl) ?_
      refine lv_iload_n G.1 G.2.1 dX1_reach_14 rfl (lv_at hl 4 rfl) ?_
      refine md_ro (rest := []) G I (met_mpair l D dA dB g cap a b) cw_mpair (by decide) rfl hl.1 (Nat.le_of_ble_eq_true rfl) rfl dX1_reach_15 (fun r_15 hr_15 => ?_)
      subst hr_15
      refine n_ifeq (tgt := 82) G dX1_reach_18 (by decide) (fun c_18 => ?_) (fun c_18 => ?_)
      · refine lv_iload_n G.1 G.2.1 dX1_reach_82 rfl (lv_at hl 1 rfl) ?_
        exact hret _ _ _ dX1_reach_83 (Or.inr ⟨hpr, rfl⟩)
      · exact absurd c_18 (by rw [hpr]; decide)
set_option maxHeartbeats 4000000 in
set_option maxRecDepth 100000 in
theorem met_mforced (l : Launch) (D : va_G) (dA dB : ClassId) (g : Nat → Nat) (cap : Nat → Nat) (hc : CutOK cap) (a b : Int32) : Met l yX1_forced (ws_ yX1_forced cX1_forced 3 (some .int)) (rmL 2) (va_Pc [.ref (g 0), .int a, .int b] (mdU D dA dB g cap)) (vp_Si (forP cap a b)) 0 0 (fun _ => False) := by
  refine ro_meti (own := RX1) (by decide) rfl (Nat.le_of_ble_eq_true rfl) ?_
  intro p e s m args below meth c Q ls G hU hret hl
  have I : mdI D dA dB g (fun _ => True) s s.heap [] cap := ⟨hU.1, hU.2.1, hU.2.2, va_S.rf⟩
  have hl : lv_has ls 3 [(0, .ref (g 0)), (1, .int a), (2, .int b)] := hl
  refine lv_iload_n G.1 G.2.1 dX1_forced_0 rfl (lv_at hl 1 rfl) ?_
  refine lv_if_lt (tgt := 20) G.1 G.2.1 dX1_forced_1 (by decide) (fun c_1 => ?_) (fun c_1 => ?_)
  · refine lv_iconst (v := -1) G.1 G.2.1 dX1_forced_20 (by decide) ?_
    refine lv_goto (tgt := 30) G.1 G.2.1 dX1_forced_21 (by decide) ?_
    exact hret _ _ _ dX1_forced_30 (forP_f (by first | exact Or.inl c_1 | exact Or.inr (Or.inl c_7) | exact Or.inr (Or.inr (Or.inl c_11)) | exact Or.inr (Or.inr (Or.inr c_17))))
  · refine lv_iload_n G.1 G.2.1 dX1_forced_4 rfl (lv_at hl 1 rfl) ?_
    refine n_bipush (a := 63) G dX1_forced_5 (by decide) ?_
    refine lv_icmp_gt (tgt := 20) G.1 G.2.1 dX1_forced_7 (by decide) (fun c_7 => ?_) (fun c_7 => ?_)
    · refine lv_iconst (v := -1) G.1 G.2.1 dX1_forced_20 (by decide) ?_
      refine lv_goto (tgt := 30) G.1 G.2.1 dX1_forced_21 (by decide) ?_
      exact hret _ _ _ dX1_forced_30 (forP_f (by first | exact Or.inl c_1 | exact Or.inr (Or.inl c_7) | exact Or.inr (Or.inr (Or.inl c_11)) | exact Or.inr (Or.inr (Or.inr c_17))))
    · refine lv_iload_n G.1 G.2.1 dX1_forced_10 rfl (lv_at hl 2 rfl) ?_
      refine lv_if_lt (tgt := 20) G.1 G.2.1 dX1_forced_11 (by decide) (fun c_11 => ?_) (fun c_11 => ?_)
      · refine lv_iconst (v := -1) G.1 G.2.1 dX1_forced_20 (by decide) ?_
        refine lv_goto (tgt := 30) G.1 G.2.1 dX1_forced_21 (by decide) ?_
        exact hret _ _ _ dX1_forced_30 (forP_f (by first | exact Or.inl c_1 | exact Or.inr (Or.inl c_7) | exact Or.inr (Or.inr (Or.inl c_11)) | exact Or.inr (Or.inr (Or.inr c_17))))
      · refine lv_iload_n G.1 G.2.1 dX1_forced_14 rfl (lv_at hl 2 rfl) ?_
        refine n_bipush (a := 63) G dX1_forced_15 (by decide) ?_
        refine lv_icmp_le (tgt := 24) G.1 G.2.1 dX1_forced_17 (by decide) (fun c_17 => ?_) (fun c_17 => ?_)
        · obtain ⟨i, hi, rfl⟩ := set_of c_1 c_7
          obtain ⟨j, hj, rfl⟩ := set_of2 c_11 c_17
          refine lv_aload_n G.1 G.2.1 dX1_forced_24 rfl (lv_at hl 0 rfl) ?_
          refine lv_iload_n G.1 G.2.1 dX1_forced_25 rfl (lv_at hl 1 rfl) ?_
          refine lv_iload_n G.1 G.2.1 dX1_forced_26 rfl (lv_at hl 2 rfl) ?_
          refine md_ro (rest := []) G I (met_cheapest l D dA dB g cap hc i j hi hj) cw_cheapest (by decide) rfl hl.1 (Nat.le_of_ble_eq_true rfl) rfl dX1_forced_27 (fun r_27 hr_27 => ?_)
          exact hret _ _ _ dX1_forced_30 (Or.inl ⟨i, j, hi, hj, rfl, rfl, hr_27⟩)
        · refine lv_iconst (v := -1) G.1 G.2.1 dX1_forced_20 (by decide) ?_
          refine lv_goto (tgt := 30) G.1 G.2.1 dX1_forced_21 (by decide) ?_
          exact hret _ _ _ dX1_forced_30 (forP_f (by first | exact Or.inl c_1 | exact Or.inr (Or.inl c_7) | exact Or.inr (Or.inr (Or.inl c_11)) | exact Or.inr (Or.inr (Or.inr c_17))))
set_option maxHeartbeats 4000000 in
set_option maxRecDepth 100000 in
theorem met_mpairs (l : Launch) (D : va_G) (dA dB : ClassId) (g : Nat → Nat) (cap : Nat → Nat) (hc : CutOK cap) (z : Int32) : Met l yX1_pairsAtLeast (ws_ yX1_pairsAtLeast cX1_pairsAtLeast 4 (some .int)) (rmL 3) (va_Pc [.ref (g 0), .int z] (mdU D dA dB g cap)) (vp_Si (palP cap z)) 0 0 (fun _ => False) := by
  refine ro_meti (own := RX1) (by decide) rfl (Nat.le_of_ble_eq_true rfl) ?_
  intro p e s m args below meth c Q ls G hU hret hl
  have I : mdI D dA dB g (fun _ => True) s s.heap [] cap := ⟨hU.1, hU.2.1, hU.2.2, va_S.rf⟩
  have hl : lv_has ls 4 [(0, .ref (g 0)), (1, .int z)] := hl
  have loop : ∀ n k, k ≤ 36 → 37 ≤ k + n → ∀ (ls : Array Slot), lv_has ls 4 [(0, .ref (g 0)), (1, .int z), (2, .int (nI (palN cap z k))), (3, .int (nI k))] → W p l e (rmL 3) s m args below meth c s.heap [] 0 0 Q (F0 m 4 ls []) := by
    intro n
    induction n with
    | zero =>
      intro k h1 h2
      exact absurd h2 (by omega)
    | succ n ih =>
      intro k hk hn ls hl
      refine lv_iload_n G.1 G.2.1 dX1_pairsAtLeast_4 rfl (lv_at hl 3 rfl) ?_
      refine n_bipush (a := 36) G dX1_pairsAtLeast_5 (by decide) ?_
      refine n_icmp_ge (tgt := 51) G dX1_pairsAtLeast_7 (by decide) (by omega) (by omega) (fun c_7 => ?_) (fun c_7 => ?_)
      · refine lv_iload_n G.1 G.2.1 dX1_pairsAtLeast_51 rfl (lv_at hl 2 rfl) ?_
        obtain rfl : k = 36 := by omega
        exact hret _ _ _ dX1_pairsAtLeast_52 rfl
      · refine lv_iload_n G.1 G.2.1 dX1_pairsAtLeast_10 rfl (lv_at hl 3 rfl) ?_
        refine n_bipush (a := 6) G dX1_pairsAtLeast_11 (by decide) ?_
        refine n_idiv G (by omega) (by decide) (by decide) dX1_pairsAtLeast_13 ?_
        refine lv_iload_n G.1 G.2.1 dX1_pairsAtLeast_14 rfl (lv_at hl 3 rfl) ?_
        refine n_bipush (a := 6) G dX1_pairsAtLeast_15 (by decide) ?_
        refine n_irem G (by omega) (by decide) (by decide) dX1_pairsAtLeast_17 ?_
        refine n_icmp_ge (tgt := 43) G dX1_pairsAtLeast_18 (by decide) (by omega) (by omega) (fun c_18 => ?_) (fun c_18 => ?_)
        · refine lv_iload_n G.1 G.2.1 dX1_pairsAtLeast_43 rfl (lv_at hl 2 rfl) ?_
          refine lv_istore_n (lv' := [(2, .int (nI (palN cap z k))), (0, .ref (g 0)), (1, .int z), (3, .int (nI k))]) G.1 G.2.1 dX1_pairsAtLeast_44 rfl hl (by decide) rfl (fun ls hl => ?_)
          refine n_iinc (b := 1) (lv' := [(3, .int (nI (k + 1))), (2, .int (nI (palN cap z k))), (0, .ref (g 0)), (1, .int z)]) G dX1_pairsAtLeast_45 hl (q := 3) rfl (by decide) (by decide) rfl (fun ls hl => ?_)
          refine lv_goto (tgt := 4) G.1 G.2.1 dX1_pairsAtLeast_48 (by decide) ?_
          refine ih (k + 1) (by omega) (by omega) ls ?_
          rw [palN_0 (by first | exact Or.inl (by omega) | exact Or.inr c_34)]
          exact (lv_sub hl [2, 3, 1, 0] rfl)
        · refine lv_aload_n G.1 G.2.1 dX1_pairsAtLeast_21 rfl (lv_at hl 0 rfl) ?_
          refine lv_iload_n G.1 G.2.1 dX1_pairsAtLeast_22 rfl (lv_at hl 3 rfl) ?_
          refine n_bipush (a := 6) G dX1_pairsAtLeast_23 (by decide) ?_
          refine n_idiv G (by omega) (by decide) (by decide) dX1_pairsAtLeast_25 ?_
          refine lv_iload_n G.1 G.2.1 dX1_pairsAtLeast_26 rfl (lv_at hl 3 rfl) ?_
          refine n_bipush (a := 6) G dX1_pairsAtLeast_27 (by decide) ?_
          refine n_irem G (by omega) (by decide) (by decide) dX1_pairsAtLeast_29 ?_
          refine md_ro (rest := []) G I (met_mbetween l D dA dB g cap hc (nI (k / 6)) (nI (k % 6))) cw_mbetween (by decide) rfl hl.1 (Nat.le_of_ble_eq_true rfl) rfl dX1_pairsAtLeast_30 (fun r_30 hr_30 => ?_)
          obtain rfl := betP_lam (by omega) (by omega) (by omega) hr_30
          refine lv_iload_n G.1 G.2.1 dX1_pairsAtLeast_33 rfl (lv_at hl 1 rfl) ?_
          refine lv_icmp_lt (tgt := 43) G.1 G.2.1 dX1_pairsAtLeast_34 (by decide) (fun c_34 => ?_) (fun c_34 => ?_)
          · refine lv_iload_n G.1 G.2.1 dX1_pairsAtLeast_43 rfl (lv_at hl 2 rfl) ?_
            refine lv_istore_n (lv' := [(2, .int (nI (palN cap z k))), (0, .ref (g 0)), (1, .int z), (3, .int (nI k))]) G.1 G.2.1 dX1_pairsAtLeast_44 rfl hl (by decide) rfl (fun ls hl => ?_)
            refine n_iinc (b := 1) (lv' := [(3, .int (nI (k + 1))), (2, .int (nI (palN cap z k))), (0, .ref (g 0)), (1, .int z)]) G dX1_pairsAtLeast_45 hl (q := 3) rfl (by decide) (by decide) rfl (fun ls hl => ?_)
            refine lv_goto (tgt := 4) G.1 G.2.1 dX1_pairsAtLeast_48 (by decide) ?_
            refine ih (k + 1) (by omega) (by omega) ls ?_
            rw [palN_0 (by first | exact Or.inl (by omega) | exact Or.inr c_34)]
            exact (lv_sub hl [2, 3, 1, 0] rfl)
          · refine lv_iload_n G.1 G.2.1 dX1_pairsAtLeast_37 rfl (lv_at hl 2 rfl) ?_
            refine n_iconst (a := 1) G dX1_pairsAtLeast_38 (by decide) ?_
            refine n_iadd G dX1_pairsAtLeast_39 ?_
            refine lv_goto (tgt := 44) G.1 G.2.1 dX1_pairsAtLeast_40 (by decide) ?_
            refine lv_istore_n (lv' := [(2, .int (nI ((palN cap z k) + 1))), (0, .ref (g 0)), (1, .int z), (3, .int (nI k))]) G.1 G.2.1 dX1_pairsAtLeast_44 rfl hl (by decide) rfl (fun ls hl => ?_)
            refine n_iinc (b := 1) (lv' := [(3, .int (nI (k + 1))), (2, .int (nI ((palN cap z k) + 1))), (0, .ref (g 0)), (1, .int z)]) G dX1_pairsAtLeast_45 hl (q := 3) rfl (by decide) (by decide) rfl (fun ls hl => ?_)
            refine lv_goto (tgt := 4) G.1 G.2.1 dX1_pairsAtLeast_48 (by decide) ?_
            refine ih (k + 1) (by omega) (by omega) ls ?_
            rw [palN_1 c_18 c_34]
            exact (lv_sub hl [2, 3, 1, 0] rfl)
  refine n_iconst (a := 0) G dX1_pairsAtLeast_0 (by decide) ?_
  refine lv_istore_n (lv' := [(2, .int (nI 0)), (0, .ref (g 0)), (1, .int z)]) G.1 G.2.1 dX1_pairsAtLeast_1 rfl hl (by decide) rfl (fun ls hl => ?_)
  refine n_iconst (a := 0) G dX1_pairsAtLeast_2 (by decide) ?_
  refine lv_istore_n (lv' := [(3, .int (nI 0)), (2, .int (nI 0)), (0, .ref (g 0)), (1, .int z)]) G.1 G.2.1 dX1_pairsAtLeast_3 rfl hl (by decide) rfl (fun ls hl => ?_)
  exact loop 37 0 (by omega) (by omega) ls (lv_sub hl [2, 3, 1, 0] rfl)
set_option maxHeartbeats 4000000 in
set_option maxRecDepth 100000 in
theorem met_mgroup (l : Launch) (D : va_G) (dA dB : ClassId) (g : Nat → Nat) (cap : Nat → Nat) (hc : CutOK cap) (a z : Int32) : Met l yX1_group (ws_ yX1_group cX1_group 5 (some .int)) (rmL 3) (va_Pc [.ref (g 0), .int a, .int z] (mdU D dA dB g cap)) (vp_Si (grpP cap a z)) 0 0 (fun _ => False) := by
  refine ro_meti (own := RX1) (by decide) rfl (Nat.le_of_ble_eq_true rfl) ?_
  intro p e s m args below meth c Q ls G hU hret hl
  have I : mdI D dA dB g (fun _ => True) s s.heap [] cap := ⟨hU.1, hU.2.1, hU.2.2, va_S.rf⟩
  have hl : lv_has ls 5 [(0, .ref (g 0)), (1, .int a), (2, .int z)] := hl
  have loop : ∀ n k M, k ≤ 6 → 7 ≤ k + n → gI cap a z k M → ∀ (ls : Array Slot), lv_has ls 5 [(0, .ref (g 0)), (1, .int a), (2, .int z), (3, .int (nI M)), (4, .int (nI k))] → W p l e (rmL 3) s m args below meth c s.heap [] 0 0 Q (F0 m 20 ls []) := by
    intro n
    induction n with
    | zero =>
      intro k M h1 h2
      exact absurd h2 (by omega)
    | succ n ih =>
      intro k M hk hn hI ls hl
      refine lv_iload G.1 G.2.1 dX1_group_20 (lv_at hl 4 rfl) ?_
      refine n_bipush (a := 6) G dX1_group_22 (by decide) ?_
      refine n_icmp_ge (tgt := 65) G dX1_group_24 (by decide) (by omega) (by omega) (fun c_24 => ?_) (fun c_24 => ?_)
      · refine lv_iload_n G.1 G.2.1 dX1_group_65 rfl (lv_at hl 3 rfl) ?_
        exact hret _ _ _ dX1_group_66 (gI_end hI (by omega))
      · refine lv_aload_n G.1 G.2.1 dX1_group_27 rfl (lv_at hl 0 rfl) ?_
        refine lv_iload_n G.1 G.2.1 dX1_group_28 rfl (lv_at hl 1 rfl) ?_
        refine lv_iload G.1 G.2.1 dX1_group_29 (lv_at hl 4 rfl) ?_
        refine md_ro (rest := []) G I (met_mpair l D dA dB g cap a (nI k)) cw_mpair (by decide) rfl hl.1 (Nat.le_of_ble_eq_true rfl) rfl dX1_group_31 (fun r_31 hr_31 => ?_)
        subst hr_31
        refine n_ifeq (tgt := 57) G dX1_group_34 (by decide) (fun c_34 => ?_) (fun c_34 => ?_)
        · refine lv_iload_n G.1 G.2.1 dX1_group_57 rfl (lv_at hl 3 rfl) ?_
          refine lv_istore_n (lv' := [(3, .int (nI M)), (0, .ref (g 0)), (1, .int a), (2, .int z), (4, .int (nI k))]) G.1 G.2.1 dX1_group_58 rfl hl (by decide) rfl (fun ls hl => ?_)
          refine n_iinc (b := 1) (lv' := [(4, .int (nI (k + 1))), (3, .int (nI M)), (0, .ref (g 0)), (1, .int a), (2, .int z)]) G dX1_group_59 hl (q := 4) rfl (by decide) (by decide) rfl (fun ls hl => ?_)
          refine lv_goto (tgt := 20) G.1 G.2.1 dX1_group_62 (by decide) ?_
          exact ih (k + 1) _ (by omega) (by omega) (by first | exact gI_skip1 hI (by omega) c_34 | exact gI_skip2 hI (by omega) c_34 hr_41 c_45) ls (lv_sub hl [2, 3, 4, 1, 0] rfl)
        · refine lv_aload_n G.1 G.2.1 dX1_group_37 rfl (lv_at hl 0 rfl) ?_
          refine lv_iload_n G.1 G.2.1 dX1_group_38 rfl (lv_at hl 1 rfl) ?_
          refine lv_iload G.1 G.2.1 dX1_group_39 (lv_at hl 4 rfl) ?_
          refine md_ro (rest := []) G I (met_mbetween l D dA dB g cap hc a (nI k)) cw_mbetween (by decide) rfl hl.1 (Nat.le_of_ble_eq_true rfl) rfl dX1_group_41 (fun r_41 hr_41 => ?_)
          refine lv_iload_n G.1 G.2.1 dX1_group_44 rfl (lv_at hl 2 rfl) ?_
          refine lv_icmp_lt (tgt := 57) G.1 G.2.1 dX1_group_45 (by decide) (fun c_45 => ?_) (fun c_45 => ?_)
          · refine lv_iload_n G.1 G.2.1 dX1_group_57 rfl (lv_at hl 3 rfl) ?_
            refine lv_istore_n (lv' := [(3, .int (nI M)), (0, .ref (g 0)), (1, .int a), (2, .int z), (4, .int (nI k))]) G.1 G.2.1 dX1_group_58 rfl hl (by decide) rfl (fun ls hl => ?_)
            refine n_iinc (b := 1) (lv' := [(4, .int (nI (k + 1))), (3, .int (nI M)), (0, .ref (g 0)), (1, .int a), (2, .int z)]) G dX1_group_59 hl (q := 4) rfl (by decide) (by decide) rfl (fun ls hl => ?_)
            refine lv_goto (tgt := 20) G.1 G.2.1 dX1_group_62 (by decide) ?_
            exact ih (k + 1) _ (by omega) (by omega) (by first | exact gI_skip1 hI (by omega) c_34 | exact gI_skip2 hI (by omega) c_34 hr_41 c_45) ls (lv_sub hl [2, 3, 4, 1, 0] rfl)
          · refine lv_iload_n G.1 G.2.1 dX1_group_48 rfl (lv_at hl 3 rfl) ?_
            refine n_iconst (a := 1) G dX1_group_49 (by decide) ?_
            refine lv_iload G.1 G.2.1 dX1_group_50 (lv_at hl 4 rfl) ?_
            refine n_ishl G (by omega) dX1_group_52 ?_
            refine n_ior G dX1_group_53 ?_
            refine lv_goto (tgt := 58) G.1 G.2.1 dX1_group_54 (by decide) ?_
            refine lv_istore_n (lv' := [(3, .int (nI (M ||| (2 ^ k)))), (0, .ref (g 0)), (1, .int a), (2, .int z), (4, .int (nI k))]) G.1 G.2.1 dX1_group_58 rfl hl (by decide) rfl (fun ls hl => ?_)
            refine n_iinc (b := 1) (lv' := [(4, .int (nI (k + 1))), (3, .int (nI (M ||| (2 ^ k)))), (0, .ref (g 0)), (1, .int a), (2, .int z)]) G dX1_group_59 hl (q := 4) rfl (by decide) (by decide) rfl (fun ls hl => ?_)
            refine lv_goto (tgt := 20) G.1 G.2.1 dX1_group_62 (by decide) ?_
            exact ih (k + 1) _ (by omega) (by omega) (by exact gI_in hI (by omega) c_34 hr_41 c_45) ls (lv_sub hl [2, 3, 4, 1, 0] rfl)
  refine lv_iload_n G.1 G.2.1 dX1_group_0 rfl (lv_at hl 1 rfl) ?_
  refine lv_if_lt (tgt := 15) G.1 G.2.1 dX1_group_1 (by decide) (fun c_1 => ?_) (fun c_1 => ?_)
  · refine n_iconst (a := 0) G dX1_group_15 (by decide) ?_
    refine lv_istore_n (lv' := [(3, .int (nI 0)), (0, .ref (g 0)), (1, .int a), (2, .int z)]) G.1 G.2.1 dX1_group_16 rfl hl (by decide) rfl (fun ls hl => ?_)
    refine n_iconst (a := 0) G dX1_group_17 (by decide) ?_
    refine lv_istore (lv' := [(4, .int (nI 0)), (3, .int (nI 0)), (0, .ref (g 0)), (1, .int a), (2, .int z)]) G.1 G.2.1 dX1_group_18 hl (by decide) rfl (fun ls hl => ?_)
    exact loop 7 0 0 (by omega) (by omega) (gI_0n (by first | exact b2i_f (plc_f1 c_1) | exact b2i_f (plc_f2 (gt5 c_6)))) ls (lv_sub hl [2, 3, 4, 1, 0] rfl)
  · refine lv_iload_n G.1 G.2.1 dX1_group_4 rfl (lv_at hl 1 rfl) ?_
    refine n_iconst (a := 5) G dX1_group_5 (by decide) ?_
    refine lv_icmp_gt (tgt := 15) G.1 G.2.1 dX1_group_6 (by decide) (fun c_6 => ?_) (fun c_6 => ?_)
    · refine n_iconst (a := 0) G dX1_group_15 (by decide) ?_
      refine lv_istore_n (lv' := [(3, .int (nI 0)), (0, .ref (g 0)), (1, .int a), (2, .int z)]) G.1 G.2.1 dX1_group_16 rfl hl (by decide) rfl (fun ls hl => ?_)
      refine n_iconst (a := 0) G dX1_group_17 (by decide) ?_
      refine lv_istore (lv' := [(4, .int (nI 0)), (3, .int (nI 0)), (0, .ref (g 0)), (1, .int a), (2, .int z)]) G.1 G.2.1 dX1_group_18 hl (by decide) rfl (fun ls hl => ?_)
      exact loop 7 0 0 (by omega) (by omega) (gI_0n (by first | exact b2i_f (plc_f1 c_1) | exact b2i_f (plc_f2 (gt5 c_6)))) ls (lv_sub hl [2, 3, 4, 1, 0] rfl)
    · obtain ⟨i, hi, ea⟩ := plc_of (b2i_t (plc_t c_1 (ngt5 c_6)))
      subst ea
      refine n_iconst (a := 1) G dX1_group_9 (by decide) ?_
      refine lv_iload_n G.1 G.2.1 dX1_group_10 rfl (lv_at hl 1 rfl) ?_
      refine n_ishl G (by omega) dX1_group_11 ?_
      refine lv_goto (tgt := 16) G.1 G.2.1 dX1_group_12 (by decide) ?_
      refine lv_istore_n (lv' := [(3, .int (nI (2 ^ i))), (0, .ref (g 0)), (1, .int (nI i)), (2, .int z)]) G.1 G.2.1 dX1_group_16 rfl hl (by decide) rfl (fun ls hl => ?_)
      refine n_iconst (a := 0) G dX1_group_17 (by decide) ?_
      refine lv_istore (lv' := [(4, .int (nI 0)), (3, .int (nI (2 ^ i))), (0, .ref (g 0)), (1, .int (nI i)), (2, .int z)]) G.1 G.2.1 dX1_group_18 hl (by decide) rfl (fun ls hl => ?_)
      exact loop 7 0 _ (by omega) (by omega) (gI_0 hi) ls (lv_sub hl [2, 3, 4, 1, 0] rfl)
set_option maxHeartbeats 4000000 in
set_option maxRecDepth 100000 in
theorem met_mloss (l : Launch) (D : va_G) (dA dB : ClassId) (g : Nat → Nat) (cap : Nat → Nat) (hc : CutOK cap) (a b : Int32) : Met l yX1_loss (ws_ yX1_loss cX1_loss 6 (some .int)) (rmL 3) (va_Pc [.ref (g 0), .int a, .int b] (mdU D dA dB g cap)) (va_Qi (fun r (_ : Unit) => losP cap a b r) (fun _ t => mdU D dA dB g cap t) (mdA g)) 0 0 (mdA g) := by
  refine md_meti (own := RX1) (by decide) rfl (Nat.le_of_ble_eq_true rfl) ?_
  intro p e s m args below meth c Q ls G I hret hl
  have hl : lv_has ls 6 [(0, .ref (g 0)), (1, .int a), (2, .int b)] := hl
  refine lv_aload_n G.1 G.2.1 dX1_loss_0 rfl (lv_at hl 0 rfl) ?_
  refine lv_iload_n G.1 G.2.1 dX1_loss_1 rfl (lv_at hl 1 rfl) ?_
  refine lv_iload_n G.1 G.2.1 dX1_loss_2 rfl (lv_at hl 2 rfl) ?_
  refine md_ro (rest := []) G I (met_mpair l D dA dB g cap a b) cw_mpair (by decide) rfl hl.1 (Nat.le_of_ble_eq_true rfl) rfl dX1_loss_3 (fun r_3 hr_3 => ?_)
  subst hr_3
  refine n_ifne (tgt := 11) G dX1_loss_6 (by decide) (fun c_6 => ?_) (fun c_6 => ?_)
  · obtain ⟨i, j, hi, hj, hne, rfl, rfl⟩ := prB_of c_6
    refine lv_aload_n G.1 G.2.1 dX1_loss_11 rfl (lv_at hl 0 rfl) ?_
    refine md_ro (rest := []) G I (met_mleast l D dA dB g cap hc) cw_mleast (by decide) rfl hl.1 (Nat.le_of_ble_eq_true rfl) rfl dX1_loss_12 (fun r_12 hr_12 => ?_)
    obtain ⟨v_12, hv_12, rfl⟩ := hr_12
    refine lv_istore_n (lv' := [(3, .int (nI v_12)), (0, .ref (g 0)), (1, .int (nI i)), (2, .int (nI j))]) G.1 G.2.1 dX1_loss_15 rfl hl (by decide) rfl (fun ls hl => ?_)
    refine lv_aload_n G.1 G.2.1 dX1_loss_16 rfl (lv_at hl 1 rfl) ?_
    refine mg_cap G I dX1_loss_17 ?_
    refine n_bipush (a := 6) G dX1_loss_20 (by decide) ?_
    refine lv_iload_n G.1 G.2.1 dX1_loss_22 rfl (lv_at hl 2 rfl) ?_
    refine n_imul G dX1_loss_23 ?_
    refine lv_iload_n G.1 G.2.1 dX1_loss_24 rfl (lv_at hl 3 rfl) ?_
    refine n_iadd G dX1_loss_25 ?_
    refine mr_cap G I (by omega) dX1_loss_26 ?_
    refine lv_istore (lv' := [(4, .int (nI (cap ((6 * i) + j)))), (3, .int (nI v_12)), (0, .ref (g 0)), (1, .int (nI i)), (2, .int (nI j))]) G.1 G.2.1 dX1_loss_27 hl (by decide) rfl (fun ls hl => ?_)
    refine lv_aload_n G.1 G.2.1 dX1_loss_29 rfl (lv_at hl 2 rfl) ?_
    refine lv_iload_n G.1 G.2.1 dX1_loss_30 rfl (lv_at hl 3 rfl) ?_
    refine lv_iload_n G.1 G.2.1 dX1_loss_31 rfl (lv_at hl 4 rfl) ?_
    refine n_iconst (a := 0) G dX1_loss_32 (by decide) ?_
    refine md_mv (rest := []) G I (met_mput l D dA dB g cap i j 0 (by omega) (by omega)) cw_mput (by decide) rfl hl.1 (Nat.le_of_ble_eq_true rfl) rfl dX1_loss_33 (fun _ H locs _ I _ _ => ?_)
    have I : mdI D dA dB g (mdA g) s H locs (putc cap i j 0) := I
    have hc2 : CutOK (putc cap i j 0) := putc_ok hc hi hj (by omega)
    refine lv_aload_n G.1 G.2.1 dX1_loss_36 rfl (lv_at hl 2 rfl) ?_
    refine md_ro (rest := []) G I (met_mleast l D dA dB g (putc cap i j 0) hc2) cw_mleast (by decide) rfl hl.1 (Nat.le_of_ble_eq_true rfl) rfl dX1_loss_37 (fun r_37 hr_37 => ?_)
    obtain ⟨v_37, hv_37, rfl⟩ := hr_37
    refine lv_istore (lv' := [(5, .int (nI v_37)), (4, .int (nI (cap ((6 * i) + j)))), (3, .int (nI v_12)), (0, .ref (g 0)), (1, .int (nI i)), (2, .int (nI j))]) G.1 G.2.1 dX1_loss_40 hl (by decide) rfl (fun ls hl => ?_)
    refine lv_aload_n G.1 G.2.1 dX1_loss_42 rfl (lv_at hl 3 rfl) ?_
    refine lv_iload_n G.1 G.2.1 dX1_loss_43 rfl (lv_at hl 4 rfl) ?_
    refine lv_iload_n G.1 G.2.1 dX1_loss_44 rfl (lv_at hl 5 rfl) ?_
    refine lv_iload G.1 G.2.1 dX1_loss_45 (lv_at hl 1 rfl) ?_
    refine md_mv (rest := []) G I (met_mput l D dA dB g (putc cap i j 0) i j (cap ((6 * i) + j)) (by omega) (by omega)) cw_mput (by decide) rfl hl.1 (Nat.le_of_ble_eq_true rfl) rfl dX1_loss_47 (fun _ H locs _ I _ _ => ?_)
    have I : mdI D dA dB g (mdA g) s H locs (putc (putc cap i j 0) i j (cap ((6 * i) + j))) := I
    refine lv_iload_n G.1 G.2.1 dX1_loss_50 rfl (lv_at hl 2 rfl) ?_
    refine lv_iload G.1 G.2.1 dX1_loss_51 (lv_at hl 0 rfl) ?_
    refine lv_isub G.1 G.2.1 dX1_loss_53 ?_
    have eb : putc (putc cap i j 0) i j (cap (6 * i + j)) = cap := by rw [Nat.mul_comm 6 i]; exact putc_back hc.1 hi hj
    rw [eb] at I
    exact hret _ _ _ _ _ () dX1_loss_54 (Or.inl ⟨i, j, v_12, v_37, hi, hj, hne, rfl, rfl, hv_12, hv_37, rfl⟩) I
  · refine lv_iconst (v := -1) G.1 G.2.1 dX1_loss_9 (by decide) ?_
    exact hret _ _ _ _ _ () dX1_loss_10 (Or.inr ⟨c_6, rfl⟩) I
set_option maxHeartbeats 4000000 in
set_option maxRecDepth 100000 in
theorem met_mtight (l : Launch) (D : va_G) (dA dB : ClassId) (g : Nat → Nat) (cap : Nat → Nat) (hc : CutOK cap) (h30 : ∀ k, k < 36 → cap k ≤ 30) (a b y z : Int32) : Met l yX1_tight (ws_ yX1_tight cX1_tight 8 (some .boolean)) (rmL 3) (va_Pc [.ref (g 0), .int a, .int b, .int y, .int z] (mdU D dA dB g cap)) (va_Qi (fun r (_ : Unit) => tigP cap a b y z r) (fun _ t => mdU D dA dB g cap t) (mdA g)) 0 0 (mdA g) := by
  refine md_metz (own := RX1) (by decide) rfl (Nat.le_of_ble_eq_true rfl) ?_
  intro p e s m args below meth c Q ls G I hret hl
  have hl : lv_has ls 8 [(0, .ref (g 0)), (1, .int a), (2, .int b), (3, .int y), (4, .int z)] := hl
  refine lv_aload_n G.1 G.2.1 dX1_tight_0 rfl (lv_at hl 0 rfl) ?_
  refine lv_iload_n G.1 G.2.1 dX1_tight_1 rfl (lv_at hl 1 rfl) ?_
  refine lv_iload_n G.1 G.2.1 dX1_tight_2 rfl (lv_at hl 2 rfl) ?_
  refine md_ro (rest := []) G I (met_mpair l D dA dB g cap a b) cw_mpair (by decide) rfl hl.1 (Nat.le_of_ble_eq_true rfl) rfl dX1_tight_3 (fun r_3 hr_3 => ?_)
  subst hr_3
  refine n_ifeq (tgt := 19) G dX1_tight_6 (by decide) (fun c_6 => ?_) (fun c_6 => ?_)
  · refine n_iconst (a := 0) G dX1_tight_19 (by decide) ?_
    exact hret _ _ _ _ _ () dX1_tight_20 (Or.inl rfl) (Or.inr ⟨by first | rw [c_6]; rfl | rw [c_16, Bool.and_false], rfl⟩) I
  · refine lv_aload_n G.1 G.2.1 dX1_tight_9 rfl (lv_at hl 0 rfl) ?_
    refine lv_iload_n G.1 G.2.1 dX1_tight_10 rfl (lv_at hl 3 rfl) ?_
    refine lv_iload G.1 G.2.1 dX1_tight_11 (lv_at hl 4 rfl) ?_
    refine md_ro (rest := []) G I (met_mpair l D dA dB g cap y z) cw_mpair (by decide) rfl hl.1 (Nat.le_of_ble_eq_true rfl) rfl dX1_tight_13 (fun r_13 hr_13 => ?_)
    subst hr_13
    refine n_ifne (tgt := 21) G dX1_tight_16 (by decide) (fun c_16 => ?_) (fun c_16 => ?_)
    · obtain ⟨i, j, hi, hj, hne, rfl, rfl⟩ := prB_of c_6
      obtain ⟨x, t, hx, ht, hxt, rfl, rfl⟩ := prB_of c_16
      refine lv_aload_n G.1 G.2.1 dX1_tight_21 rfl (lv_at hl 0 rfl) ?_
      refine lv_iload_n G.1 G.2.1 dX1_tight_22 rfl (lv_at hl 1 rfl) ?_
      refine lv_iload_n G.1 G.2.1 dX1_tight_23 rfl (lv_at hl 2 rfl) ?_
      refine md_ro (rest := []) G I (met_mbetween l D dA dB g cap hc (nI i) (nI j)) cw_mbetween (by decide) rfl hl.1 (Nat.le_of_ble_eq_true rfl) rfl dX1_tight_24 (fun r_24 hr_24 => ?_)
      obtain rfl := betP_lam hi hj hne hr_24
      refine lv_istore (lv' := [(5, .int (nI (lam cap i j))), (0, .ref (g 0)), (1, .int (nI i)), (2, .int (nI j)), (3, .int (nI x)), (4, .int (nI t))]) G.1 G.2.1 dX1_tight_27 hl (by decide) rfl (fun ls hl => ?_)
      refine lv_aload_n G.1 G.2.1 dX1_tight_29 rfl (lv_at hl 1 rfl) ?_
      refine mg_cap G I dX1_tight_30 ?_
      refine n_bipush (a := 6) G dX1_tight_33 (by decide) ?_
      refine lv_iload_n G.1 G.2.1 dX1_tight_35 rfl (lv_at hl 4 rfl) ?_
      refine n_imul G dX1_tight_36 ?_
      refine lv_iload G.1 G.2.1 dX1_tight_37 (lv_at hl 5 rfl) ?_
      refine n_iadd G dX1_tight_39 ?_
      refine mr_cap G I (by omega) dX1_tight_40 ?_
      refine lv_istore (lv' := [(6, .int (nI (cap ((6 * x) + t)))), (5, .int (nI (lam cap i j))), (0, .ref (g 0)), (1, .int (nI i)), (2, .int (nI j)), (3, .int (nI x)), (4, .int (nI t))]) G.1 G.2.1 dX1_tight_41 hl (by decide) rfl (fun ls hl => ?_)
      refine lv_aload_n G.1 G.2.1 dX1_tight_43 rfl (lv_at hl 2 rfl) ?_
      refine lv_iload_n G.1 G.2.1 dX1_tight_44 rfl (lv_at hl 5 rfl) ?_
      refine lv_iload G.1 G.2.1 dX1_tight_45 (lv_at hl 6 rfl) ?_
      refine lv_iload G.1 G.2.1 dX1_tight_47 (lv_at hl 0 rfl) ?_
      refine n_iconst (a := 1) G dX1_tight_49 (by decide) ?_
      refine n_iadd G dX1_tight_50 ?_
      refine md_mv (rest := []) G I (met_mput l D dA dB g cap x t ((cap ((6 * x) + t)) + 1) (by omega) (by omega)) cw_mput (by decide) rfl hl.1 (Nat.le_of_ble_eq_true rfl) rfl dX1_tight_51 (fun _ H locs _ I _ _ => ?_)
      have I : mdI D dA dB g (mdA g) s H locs (putc cap x t ((cap ((6 * x) + t)) + 1)) := I
      have hc2 : CutOK (putc cap x t (cap (6 * x + t) + 1)) := putc_ok hc hx ht (by have := h30 (6 * x + t) (by omega); omega)
      refine lv_aload_n G.1 G.2.1 dX1_tight_54 rfl (lv_at hl 2 rfl) ?_
      refine lv_iload_n G.1 G.2.1 dX1_tight_55 rfl (lv_at hl 3 rfl) ?_
      refine lv_iload_n G.1 G.2.1 dX1_tight_56 rfl (lv_at hl 4 rfl) ?_
      refine md_ro (rest := []) G I (met_mbetween l D dA dB g (putc cap x t ((cap ((6 * x) + t)) + 1)) hc2 (nI i) (nI j)) cw_mbetween (by decide) rfl hl.1 (Nat.le_of_ble_eq_true rfl) rfl dX1_tight_57 (fun r_57 hr_57 => ?_)
      obtain rfl := betP_lam hi hj hne hr_57
      refine lv_istore (lv' := [(7, .int (nI (lam (putc cap x t ((cap ((6 * x) + t)) + 1)) i j))), (6, .int (nI (cap ((6 * x) + t)))), (5, .int (nI (lam cap i j))), (0, .ref (g 0)), (1, .int (nI i)), (2, .int (nI j)), (3, .int (nI x)), (4, .int (nI t))]) G.1 G.2.1 dX1_tight_60 hl (by decide) rfl (fun ls hl => ?_)
      refine lv_aload_n G.1 G.2.1 dX1_tight_62 rfl (lv_at hl 3 rfl) ?_
      refine lv_iload_n G.1 G.2.1 dX1_tight_63 rfl (lv_at hl 6 rfl) ?_
      refine lv_iload G.1 G.2.1 dX1_tight_64 (lv_at hl 7 rfl) ?_
      refine lv_iload G.1 G.2.1 dX1_tight_66 (lv_at hl 1 rfl) ?_
      refine md_mv (rest := []) G I (met_mput l D dA dB g (putc cap x t ((cap ((6 * x) + t)) + 1)) x t (cap ((6 * x) + t)) (by omega) (by omega)) cw_mput (by decide) rfl hl.1 (Nat.le_of_ble_eq_true rfl) rfl dX1_tight_68 (fun _ H locs _ I _ _ => ?_)
      have I : mdI D dA dB g (mdA g) s H locs (putc (putc cap x t ((cap ((6 * x) + t)) + 1)) x t (cap ((6 * x) + t))) := I
      refine lv_iload G.1 G.2.1 dX1_tight_71 (lv_at hl 0 rfl) ?_
      refine lv_iload G.1 G.2.1 dX1_tight_73 (lv_at hl 2 rfl) ?_
      refine n_icmp_le (tgt := 82) G dX1_tight_75 (by decide) (by have := lam_le hc2 hi hj hne; omega) (by have := lam_le hc hi hj hne; omega) (fun c_75 => ?_) (fun c_75 => ?_)
      · refine n_iconst (a := 0) G dX1_tight_82 (by decide) ?_
        have eb : putc (putc cap x t (cap (6 * x + t) + 1)) x t (cap (6 * x + t)) = cap := by rw [Nat.mul_comm 6 x]; exact putc_back hc.1 hx ht
        rw [eb] at I
        have e6 : 6 * x + t = x * 6 + t := by omega
        rw [e6] at c_75
        exact hret _ _ _ _ _ () dX1_tight_83 (Or.inl rfl) (Or.inl ⟨i, j, x, t, _, _, hi, hj, hne, hx, ht, hxt, rfl, rfl, rfl, rfl, lam_min hi hj hne, lam_min hi hj hne, bq0 (decide_eq_false (Nat.not_lt.mpr c_75))⟩) I
      · refine n_iconst (a := 1) G dX1_tight_78 (by decide) ?_
        refine lv_goto (tgt := 83) G.1 G.2.1 dX1_tight_79 (by decide) ?_
        have eb : putc (putc cap x t (cap (6 * x + t) + 1)) x t (cap (6 * x + t)) = cap := by rw [Nat.mul_comm 6 x]; exact putc_back hc.1 hx ht
        rw [eb] at I
        have e6 : 6 * x + t = x * 6 + t := by omega
        rw [e6] at c_75
        exact hret _ _ _ _ _ () dX1_tight_83 (Or.inr rfl) (Or.inl ⟨i, j, x, t, _, _, hi, hj, hne, hx, ht, hxt, rfl, rfl, rfl, rfl, lam_min hi hj hne, lam_min hi hj hne, bq1 (decide_eq_true c_75)⟩) I
    · refine n_iconst (a := 0) G dX1_tight_19 (by decide) ?_
      exact hret _ _ _ _ _ () dX1_tight_20 (Or.inl rfl) (Or.inr ⟨by first | rw [c_6]; rfl | rw [c_16, Bool.and_false], rfl⟩) I
end
section
set_option maxRecDepth 100000
set_option maxHeartbeats 4000000 in
set_option maxRecDepth 100000 in
theorem met_put (l : Launch) (D : va_G) (dA dB : ClassId) (h : Nat → Nat) {cap rm : Nat → Nat} {F : Nat} {ff : Nat → Int32} {ln jn ti ab st : Nat → Nat} (i j v : Nat) (hi : i < 6) (hj : j < 6) : Met l yX0_put (ws_ yX0_put cX0_put 4 none) (rmL 0) (va_Pc [.ref (h 0), .int (nI i), .int (nI j), .int (nI v)] (cfU D dA dB h (cap, rm, F, ff, ln, jn, ti, ab, st))) (va_Qv (fun _ : Unit => True) (fun _ t => cfU D dA dB h (putc cap i j v, rm, F, ff, ln, jn, ti, ab, st) t) (cfA h)) 0 0 (cfA h) := by
  refine cf_metv (own := RX0) (f := fun _ : Unit => (putc cap i j v, rm, F, ff, ln, jn, ti, ab, st)) (by decide) rfl (Nat.le_of_ble_eq_true rfl) ?_
  intro p e s m args below meth c Q ls G I hret hl
  have hl : lv_has ls 4 [(0, .ref (h 0)), (1, .int (nI i)), (2, .int (nI j)), (3, .int (nI v))] := hl
  refine lv_aload_n G.1 G.2.1 dX0_put_0 rfl (lv_at hl 0 rfl) ?_
  refine g_cap G I dX0_put_1 ?_
  refine lv_iload_n G.1 G.2.1 dX0_put_4 rfl (lv_at hl 1 rfl) ?_
  refine n_bipush (a := 6) G dX0_put_5 (by decide) ?_
  refine n_imul G dX0_put_7 ?_
  refine lv_iload_n G.1 G.2.1 dX0_put_8 rfl (lv_at hl 2 rfl) ?_
  refine n_iadd G dX0_put_9 ?_
  refine lv_iload_n G.1 G.2.1 dX0_put_10 rfl (lv_at hl 3 rfl) ?_
  refine w_cap G I (by omega) dX0_put_11 (fun H locs I => ?_)
  refine lv_aload_n G.1 G.2.1 dX0_put_12 rfl (lv_at hl 0 rfl) ?_
  refine g_cap G I dX0_put_13 ?_
  refine lv_iload_n G.1 G.2.1 dX0_put_16 rfl (lv_at hl 2 rfl) ?_
  refine n_bipush (a := 6) G dX0_put_17 (by decide) ?_
  refine n_imul G dX0_put_19 ?_
  refine lv_iload_n G.1 G.2.1 dX0_put_20 rfl (lv_at hl 1 rfl) ?_
  refine n_iadd G dX0_put_21 ?_
  refine lv_iload_n G.1 G.2.1 dX0_put_22 rfl (lv_at hl 3 rfl) ?_
  refine w_cap G I (by omega) dX0_put_23 (fun H locs I => ?_)
  exact hret _ _ _ _ () dX0_put_24 trivial I
theorem cw_put : callWords RX0 43 RX0 yX0_put cX0_put 4 none 3 := ⟨lw_V q64 q66 qs0 q14 q67, by decide +kernel⟩
set_option maxHeartbeats 4000000 in
set_option maxRecDepth 100000 in
theorem met_capacity (l : Launch) (D : va_G) (dA dB : ClassId) (h : Nat → Nat) {cap rm : Nat → Nat} {F : Nat} {ff : Nat → Int32} {ln jn ti ab st : Nat → Nat} (a b : Int32) : Met l yX0_capacity (ws_ yX0_capacity cX0_capacity 3 (some .int)) (rmL 2) (va_Pc [.ref (h 0), .int a, .int b] (cfU D dA dB h (cap, rm, F, ff, ln, jn, ti, ab, st))) (vp_Si (capP cap a b)) 0 0 (fun _ => False) := by
  refine ro_meti (own := RX0) (by decide) rfl (Nat.le_of_ble_eq_true rfl) ?_
  intro p e s m args below meth c Q ls G hU hret hl
  have I : cfI D dA dB h (fun _ => True) s s.heap [] (cap, rm, F, ff, ln, jn, ti, ab, st) := ⟨hU.1, hU.2.1, hU.2.2, va_S.rf⟩
  have hl : lv_has ls 3 [(0, .ref (h 0)), (1, .int a), (2, .int b)] := hl
  refine lv_iload_n G.1 G.2.1 dX0_capacity_0 rfl (lv_at hl 1 rfl) ?_
  refine lv_iload_n G.1 G.2.1 dX0_capacity_1 rfl (lv_at hl 2 rfl) ?_
  refine c_isPair G (by decide) hl.1 (Nat.le_of_ble_eq_true rfl) dX0_capacity_2 ?_
  refine n_ifeq (tgt := 22) G dX0_capacity_5 (by decide) (fun c_5 => ?_) (fun c_5 => ?_)
  · refine lv_iconst (v := -1) G.1 G.2.1 dX0_capacity_22 (by decide) ?_
    exact hret _ _ _ dX0_capacity_23 (Or.inr ⟨c_5, rfl⟩)
  · obtain ⟨i, j, hi, hj, hne, rfl, rfl⟩ := prB_of c_5
    refine lv_aload_n G.1 G.2.1 dX0_capacity_8 rfl (lv_at hl 0 rfl) ?_
    refine g_cap G I dX0_capacity_9 ?_
    refine lv_iload_n G.1 G.2.1 dX0_capacity_12 rfl (lv_at hl 1 rfl) ?_
    refine n_bipush (a := 6) G dX0_capacity_13 (by decide) ?_
    refine n_imul G dX0_capacity_15 ?_
    refine lv_iload_n G.1 G.2.1 dX0_capacity_16 rfl (lv_at hl 2 rfl) ?_
    refine n_iadd G dX0_capacity_17 ?_
    refine r_cap G I (by omega) dX0_capacity_18 ?_
    refine lv_goto (tgt := 23) G.1 G.2.1 dX0_capacity_19 (by decide) ?_
    exact hret _ _ _ dX0_capacity_23 (Or.inl ⟨i, j, hi, hj, hne, rfl, rfl, rfl⟩)
set_option maxHeartbeats 4000000 in
set_option maxRecDepth 100000 in
theorem met_set (l : Launch) (D : va_G) (dA dB : ClassId) (h : Nat → Nat) {cap rm : Nat → Nat} {F : Nat} {ff : Nat → Int32} {ln jn ti ab st : Nat → Nat} (a b v : Int32) : Met l yX0_set (ws_ yX0_set cX0_set 4 (some .boolean)) (rmL 2) (va_Pc [.ref (h 0), .int a, .int b, .int v] (cfU D dA dB h (cap, rm, F, ff, ln, jn, ti, ab, st))) (va_Qi (fun r (_ : Unit) => r = b2i (stB a b v)) (fun _ t => cfU D dA dB h (setc cap a b v, rm, F, ff, ln, jn, ti, ab, st) t) (cfA h)) 0 0 (cfA h) := by
  refine cf_metz (own := RX0) (f := fun _ : Unit => (setc cap a b v, rm, F, ff, ln, jn, ti, ab, st)) (by decide) rfl (Nat.le_of_ble_eq_true rfl) ?_
  intro p e s m args below meth c Q ls G I hret hl
  have hl : lv_has ls 4 [(0, .ref (h 0)), (1, .int a), (2, .int b), (3, .int v)] := hl
  refine lv_iload_n G.1 G.2.1 dX0_set_0 rfl (lv_at hl 1 rfl) ?_
  refine lv_iload_n G.1 G.2.1 dX0_set_1 rfl (lv_at hl 2 rfl) ?_
  refine c_isPair G (by decide) hl.1 (Nat.le_of_ble_eq_true rfl) dX0_set_2 ?_
  refine n_ifeq (tgt := 18) G dX0_set_5 (by decide) (fun c_5 => ?_) (fun c_5 => ?_)
  · refine n_iconst (a := 0) G dX0_set_18 (by decide) ?_
    have hf : stB a b v = false := by first | exact stB_f1 c_5 | exact stB_f2 c_9 | exact stB_f3 c_15
    exact hret _ _ _ _ _ () dX0_set_19 (Or.inl rfl) (bq0 hf) (by rw [setc_f hf]; exact I)
  · refine lv_iload_n G.1 G.2.1 dX0_set_8 rfl (lv_at hl 3 rfl) ?_
    refine lv_if_lt (tgt := 18) G.1 G.2.1 dX0_set_9 (by decide) (fun c_9 => ?_) (fun c_9 => ?_)
    · refine n_iconst (a := 0) G dX0_set_18 (by decide) ?_
      have hf : stB a b v = false := by first | exact stB_f1 c_5 | exact stB_f2 c_9 | exact stB_f3 c_15
      exact hret _ _ _ _ _ () dX0_set_19 (Or.inl rfl) (bq0 hf) (by rw [setc_f hf]; exact I)
    · refine lv_iload_n G.1 G.2.1 dX0_set_12 rfl (lv_at hl 3 rfl) ?_
      refine n_bipush (a := 30) G dX0_set_13 (by decide) ?_
      refine lv_icmp_le (tgt := 20) G.1 G.2.1 dX0_set_15 (by decide) (fun c_15 => ?_) (fun c_15 => ?_)
      · obtain ⟨i, j, hi, hj, hne, rfl, rfl⟩ := prB_of c_5
        obtain ⟨x, hx, rfl⟩ := le30 c_9 c_15
        refine lv_aload_n G.1 G.2.1 dX0_set_20 rfl (lv_at hl 0 rfl) ?_
        refine lv_iload_n G.1 G.2.1 dX0_set_21 rfl (lv_at hl 1 rfl) ?_
        refine lv_iload_n G.1 G.2.1 dX0_set_22 rfl (lv_at hl 2 rfl) ?_
        refine lv_iload_n G.1 G.2.1 dX0_set_23 rfl (lv_at hl 3 rfl) ?_
        refine cf_mv (rest := []) G I (met_put l D dA dB h (cap := cap) (rm := rm) (F := F) (ff := ff) (ln := ln) (jn := jn) (ti := ti) (ab := ab) (st := st) i j x (by omega) (by omega)) cw_put (by decide) rfl hl.1 (Nat.le_of_ble_eq_true rfl) rfl dX0_set_24 (fun u_24 H locs hr_24 I _ _ => ?_)
        have I : cfI D dA dB h (cfA h) s H locs ((putc cap i j x), rm, F, ff, ln, jn, ti, ab, st) := I
        refine n_iconst (a := 1) G dX0_set_27 (by decide) ?_
        exact hret _ _ _ _ _ () dX0_set_28 (Or.inr rfl) (bq1 (setc_t (c := cap) hi hj hne hx).1) (by rw [(setc_t hi hj hne hx).2]; exact I)
      · refine n_iconst (a := 0) G dX0_set_18 (by decide) ?_
        have hf : stB a b v = false := by first | exact stB_f1 c_5 | exact stB_f2 c_9 | exact stB_f3 c_15
        exact hret _ _ _ _ _ () dX0_set_19 (Or.inl rfl) (bq0 hf) (by rw [setc_f hf]; exact I)
set_option maxHeartbeats 4000000 in
set_option maxRecDepth 100000 in
theorem met_cost (l : Launch) (D : va_G) (dA dB : ClassId) (h : Nat → Nat) {cap rm : Nat → Nat} {F : Nat} {ff : Nat → Int32} {ln jn ti ab st : Nat → Nat} (a : Int32) : Met l yX0_cost (ws_ yX0_cost cX0_cost 5 (some .int)) (rmL 1) (va_Pc [.ref (h 0), .int a] (cfU D dA dB h (cap, rm, F, ff, ln, jn, ti, ab, st))) (vp_Si (cosP cap a)) 0 0 (fun _ => False) := by
  refine ro_meti (own := RX0) (by decide) rfl (Nat.le_of_ble_eq_true rfl) ?_
  intro p e s m args below meth c Q ls G hU hret hl
  have I : cfI D dA dB h (fun _ => True) s s.heap [] (cap, rm, F, ff, ln, jn, ti, ab, st) := ⟨hU.1, hU.2.1, hU.2.2, va_S.rf⟩
  have hl : lv_has ls 5 [(0, .ref (h 0)), (1, .int a)] := hl
  have loop : ∀ S, 1 ≤ S → S ≤ 62 → a = nI S → ∀ n i, i ≤ 6 → 7 ≤ i + n → ∀ (ls : Array Slot), lv_has ls 5 [(0, .ref (h 0)), (1, .int (nI S)), (2, .int (nI (cstA cap S i))), (3, .int (nI i))] → W p l e (rmL 1) s m args below meth c s.heap [] 0 0 Q (F0 m 17 ls []) := by
    intro S hS1 hS2 ea n
    induction n with
    | zero =>
      intro i h1 h2
      exact absurd h2 (by omega)
    | succ n ih =>
      intro i hi hn ls hl
      refine lv_iload_n G.1 G.2.1 dX0_cost_17 rfl (lv_at hl 3 rfl) ?_
      refine n_bipush (a := 6) G dX0_cost_18 (by decide) ?_
      refine n_icmp_ge (tgt := 81) G dX0_cost_20 (by decide) (by omega) (by omega) (fun c_20 => ?_) (fun c_20 => ?_)
      · refine lv_iload_n G.1 G.2.1 dX0_cost_81 rfl (lv_at hl 2 rfl) ?_
        obtain rfl : i = 6 := by omega
        rw [cstA_6]
        exact hret _ _ _ dX0_cost_82 (Or.inl ⟨S, hS1, hS2, ea, rfl⟩)
      · refine n_iconst (a := 0) G dX0_cost_23 (by decide) ?_
        refine lv_istore (lv' := [(4, .int (nI 0)), (0, .ref (h 0)), (1, .int (nI S)), (2, .int (nI (cstA cap S i))), (3, .int (nI i))]) G.1 G.2.1 dX0_cost_24 hl (by decide) rfl (fun ls hl => ?_)
        have inner : ∀ n' j, j ≤ 6 → 7 ≤ j + n' → ∀ (ls : Array Slot), lv_has ls 5 [(0, .ref (h 0)), (1, .int (nI S)), (2, .int (nI (cstA cap S i + sm j (fun b => ctr cap S i b)))), (3, .int (nI i)), (4, .int (nI j))] → W p l e (rmL 1) s m args below meth c s.heap [] 0 0 Q (F0 m 26 ls []) := by
          intro n'
          induction n' with
          | zero =>
            intro j h1 h2
            exact absurd h2 (by omega)
          | succ n' ih' =>
            intro j hj hn' ls hl
            refine lv_iload G.1 G.2.1 dX0_cost_26 (lv_at hl 4 rfl) ?_
            refine n_bipush (a := 6) G dX0_cost_28 (by decide) ?_
            refine n_icmp_ge (tgt := 75) G dX0_cost_30 (by decide) (by omega) (by omega) (fun c_30 => ?_) (fun c_30 => ?_)
            · refine n_iinc (b := 1) (lv' := [(3, .int (nI (i + 1))), (0, .ref (h 0)), (1, .int (nI S)), (2, .int (nI (cstA cap S i + sm j (fun b => ctr cap S i b)))), (4, .int (nI j))]) G dX0_cost_75 hl (q := 3) rfl (by decide) (by decide) rfl (fun ls hl => ?_)
              refine lv_goto (tgt := 17) G.1 G.2.1 dX0_cost_78 (by decide) ?_
              obtain rfl : j = 6 := by omega
              refine ih (i + 1) (by omega) (by omega) ls ?_
              rw [cstA_s]
              exact (lv_sub hl [1, 2, 3, 0] rfl)
            · refine lv_iload_n G.1 G.2.1 dX0_cost_33 rfl (lv_at hl 2 rfl) ?_
              refine lv_iload_n G.1 G.2.1 dX0_cost_34 rfl (lv_at hl 1 rfl) ?_
              refine lv_iload_n G.1 G.2.1 dX0_cost_35 rfl (lv_at hl 3 rfl) ?_
              refine c_in G (by omega) (by omega) (by decide) hl.1 (Nat.le_of_ble_eq_true rfl) dX0_cost_36 ?_
              refine n_ifeq (tgt := 66) G dX0_cost_39 (by decide) (fun c_39 => ?_) (fun c_39 => ?_)
              · refine n_iconst (a := 0) G dX0_cost_66 (by decide) ?_
                refine n_iadd G dX0_cost_67 ?_
                refine lv_istore_n (lv' := [(2, .int (nI ((cstA cap S i + sm j (fun b => ctr cap S i b)) + 0))), (0, .ref (h 0)), (1, .int (nI S)), (3, .int (nI i)), (4, .int (nI j))]) G.1 G.2.1 dX0_cost_68 rfl hl (by decide) rfl (fun ls hl => ?_)
                refine n_iinc (b := 1) (lv' := [(4, .int (nI (j + 1))), (2, .int (nI ((cstA cap S i + sm j (fun b => ctr cap S i b)) + 0))), (0, .ref (h 0)), (1, .int (nI S)), (3, .int (nI i))]) G dX0_cost_69 hl (q := 4) rfl (by decide) (by decide) rfl (fun ls hl => ?_)
                refine lv_goto (tgt := 26) G.1 G.2.1 dX0_cost_72 (by decide) ?_
                refine ih' (j + 1) (by omega) (by omega) ls ?_
                rw [show sm (j + 1) (fun b => ctr cap S i b) = sm j (fun b => ctr cap S i b) + ctr cap S i j from rfl]
                first | rw [ctr_0a c_39, ← Nat.add_assoc] | rw [ctr_0b c_48, ← Nat.add_assoc]
                exact (lv_sub hl [2, 3, 1, 4, 0] rfl)
              · refine lv_iload_n G.1 G.2.1 dX0_cost_42 rfl (lv_at hl 1 rfl) ?_
                refine lv_iload G.1 G.2.1 dX0_cost_43 (lv_at hl 4 rfl) ?_
                refine c_in G (by omega) (by omega) (by decide) hl.1 (Nat.le_of_ble_eq_true rfl) dX0_cost_45 ?_
                refine n_ifne (tgt := 66) G dX0_cost_48 (by decide) (fun c_48 => ?_) (fun c_48 => ?_)
                · refine n_iconst (a := 0) G dX0_cost_66 (by decide) ?_
                  refine n_iadd G dX0_cost_67 ?_
                  refine lv_istore_n (lv' := [(2, .int (nI ((cstA cap S i + sm j (fun b => ctr cap S i b)) + 0))), (0, .ref (h 0)), (1, .int (nI S)), (3, .int (nI i)), (4, .int (nI j))]) G.1 G.2.1 dX0_cost_68 rfl hl (by decide) rfl (fun ls hl => ?_)
                  refine n_iinc (b := 1) (lv' := [(4, .int (nI (j + 1))), (2, .int (nI ((cstA cap S i + sm j (fun b => ctr cap S i b)) + 0))), (0, .ref (h 0)), (1, .int (nI S)), (3, .int (nI i))]) G dX0_cost_69 hl (q := 4) rfl (by decide) (by decide) rfl (fun ls hl => ?_)
                  refine lv_goto (tgt := 26) G.1 G.2.1 dX0_cost_72 (by decide) ?_
                  refine ih' (j + 1) (by omega) (by omega) ls ?_
                  rw [show sm (j + 1) (fun b => ctr cap S i b) = sm j (fun b => ctr cap S i b) + ctr cap S i j from rfl]
                  first | rw [ctr_0a c_39, ← Nat.add_assoc] | rw [ctr_0b c_48, ← Nat.add_assoc]
                  exact (lv_sub hl [2, 3, 1, 4, 0] rfl)
                · refine lv_aload_n G.1 G.2.1 dX0_cost_51 rfl (lv_at hl 0 rfl) ?_
                  refine g_cap G I dX0_cost_52 ?_
                  refine lv_iload_n G.1 G.2.1 dX0_cost_55 rfl (lv_at hl 3 rfl) ?_
                  refine n_bipush (a := 6) G dX0_cost_56 (by decide) ?_
                  refine n_imul G dX0_cost_58 ?_
                  refine lv_iload G.1 G.2.1 dX0_cost_59 (lv_at hl 4 rfl) ?_
                  refine n_iadd G dX0_cost_61 ?_
                  refine r_cap G I (by omega) dX0_cost_62 ?_
                  refine lv_goto (tgt := 67) G.1 G.2.1 dX0_cost_63 (by decide) ?_
                  refine n_iadd G dX0_cost_67 ?_
                  refine lv_istore_n (lv' := [(2, .int (nI ((cstA cap S i + sm j (fun b => ctr cap S i b)) + (cap ((i * 6) + j))))), (0, .ref (h 0)), (1, .int (nI S)), (3, .int (nI i)), (4, .int (nI j))]) G.1 G.2.1 dX0_cost_68 rfl hl (by decide) rfl (fun ls hl => ?_)
                  refine n_iinc (b := 1) (lv' := [(4, .int (nI (j + 1))), (2, .int (nI ((cstA cap S i + sm j (fun b => ctr cap S i b)) + (cap ((i * 6) + j))))), (0, .ref (h 0)), (1, .int (nI S)), (3, .int (nI i))]) G dX0_cost_69 hl (q := 4) rfl (by decide) (by decide) rfl (fun ls hl => ?_)
                  refine lv_goto (tgt := 26) G.1 G.2.1 dX0_cost_72 (by decide) ?_
                  refine ih' (j + 1) (by omega) (by omega) ls ?_
                  rw [show sm (j + 1) (fun b => ctr cap S i b) = sm j (fun b => ctr cap S i b) + ctr cap S i j from rfl, ctr_1 c_39 c_48, ← Nat.add_assoc]
                  exact (lv_sub hl [2, 3, 1, 4, 0] rfl)
        exact inner 7 0 (by omega) (by omega) ls (lv_sub hl [1, 2, 3, 4, 0] rfl)
  refine lv_iload_n G.1 G.2.1 dX0_cost_0 rfl (lv_at hl 1 rfl) ?_
  refine n_iconst (a := 1) G dX0_cost_1 (by decide) ?_
  refine lv_icmp_lt (tgt := 11) G.1 G.2.1 dX0_cost_2 (by decide) (fun c_2 => ?_) (fun c_2 => ?_)
  · refine lv_iconst (v := -1) G.1 G.2.1 dX0_cost_11 (by decide) ?_
    first | exact hret _ _ _ dX0_cost_12 (Or.inr ⟨lt1_no c_2, rfl⟩) | exact hret _ _ _ dX0_cost_12 (Or.inr ⟨ge63_no c_8, rfl⟩)
  · refine lv_iload_n G.1 G.2.1 dX0_cost_5 rfl (lv_at hl 1 rfl) ?_
    refine n_bipush (a := 63) G dX0_cost_6 (by decide) ?_
    refine lv_icmp_lt (tgt := 13) G.1 G.2.1 dX0_cost_8 (by decide) (fun c_8 => ?_) (fun c_8 => ?_)
    · obtain ⟨S, hS1, hS2, ea⟩ := side_of c_2 c_8
      rw [ea] at hl
      refine n_iconst (a := 0) G dX0_cost_13 (by decide) ?_
      refine lv_istore_n (lv' := [(2, .int (nI 0)), (0, .ref (h 0)), (1, .int (nI S))]) G.1 G.2.1 dX0_cost_14 rfl hl (by decide) rfl (fun ls hl => ?_)
      refine n_iconst (a := 0) G dX0_cost_15 (by decide) ?_
      refine lv_istore_n (lv' := [(3, .int (nI 0)), (2, .int (nI 0)), (0, .ref (h 0)), (1, .int (nI S))]) G.1 G.2.1 dX0_cost_16 rfl hl (by decide) rfl (fun ls hl => ?_)
      exact loop S hS1 hS2 ea 7 0 (by omega) (by omega) ls (lv_sub hl [2, 3, 1, 0] rfl)
    · refine lv_iconst (v := -1) G.1 G.2.1 dX0_cost_11 (by decide) ?_
      first | exact hret _ _ _ dX0_cost_12 (Or.inr ⟨lt1_no c_2, rfl⟩) | exact hret _ _ _ dX0_cost_12 (Or.inr ⟨ge63_no c_8, rfl⟩)
end
section
/-! what spread finds: plain numbers -/
theorem upd_s (f : Nat → Int32) (k : Nat) (v : Int32) : upd f k v k = v := pk_us
theorem upd_n {f : Nat → Int32} {k j : Nat} {v : Int32} (h : j ≠ k) : upd f k v j = f j := pk_un h
theorem up_s {α : Type} (f : Nat → α) (k : Nat) (v : α) : va_up f k v k = v := by unfold va_up; rw [if_pos rfl]
theorem up_n {α : Type} {f : Nat → α} {k j : Nat} {v : α} (h : j ≠ k) : va_up f k v j = f j := by unfold va_up; rw [if_neg h]
theorem tb_or_self (F b : Nat) : (F ||| 2 ^ b).testBit b = true := by rw [tb_or]; simp
theorem tb_or_ne {F b v : Nat} (h : v ≠ b) : (F ||| 2 ^ b).testBit v = F.testBit v := by rw [tb_or, decide_eq_false (fun z => h z.symm), Bool.or_false]
theorem tb_or_mono {F b v : Nat} (h : F.testBit v = true) : (F ||| 2 ^ b).testBit v = true := by rw [tb_or, h, Bool.true_or]
/-- the queue: en places, all different, those of F -/
def qOK (F : Nat) (ln : Nat → Nat) (en : Nat) : Prop := F < 64 ∧ en = pcn F ∧ (∀ i, i < en → ln i < 6 ∧ F.testBit (ln i) = true) ∧ (∀ v, v < 6 → F.testBit v = true → ∃ i, i < en ∧ ln i = v) ∧ (∀ i j, i < en → j < en → ln i = ln j → i = j)
theorem qOK_le {F : Nat} {ln : Nat → Nat} {en : Nat} (h : qOK F ln en) : en ≤ 6 := by rw [h.2.1]; exact pcn_le F
theorem qOK_add {F b : Nat} {ln : Nat → Nat} {en : Nat} (h : qOK F ln en) (hb : b < 6) (hF : F.testBit b = false) : en < 6 ∧ qOK (F ||| 2 ^ b) (va_up ln en b) (en + 1) := by
  obtain ⟨h1, h2, h3, h4, h5⟩ := h
  have hlt := pcn_lt hb hF
  refine ⟨by omega, tb_or_lt h1 hb, by rw [pcn_add hb hF, h2], ?_, ?_, ?_⟩
  · intro i hi
    by_cases hie : i = en
    · rw [hie, up_s]
      exact ⟨hb, tb_or_self F b⟩
    · rw [up_n hie]
      obtain ⟨a, b'⟩ := h3 i (by omega)
      exact ⟨a, tb_or_mono b'⟩
  · intro v hv hbit
    by_cases hvb : v = b
    · exact ⟨en, by omega, by rw [up_s, hvb]⟩
    · rw [tb_or_ne hvb] at hbit
      obtain ⟨i, hi, e⟩ := h4 v hv hbit
      exact ⟨i, by omega, by rw [up_n (by omega)]; exact e⟩
  · intro i j hi hj e
    have nb : ∀ k, k < en → ln k ≠ b := fun k hk z => by
      have := (h3 k hk).2
      rw [z, hF] at this
      cases this
    by_cases hie : i = en <;> by_cases hje : j = en
    · omega
    · rw [hie, up_s, up_n hje] at e
      exact absurd e.symm (nb j (by omega))
    · rw [hje, up_s, up_n hie] at e
      exact absurd e (nb i (by omega))
    · rw [up_n hie, up_n hje] at e
      exact h5 i j (by omega) (by omega) e
/-! first loop: the sources -/
def sp1 (S a F : Nat) (ff : Nat → Int32) (ln : Nat → Nat) (en : Nat) : Prop := qOK F ln en ∧ (∀ v, v < 6 → F.testBit v = (S.testBit v && decide (v < a))) ∧ ∀ v, v < 6 → F.testBit v = true → ff v = -1
theorem sp1_0 (S : Nat) (ff : Nat → Int32) (ln : Nat → Nat) : sp1 S 0 0 ff ln 0 := by
  refine ⟨⟨by omega, pcn_0.symm, fun i hi => absurd hi (by omega), fun v _ h => ?_, fun i j hi => absurd hi (by omega)⟩, fun v _ => ?_, fun v _ h => ?_⟩
  · rw [tb_0] at h; cases h
  · rw [tb_0, decide_eq_false (by omega), Bool.and_false]
  · rw [tb_0] at h; cases h
theorem sp1_le {S a F : Nat} {ff : Nat → Int32} {ln : Nat → Nat} {en : Nat} (h : sp1 S a F ff ln en) : en ≤ 6 ∧ F < 64 := ⟨qOK_le h.1, h.1.1⟩
theorem sp1_out {S a F : Nat} {ff : Nat → Int32} {ln : Nat → Nat} {en : Nat} (h : sp1 S a F ff ln en) (hS : S.testBit a = false) : sp1 S (a + 1) F ff ln en := by
  refine ⟨h.1, fun v hv => ?_, h.2.2⟩
  rw [h.2.1 v hv]
  by_cases hva : v = a
  · rw [hva, hS]; rfl
  · rw [show decide (v < a) = decide (v < a + 1) by apply decide_eq_decide.mpr; omega]
theorem sp1_in {S a F : Nat} {ff : Nat → Int32} {ln : Nat → Nat} {en : Nat} (h : sp1 S a F ff ln en) (ha : a < 6) (hS : S.testBit a = true) : sp1 S (a + 1) (F ||| 2 ^ a) (upd ff a (-1)) (va_up ln en a) (en + 1) := by
  have hF : F.testBit a = false := by rw [h.2.1 a ha, decide_eq_false (by omega), Bool.and_false]
  refine ⟨(qOK_add h.1 ha hF).2, fun v hv => ?_, fun v hv hb => ?_⟩
  · by_cases hva : v = a
    · rw [hva, tb_or_self, hS, decide_eq_true (by omega)]; rfl
    · rw [tb_or_ne hva, h.2.1 v hv, show decide (v < a) = decide (v < a + 1) by apply decide_eq_decide.mpr; omega]
  · by_cases hva : v = a
    · rw [hva, upd_s]
    · rw [tb_or_ne hva] at hb
      rw [upd_n hva]
      exact h.2.2 v hv hb
/-! second loop: place k of the queue is looked at, its neighbours below b are done -/
def bfs (S G : Nat) (r : Nat → Nat) (k b F : Nat) (ff : Nat → Int32) (ln : Nat → Nat) (en : Nat) (lev : Nat → Nat) : Prop :=
  qOK F ln en ∧ k ≤ en ∧ (∀ i j, i ≤ j → j < en → lev (ln i) ≤ lev (ln j)) ∧ (∀ i, i < en → lev (ln i) ≤ i) ∧ (k < en → ∀ i, i < en → lev (ln i) ≤ lev (ln k) + 1) ∧
  (∀ v, v < 6 → S.testBit v = true → F.testBit v = true ∧ ff v = -1 ∧ lev v = 0) ∧
  (∀ v, v < 6 → F.testBit v = true → S.testBit v = false → ∃ u, u < 6 ∧ F.testBit u = true ∧ ff v = nI u ∧ 0 < r (u * 6 + v) ∧ lev v = lev u + 1) ∧
  (∀ v, v < 6 → F.testBit v = true → G.testBit v = false) ∧
  (∀ i, i < k → ∀ v, v < 6 → 0 < r (ln i * 6 + v) → F.testBit v = true ∧ lev v ≤ lev (ln i) + 1) ∧
  (k < en → ∀ v, v < b → v < 6 → 0 < r (ln k * 6 + v) → F.testBit v = true)
def spI (S G : Nat) (r : Nat → Nat) (k b F : Nat) (ff : Nat → Int32) (ln : Nat → Nat) (en : Nat) : Prop := ∃ lev, bfs S G r k b F ff ln en lev
theorem sp_start {S G F : Nat} {r : Nat → Nat} {ff : Nat → Int32} {ln : Nat → Nat} {en : Nat} (h : sp1 S 6 F ff ln en) (hSG : S &&& G = 0) (hS : S < 64) : spI S G r 0 0 F ff ln en := by
  have hd := (dis_iff hS).mp hSG
  have e : ∀ v, v < 6 → F.testBit v = S.testBit v := fun v hv => by rw [h.2.1 v hv, decide_eq_true hv, Bool.and_true]
  refine ⟨fun _ => 0, h.1, Nat.zero_le _, fun _ _ _ _ => Nat.le_refl _, fun _ _ => Nat.zero_le _, fun _ _ _ => Nat.zero_le _, fun v hv hb => ⟨by rw [e v hv]; exact hb, h.2.2 v hv (by rw [e v hv]; exact hb), rfl⟩, fun v hv hb hn => ?_, fun v hv hb => hd v hv (by rw [← e v hv]; exact hb), fun i hi => absurd hi (by omega), fun _ v hv => absurd hv (by omega)⟩
  rw [e v hv, hn] at hb
  cases hb
theorem sp_le {S G k b F : Nat} {r : Nat → Nat} {ff : Nat → Int32} {ln : Nat → Nat} {en : Nat} (h : spI S G r k b F ff ln en) : en ≤ 6 ∧ F < 64 ∧ k ≤ en := by
  obtain ⟨lev, h⟩ := h
  exact ⟨qOK_le h.1, h.1.1, h.2.1⟩
theorem sp_ln {S G k b F : Nat} {r : Nat → Nat} {ff : Nat → Int32} {ln : Nat → Nat} {en : Nat} (h : spI S G r k b F ff ln en) (hk : k < en) : ln k < 6 := by
  obtain ⟨lev, h⟩ := h
  exact (h.1.2.2.1 k hk).1
theorem sp_next {S G k F : Nat} {r : Nat → Nat} {ff : Nat → Int32} {ln : Nat → Nat} {en : Nat} (h : spI S G r k 6 F ff ln en) (hk : k < en) : spI S G r (k + 1) 0 F ff ln en := by
  obtain ⟨lev, h1, h2, h3, h4, h5, h6, h7, h8, h9, h10⟩ := h
  refine ⟨lev, h1, by omega, h3, h4, fun hk2 i hi => ?_, h6, h7, h8, fun i hi v hv hr => ?_, fun _ v hv => absurd hv (by omega)⟩
  · have a := h5 hk i hi
    have b := h3 k (k + 1) (by omega) hk2
    omega
  · rcases lt_split hi with q | rfl
    · exact h9 i q v hv hr
    · have hF := h10 hk v hv hv hr
      refine ⟨hF, ?_⟩
      obtain ⟨j, hj, e⟩ := h1.2.2.2.1 v hv hF
      rw [← e]
      exact h5 hk j hj
theorem sp_skip {S G k b F : Nat} {r : Nat → Nat} {ff : Nat → Int32} {ln : Nat → Nat} {en : Nat} (h : spI S G r k b F ff ln en) (hb : F.testBit b = true ∨ r (ln k * 6 + b) = 0) : spI S G r k (b + 1) F ff ln en := by
  obtain ⟨lev, h1, h2, h3, h4, h5, h6, h7, h8, h9, h10⟩ := h
  refine ⟨lev, h1, h2, h3, h4, h5, h6, h7, h8, h9, fun hk v hv hv6 hr => ?_⟩
  rcases lt_split hv with q | rfl
  · exact h10 hk v q hv6 hr
  · rcases hb with z | z
    · exact z
    · omega
/-- what is common to a place newly found, goal or not -/
theorem sp_add {S G k b F : Nat} {r : Nat → Nat} {ff : Nat → Int32} {ln : Nat → Nat} {en : Nat} {lev : Nat → Nat} (h : bfs S G r k b F ff ln en lev) (hk : k < en) (hb : b < 6) (hF : F.testBit b = false) (hr : 0 < r (ln k * 6 + b)) (hG : G.testBit b = false) : spI S G r k (b + 1) (F ||| 2 ^ b) (upd ff b (nI (ln k))) (va_up ln en b) (en + 1) := by
  obtain ⟨h1, h2, h3, h4, h5, h6, h7, h8, h9, h10⟩ := h
  have hq := qOK_add h1 hb hF
  have hl6 := fun i hi => (h1.2.2.1 i hi).1
  have nb : ∀ i, i < en → ln i ≠ b := fun i hi z => by
    have := (h1.2.2.1 i hi).2
    rw [z, hF] at this
    cases this
  have nf : ∀ v, F.testBit v = true → v ≠ b := fun v hv z => by rw [z, hF] at hv; cases hv
  have hkb := nb k hk
  refine ⟨va_up lev b (lev (ln k) + 1), hq.2, by omega, ?_, ?_, ?_, ?_, ?_, ?_, ?_, ?_⟩
  · intro i j hij hj
    by_cases hje : j = en
    · by_cases hie : i = en
      · rw [hie, hje]; exact Nat.le_refl _
      · rw [hje, up_s, up_s, up_n hie, up_n (nb i (by omega))]
        exact h5 hk i (by omega)
    · rw [up_n hje, up_n (by omega : i ≠ en), up_n (nb i (by omega)), up_n (nb j (by omega))]
      exact h3 i j hij (by omega)
  · intro i hi
    by_cases hie : i = en
    · rw [hie, up_s, up_s]
      have := h4 k hk
      omega
    · rw [up_n hie, up_n (nb i (by omega))]
      exact h4 i (by omega)
  · intro _ i hi
    rw [up_n (by omega : k ≠ en), up_n hkb]
    by_cases hie : i = en
    · rw [hie, up_s, up_s]; exact Nat.le_refl _
    · rw [up_n hie, up_n (nb i (by omega))]
      exact h5 hk i (by omega)
  · intro v hv hS
    obtain ⟨a1, a2, a3⟩ := h6 v hv hS
    have hvb := nf v a1
    exact ⟨tb_or_mono a1, by rw [upd_n hvb]; exact a2, by rw [up_n hvb]; exact a3⟩
  · intro v hv hbit hS
    by_cases hvb : v = b
    · subst hvb
      exact ⟨ln k, hl6 k hk, tb_or_mono (h1.2.2.1 k hk).2, upd_s ff v _, hr, by rw [up_s, up_n hkb]⟩
    · rw [tb_or_ne hvb] at hbit
      obtain ⟨u, u1, u2, u3, u4, u5⟩ := h7 v hv hbit hS
      exact ⟨u, u1, tb_or_mono u2, by rw [upd_n hvb]; exact u3, u4, by rw [up_n hvb, up_n (nf u u2)]; exact u5⟩
  · intro v hv hbit
    by_cases hvb : v = b
    · rw [hvb]; exact hG
    · rw [tb_or_ne hvb] at hbit
      exact h8 v hv hbit
  · intro i hi v hv hr'
    rw [up_n (by omega : i ≠ en)] at hr' ⊢
    obtain ⟨a1, a2⟩ := h9 i hi v hv hr'
    exact ⟨tb_or_mono a1, by rw [up_n (nf v a1), up_n (nb i (by omega))]; exact a2⟩
  · intro _ v hv hv6 hr'
    rw [up_n (by omega : k ≠ en)] at hr'
    rcases lt_split hv with q | rfl
    · exact tb_or_mono (h10 hk v q hv6 hr')
    · exact tb_or_self F v
theorem sp_new {S G k b F : Nat} {r : Nat → Nat} {ff : Nat → Int32} {ln : Nat → Nat} {en : Nat} (h : spI S G r k b F ff ln en) (hk : k < en) (hb : b < 6) (hF : F.testBit b = false) (hr : 0 < r (ln k * 6 + b)) (hG : G.testBit b = false) : spI S G r k (b + 1) (F ||| 2 ^ b) (upd ff b (nI (ln k))) (va_up ln en b) (en + 1) := by
  obtain ⟨lev, h⟩ := h
  exact sp_add h hk hb hF hr hG
/-! the end without a goal: what is found is what can be come to -/
def spNone (S G : Nat) (r : Nat → Nat) (F : Nat) : Prop := F < 64 ∧ (∀ v, v < 6 → S.testBit v = true → F.testBit v = true) ∧ (∀ v, v < 6 → F.testBit v = true → G.testBit v = false) ∧ (∀ u, u < 6 → ∀ v, v < 6 → F.testBit u = true → 0 < r (u * 6 + v) → F.testBit v = true) ∧
  ∀ P : Nat → Bool, (∀ v, v < 6 → S.testBit v = true → P v = true) → (∀ u, u < 6 → ∀ v, v < 6 → P u = true → 0 < r (u * 6 + v) → P v = true) → ∀ v, v < 6 → F.testBit v = true → P v = true
theorem sp_end {S G k b F : Nat} {r : Nat → Nat} {ff : Nat → Int32} {ln : Nat → Nat} {en : Nat} (h : spI S G r k b F ff ln en) (hk : en ≤ k) : spNone S G r F := by
  obtain ⟨lev, h1, h2, h3, h4, h5, h6, h7, h8, h9, h10⟩ := h
  refine ⟨h1.1, fun v hv hS => (h6 v hv hS).1, h8, fun u hu v hv hF hr => ?_, fun P hS hcl => ?_⟩
  · obtain ⟨i, hi, e⟩ := h1.2.2.2.1 u hu hF
    subst e
    exact (h9 i (by omega) v hv hr).1
  · have key : ∀ n v, v < 6 → F.testBit v = true → lev v ≤ n → P v = true := by
      intro n
      induction n with
      | zero =>
        intro v hv hF hl
        cases hs : S.testBit v with
        | true => exact hS v hv hs
        | false =>
          obtain ⟨u, _, _, _, _, u5⟩ := h7 v hv hF hs
          omega
      | succ n ih =>
        intro v hv hF hl
        cases hs : S.testBit v with
        | true => exact hS v hv hs
        | false =>
          obtain ⟨u, u1, u2, _, u4, u5⟩ := h7 v hv hF hs
          exact hcl u u1 v hv (ih u u1 u2 (by omega)) u4
    intro v hv hF
    exact key (lev v) v hv hF (Nat.le_refl _)
/-! the end at a goal: a way to it, shortest -/
def pth (S : Nat) (d : Nat → Nat) (ff : Nat → Int32) : Nat → List Nat → Prop
  | v, [] => v < 6 ∧ ff v = -1 ∧ S.testBit v = true ∧ d v = 0
  | v, u :: t => v < 6 ∧ u < 6 ∧ ff v = nI u ∧ d v = d u + 1 ∧ pth S d ff u t
def mnE (r : Nat → Nat) (x : Nat) : Nat → List Nat → Prop
  | _, [] => True
  | v, u :: t => x ≤ r (u * 6 + v) ∧ mnE r x u t
def atE (r : Nat → Nat) (x : Nat) : Nat → List Nat → Prop
  | _, [] => False
  | v, u :: t => r (u * 6 + v) = x ∨ atE r x u t
def vld (d r : Nat → Nat) : Prop := ∀ u, u < 6 → ∀ v, v < 6 → 0 < r (u * 6 + v) → d v ≤ d u + 1
def spFound (S G : Nat) (r : Nat → Nat) (b : Nat) (ff : Nat → Int32) : Prop := b < 6 ∧ G.testBit b = true ∧ ∃ (d : Nat → Nat) (t : List Nat), 1 ≤ d b ∧ d b ≤ 6 ∧ vld d r ∧ (∀ v, v < 6 → S.testBit v = true → d v = 0) ∧ (∀ v, v < 6 → G.testBit v = true → d v = d b) ∧ pth S d ff b t ∧ mnE r 1 b t
theorem sp_goal {S G k b F : Nat} {r : Nat → Nat} {ff : Nat → Int32} {ln : Nat → Nat} {en : Nat} (h : spI S G r k b F ff ln en) (hk : k < en) (hb : b < 6) (hF : F.testBit b = false) (hr : 0 < r (ln k * 6 + b)) (hG : G.testBit b = true) : spFound S G r b (upd ff b (nI (ln k))) := by
  obtain ⟨lev, h⟩ := h
  obtain ⟨h1, h2, h3, h4, h5, h6, h7, h8, h9, h10⟩ := h
  have hen := qOK_le h1
  have hl6 := fun i hi => (h1.2.2.1 i hi).1
  have nf : ∀ v, F.testBit v = true → v ≠ b := fun v hv z => by rw [z, hF] at hv; cases hv
  -- the labels: levels of what is found, one more than the present place's for the rest
  have dF : ∀ v, F.testBit v = true → (fun v => if F.testBit v = true then lev v else lev (ln k) + 1) v = lev v := fun v hv => if_pos hv
  have dN : ∀ v, F.testBit v = false → (fun v => if F.testBit v = true then lev v else lev (ln k) + 1) v = lev (ln k) + 1 := fun v hv => if_neg (by rw [hv]; decide)
  generalize hd : (fun v => if F.testBit v = true then lev v else lev (ln k) + 1) = d at dF dN
  have hmax : ∀ v, v < 6 → d v ≤ lev (ln k) + 1 := by
    intro v hv
    cases hf : F.testBit v with
    | true =>
      rw [dF v hf]
      obtain ⟨i, hi, e⟩ := h1.2.2.2.1 v hv hf
      rw [← e]
      exact h5 hk i hi
    | false => rw [dN v hf]; exact Nat.le_refl _
  -- the way
  have way : ∀ n v, v < 6 → F.testBit v = true → lev v ≤ n → ∃ t, pth S d (upd ff b (nI (ln k))) v t ∧ mnE r 1 v t := by
    intro n
    induction n with
    | zero =>
      intro v hv hf hl
      cases hs : S.testBit v with
      | true =>
        obtain ⟨_, a2, a3⟩ := h6 v hv hs
        exact ⟨[], ⟨hv, by rw [upd_n (nf v hf)]; exact a2, hs, by rw [dF v hf]; exact a3⟩, trivial⟩
      | false =>
        obtain ⟨u, _, _, _, _, u5⟩ := h7 v hv hf hs
        omega
    | succ n ih =>
      intro v hv hf hl
      cases hs : S.testBit v with
      | true =>
        obtain ⟨_, a2, a3⟩ := h6 v hv hs
        exact ⟨[], ⟨hv, by rw [upd_n (nf v hf)]; exact a2, hs, by rw [dF v hf]; exact a3⟩, trivial⟩
      | false =>
        obtain ⟨u, u1, u2, u3, u4, u5⟩ := h7 v hv hf hs
        obtain ⟨t, t1, t2⟩ := ih u u1 u2 (by omega)
        exact ⟨u :: t, ⟨hv, u1, by rw [upd_n (nf v hf)]; exact u3, by rw [dF v hf, dF u u2]; exact u5, t1⟩, u4, t2⟩
  have hlk := (h1.2.2.1 k hk).2
  obtain ⟨t, t1, t2⟩ := way (lev (ln k)) (ln k) (hl6 k hk) hlk (Nat.le_refl _)
  have h4k := h4 k hk
  refine ⟨hb, hG, d, ln k :: t, by rw [dN b hF]; omega, by rw [dN b hF]; omega, ?_, ?_, ?_, ⟨hb, hl6 k hk, upd_s _ _ _, by rw [dN b hF, dF _ hlk], t1⟩, hr, t2⟩
  · intro u hu v hv hruv
    have hm := hmax v hv
    cases hfu : F.testBit u with
    | false => rw [dN u hfu]; omega
    | true =>
      rw [dF u hfu]
      obtain ⟨i, hi, e⟩ := h1.2.2.2.1 u hu hfu
      rcases Nat.lt_trichotomy i k with q | q | q
      · rw [← e] at hruv ⊢
        obtain ⟨a1, a2⟩ := h9 i q v hv hruv
        rw [dF v a1]; exact a2
      · rw [← e, q]; exact hm
      · have := h3 k i (by omega) hi
        rw [← e]; omega
  · intro v hv hs
    obtain ⟨a1, _, a3⟩ := h6 v hv hs
    rw [dF v a1]; exact a3
  · intro v hv hg
    cases hf : F.testBit v with
    | true => have := h8 v hv hf; rw [hg] at this; cases this
    | false => rw [dN v hf, dN b hF]
end
section
/-! pushing along a way, and why 128 rounds are enough: plain numbers -/
def up2 (r : Nat → Nat) (x u v : Nat) : Nat → Nat := va_up (va_up r (u * 6 + v) (r (u * 6 + v) - x)) (v * 6 + u) (va_up r (u * 6 + v) (r (u * 6 + v) - x) (v * 6 + u) + x)
def pushP (x : Nat) : (Nat → Nat) → Nat → List Nat → Nat → Nat
  | r, _, [] => r
  | r, v, u :: t => pushP x (up2 r x u v) u t
theorem up2_at {r : Nat → Nat} {x u v p q : Nat} (hu : u < 6) (hv : v < 6) (hp : p < 6) (hq : q < 6) (hne : u ≠ v) : up2 r x u v (p * 6 + q) = if p = u ∧ q = v then r (u * 6 + v) - x else if p = v ∧ q = u then r (v * 6 + u) + x else r (p * 6 + q) := by
  unfold up2
  by_cases h1 : p = v ∧ q = u
  · obtain ⟨rfl, rfl⟩ := h1
    rw [up_s, up_n (by omega), if_neg (by omega), if_pos ⟨rfl, rfl⟩]
  · rw [up_n (by omega)]
    by_cases h2 : p = u ∧ q = v
    · obtain ⟨rfl, rfl⟩ := h2
      rw [up_s, if_pos ⟨rfl, rfl⟩]
    · rw [up_n (by omega), if_neg h2, if_neg h1]
theorem up2_sum {r : Nat → Nat} {x u v p q : Nat} (hu : u < 6) (hv : v < 6) (hp : p < 6) (hq : q < 6) (hne : u ≠ v) (hx : x ≤ r (u * 6 + v)) : up2 r x u v (p * 6 + q) + up2 r x u v (q * 6 + p) = r (p * 6 + q) + r (q * 6 + p) := by
  rw [up2_at hu hv hp hq hne, up2_at hu hv hq hp hne]
  by_cases h1 : p = u ∧ q = v
  · obtain ⟨rfl, rfl⟩ := h1
    rw [if_pos ⟨rfl, rfl⟩, if_neg (by omega), if_pos ⟨rfl, rfl⟩]
    omega
  · by_cases h2 : p = v ∧ q = u
    · obtain ⟨rfl, rfl⟩ := h2
      rw [if_neg h1, if_pos ⟨rfl, rfl⟩, if_pos ⟨rfl, rfl⟩]
      omega
    · rw [if_neg h1, if_neg h2, if_neg (by omega), if_neg (by omega)]
theorem cst_up {r : Nat → Nat} {u v y : Nat} (P : Nat → Bool) (hu : u < 6) (hv : v < 6) : cst (mx (va_up r (u * 6 + v) y)) P + (if (P u && !P v) = true then r (u * 6 + v) else 0) = cst (mx r) P + (if (P u && !P v) = true then y else 0) := by
  have h := s2_one (f := fun a b => if (P a && !P b) = true then mx r a b else 0) (g := fun a b => if (P a && !P b) = true then mx (va_up r (u * 6 + v) y) a b else 0) hu hv (fun a ha b hb hne => by
    have e : mx (va_up r (u * 6 + v) y) a b = mx r a b := up_n (by omega)
    simp only [e])
  have e : mx (va_up r (u * 6 + v) y) u v = y := up_s _ _ _
  simp only [e] at h
  exact h
theorem cst_up2 {r : Nat → Nat} {x u v : Nat} (P : Nat → Bool) (hu : u < 6) (hv : v < 6) (hx : x ≤ r (u * 6 + v)) : cst (mx (up2 r x u v)) P + (if (P u && !P v) = true then x else 0) = cst (mx r) P + (if (P v && !P u) = true then x else 0) := by
  have h1 := cst_up (r := r) (y := r (u * 6 + v) - x) P hu hv
  have h2 := cst_up (r := va_up r (u * 6 + v) (r (u * 6 + v) - x)) (y := va_up r (u * 6 + v) (r (u * 6 + v) - x) (v * 6 + u) + x) P hv hu
  have e : up2 r x u v = va_up (va_up r (u * 6 + v) (r (u * 6 + v) - x)) (v * 6 + u) (va_up r (u * 6 + v) (r (u * 6 + v) - x) (v * 6 + u) + x) := rfl
  rw [← e] at h2
  revert h1 h2
  cases P u <;> cases P v <;> simp <;> omega
/-- how many links go from a place to one of the next label -/
def Ed (d r : Nat → Nat) : Nat := s2 (fun u v => if 0 < r (u * 6 + v) ∧ d v = d u + 1 then 1 else 0)
theorem Ed_le (d r : Nat → Nat) : Ed d r ≤ 18 := by
  have h1 : Ed d r + Ed d r = s2 (fun u v => (if 0 < r (u * 6 + v) ∧ d v = d u + 1 then 1 else 0) + (if 0 < r (v * 6 + u) ∧ d u = d v + 1 then 1 else 0)) := by
    rw [s2_add]
    unfold Ed
    rw [← s2_swap (fun u v => if 0 < r (u * 6 + v) ∧ d v = d u + 1 then 1 else 0)]
  have h2 := s2_bound (B := 1) (f := fun u v => (if 0 < r (u * 6 + v) ∧ d v = d u + 1 then 1 else 0) + (if 0 < r (v * 6 + u) ∧ d u = d v + 1 then 1 else 0)) (fun a _ b _ => by
    by_cases e1 : 0 < r (a * 6 + b) ∧ d b = d a + 1
    · rw [if_pos e1, if_neg (by omega)]; exact Nat.le_refl _
    · rw [if_neg e1]; split <;> omega)
  omega
theorem pth_in {S : Nat} {d : Nat → Nat} {ff : Nat → Int32} : ∀ {v : Nat} {t : List Nat}, pth S d ff v t → v < 6
  | _, [], h => h.1
  | _, _ :: _, h => h.1
/-- what lies above a label doesn't touch the way below it -/
theorem mnE_keep {S x : Nat} {d : Nat → Nat} {ff : Nat → Int32} {r r' : Nat → Nat} {n : Nat} (hk : ∀ p q, p < 6 → q < 6 → d p ≤ n → d q ≤ n → r' (p * 6 + q) = r (p * 6 + q)) : ∀ {v : Nat} {t : List Nat}, pth S d ff v t → d v ≤ n → (mnE r x v t → mnE r' x v t) ∧ (atE r x v t → atE r' x v t)
  | _, [], _, _ => ⟨fun h => h, fun h => h⟩
  | v, u :: t, h, hd => by
    obtain ⟨h1, h2, _, h4, h5⟩ := h
    have ih := mnE_keep (x := x) hk h5 (by omega)
    have e := hk u v h2 h1 (by omega) hd
    refine ⟨fun q => ⟨by rw [e]; exact q.1, ih.1 q.2⟩, fun q => ?_⟩
    rcases q with q | q
    · exact Or.inl (by rw [e]; exact q)
    · exact Or.inr (ih.2 q)
theorem push_all {S x : Nat} {d : Nat → Nat} {ff : Nat → Int32} (hx0 : 0 < x) : ∀ (t : List Nat) (v : Nat) (r : Nat → Nat), pth S d ff v t → mnE r x v t →
    (∀ p, p < 6 → ∀ q, q < 6 → pushP x r v t (p * 6 + q) + pushP x r v t (q * 6 + p) = r (p * 6 + q) + r (q * 6 + p)) ∧
    (∀ P : Nat → Bool, (∀ v, v < 6 → S.testBit v = true → P v = true) → cst (mx (pushP x r v t)) P + (if P v = true then 0 else x) = cst (mx r) P) ∧
    (vld d r → vld d (pushP x r v t)) ∧ Ed d (pushP x r v t) ≤ Ed d r ∧ (atE r x v t → Ed d (pushP x r v t) < Ed d r) := by
  intro t
  induction t with
  | nil =>
    intro v r hp hm
    refine ⟨fun _ _ _ _ => rfl, fun P hP => ?_, fun h => h, Nat.le_refl _, fun h => h.elim⟩
    show cst (mx r) P + (if P v = true then 0 else x) = cst (mx r) P
    rw [hP v hp.1 hp.2.2.1, if_pos rfl, Nat.add_zero]
  | cons u t ih =>
    intro v r hp hm
    obtain ⟨hv, hu, hff, hd, hp'⟩ := hp
    obtain ⟨hxr, hm'⟩ := hm
    have hne : u ≠ v := fun z => by rw [z] at hd; omega
    have keep : ∀ p q, p < 6 → q < 6 → d p ≤ d u → d q ≤ d u → up2 r x u v (p * 6 + q) = r (p * 6 + q) := by
      intro p q h1 h2 h3 h4
      rw [up2_at hu hv h1 h2 hne, if_neg (by rintro ⟨_, rfl⟩; omega), if_neg (by rintro ⟨rfl, _⟩; omega)]
    have hk := mnE_keep (x := x) keep hp' (Nat.le_refl _)
    obtain ⟨i1, i2, i3, i4, i5⟩ := ih u (up2 r x u v) hp' (hk.1 hm')
    -- one link
    have e_le : ∀ a, a < 6 → ∀ b, b < 6 → (if 0 < up2 r x u v (a * 6 + b) ∧ d b = d a + 1 then 1 else 0) ≤ (if 0 < r (a * 6 + b) ∧ d b = d a + 1 then 1 else 0) := by
      intro a ha b hb
      by_cases z : d b = d a + 1
      · have : 0 < up2 r x u v (a * 6 + b) → 0 < r (a * 6 + b) := by
          rw [up2_at hu hv ha hb hne]
          by_cases q1 : a = u ∧ b = v
          · rw [if_pos q1, q1.1, q1.2]; omega
          · rw [if_neg q1, if_neg (by rintro ⟨rfl, rfl⟩; omega)]; exact fun h => h
        by_cases w : 0 < up2 r x u v (a * 6 + b)
        · rw [if_pos ⟨w, z⟩, if_pos ⟨this w, z⟩]; exact Nat.le_refl _
        · rw [if_neg (fun q => w q.1)]; exact Nat.zero_le _
      · rw [if_neg (fun q => z q.2), if_neg (fun q => z q.2)]; exact Nat.le_refl _
    have hEle : Ed d (up2 r x u v) ≤ Ed d r := s2_le e_le
    refine ⟨fun p h1 q h2 => ?_, fun P hP => ?_, fun hvl => i3 ?_, Nat.le_trans i4 hEle, fun ha => ?_⟩
    · show pushP x (up2 r x u v) u t (p * 6 + q) + pushP x (up2 r x u v) u t (q * 6 + p) = _
      rw [i1 p h1 q h2, up2_sum hu hv h1 h2 hne hxr]
    · have a1 := i2 P hP
      have a2 := cst_up2 P hu hv hxr
      show cst (mx (pushP x (up2 r x u v) u t)) P + (if P v = true then 0 else x) = cst (mx r) P
      revert a1 a2
      cases P u <;> cases P v <;> simp <;> omega
    · intro a ha b hb hpos
      rw [up2_at hu hv ha hb hne] at hpos
      by_cases q1 : a = u ∧ b = v
      · rw [q1.1, q1.2]; omega
      · rw [if_neg q1] at hpos
        by_cases q2 : a = v ∧ b = u
        · rw [q2.1, q2.2]; omega
        · rw [if_neg q2] at hpos
          exact hvl a ha b hb hpos
    · show Ed d (pushP x (up2 r x u v) u t) < Ed d r
      rcases ha with ha | ha
      · refine Nat.lt_of_le_of_lt i4 (s2_lt e_le hu hv ?_)
        have e0 : up2 r x u v (u * 6 + v) = 0 := by rw [up2_at hu hv hu hv hne, if_pos ⟨rfl, rfl⟩]; omega
        rw [e0, if_neg (by omega), if_pos ⟨by omega, hd⟩]
        omega
      · exact Nat.lt_of_lt_of_le (i5 (hk.2 ha)) hEle
/-! labels along a way -/
theorem pth_le {S : Nat} {d d' r : Nat → Nat} {ff : Nat → Int32} (hvl : vld d r) (hS : ∀ v, v < 6 → S.testBit v = true → d v = 0) : ∀ {v : Nat} {t : List Nat}, pth S d' ff v t → mnE r 1 v t → d v ≤ d' v
  | v, [], h, _ => by rw [hS v h.1 h.2.2.1]; exact Nat.zero_le _
  | v, u :: t, h, hm => by
    have ih := pth_le hvl hS h.2.2.2.2 hm.2
    have h2 := hvl u h.2.1 v h.1 (by have := hm.1; omega)
    have h3 := h.2.2.2.1
    omega
theorem pth_tight {S : Nat} {d d' r : Nat → Nat} {ff : Nat → Int32} (hvl : vld d r) (hS : ∀ v, v < 6 → S.testBit v = true → d v = 0) : ∀ {v : Nat} {t : List Nat}, pth S d' ff v t → mnE r 1 v t → d v = d' v → pth S d ff v t
  | v, [], h, _, _ => ⟨h.1, h.2.1, h.2.2.1, hS v h.1 h.2.2.1⟩
  | v, u :: t, h, hm, e => by
    have h1 := pth_le hvl hS h.2.2.2.2 hm.2
    have h2 := hvl u h.2.1 v h.1 (by have := hm.1; omega)
    have h3 := h.2.2.2.1
    exact ⟨h.1, h.2.1, h.2.2.1, by omega, pth_tight hvl hS h.2.2.2.2 hm.2 (by omega)⟩
theorem mnE_mono {r : Nat → Nat} {x y : Nat} (h : y ≤ x) : ∀ {v : Nat} {t : List Nat}, mnE r x v t → mnE r y v t
  | _, [], _ => trivial
  | _, _ :: _, q => ⟨Nat.le_trans h q.1, mnE_mono h q.2⟩
/-! the flow's loop -/
def flI (c : Nat → Nat) (S G : Nat) (r : Nat → Nat) (sum rd : Nat) : Prop :=
  (∀ P : Nat → Bool, (∀ v, v < 6 → S.testBit v = true → P v = true) → (∀ v, v < 6 → G.testBit v = true → P v = false) → cst (mx r) P + sum = cst (mx c) P) ∧
  (∀ u, u < 6 → ∀ v, v < 6 → r (u * 6 + v) + r (v * 6 + u) = c (u * 6 + v) + c (v * 6 + u)) ∧
  ∃ (L : Nat) (d : Nat → Nat), L ≤ 6 ∧ vld d r ∧ (∀ v, v < 6 → S.testBit v = true → d v = 0) ∧ (∀ v, v < 6 → G.testBit v = true → L ≤ d v) ∧ rd + 19 * (6 - L) + Ed d r ≤ 127
theorem flI_0 {c r : Nat → Nat} {S G : Nat} (h : ∀ k, k < 36 → r k = c k) : flI c S G r 0 0 := by
  refine ⟨fun P _ _ => ?_, fun u hu v hv => by rw [h _ (by omega), h _ (by omega)], 0, fun _ => 0, by omega, fun _ _ _ _ _ => Nat.zero_le _, fun _ _ _ => rfl, fun _ _ _ => Nat.le_refl _, ?_⟩
  · rw [Nat.add_zero]
    exact cst_mx (fun a ha b hb => h _ (by omega))
  · have : Ed (fun _ => 0) r = 0 := s2_zero (fun a _ b _ => if_neg (fun z => absurd z.2 (by dsimp only; omega)))
    omega
theorem flI_rd {c r : Nat → Nat} {S G sum rd : Nat} (h : flI c S G r sum rd) : rd < 128 := by
  obtain ⟨_, _, L, d, _, _, _, _, h⟩ := h
  omega
theorem flI_le {c r : Nat → Nat} {S G sum rd : Nat} (hc : CutOK c) (h : flI c S G r sum rd) : ∀ k, k < 36 → r k ≤ 62 := by
  intro k hk
  have h1 := h.2.1 (k / 6) (by omega) (k % 6) (by omega)
  have h2 := hc.2 (k / 6 * 6 + k % 6) (by omega)
  have h3 := hc.2 (k % 6 * 6 + k / 6) (by omega)
  have e : k / 6 * 6 + k % 6 = k := by omega
  rw [e] at h1 h2
  omega
theorem flI_push {c r : Nat → Nat} {S G sum rd b x : Nat} {ff : Nat → Int32} {d' : Nat → Nat} {t : List Nat} (h : flI c S G r sum rd) (hb : b < 6) (hG : G.testBit b = true) (hd1 : 1 ≤ d' b) (hd6 : d' b ≤ 6) (hvl : vld d' r) (hS : ∀ v, v < 6 → S.testBit v = true → d' v = 0) (hG' : ∀ v, v < 6 → G.testBit v = true → d' v = d' b) (hp : pth S d' ff b t) (hm1 : mnE r 1 b t) (hx0 : 0 < x) (hm : mnE r x b t) (ha : atE r x b t) : flI c S G (pushP x r b t) (sum + x) (rd + 1) := by
  obtain ⟨a1, a2, L, d, hL, dv, dS, dG, hms⟩ := h
  obtain ⟨p1, p2, p3, p4, p5⟩ := push_all hx0 t b r hp hm
  refine ⟨fun P hPS hPG => ?_, fun u hu v hv => by rw [p1 u hu v hv, a2 u hu v hv], ?_⟩
  · have q1 := a1 P hPS hPG
    have q2 := p2 P hPS
    rw [hPG b hb hG] at q2
    simp at q2
    omega
  · have hle := pth_le dv dS hp hm1
    have hLb := dG b hb hG
    rcases Nat.lt_or_ge (d b) (d' b) with q | q
    · refine ⟨d' b, d', hd6, p3 hvl, hS, fun v hv hg => by rw [hG' v hv hg]; exact Nat.le_refl _, ?_⟩
      have e1 := p5 ha
      have e2 := Ed_le d' r
      omega
    · have ht := pth_tight dv dS hp hm1 (by omega)
      obtain ⟨_, _, o3, _, o5⟩ := push_all hx0 t b r ht hm
      refine ⟨L, d, hL, o3 dv, dS, dG, ?_⟩
      have e1 := o5 ha
      omega
/-- the answer of flow: the least cost, and the least of the cheapest sides -/
def floP (c : Nat → Nat) (S G v F : Nat) : Prop := isMin c S G v ∧ F < 64 ∧ okP S G F.testBit ∧ cst (mx c) F.testBit = v ∧ ∀ P, okP S G P → cst (mx c) P = v → ∀ q, q < 6 → F.testBit q = true → P q = true
theorem flI_end {c r : Nat → Nat} {S G sum rd F : Nat} (hS : S < 64) (hG : G < 64) (hS0 : S ≠ 0) (hG0 : G ≠ 0) (h : flI c S G r sum rd) (hn : spNone S G r F) : floP c S G sum F := by
  obtain ⟨a1, _, _⟩ := h
  obtain ⟨n1, n2, n3, n4, n5⟩ := hn
  have hG' : ∀ v, v < 6 → G.testBit v = true → F.testBit v = false := by
    intro v hv hg
    cases hf : F.testBit v with
    | false => rfl
    | true => have := n3 v hv hf; rw [hg] at this; cases this
  have hok : okP S G F.testBit := by
    obtain ⟨a, ha, hb⟩ := tb_some hS hS0
    obtain ⟨b, hb6, hb'⟩ := tb_some hG hG0
    exact ⟨⟨a, ha, n2 a ha hb⟩, ⟨b, hb6, hG' b hb6 hb'⟩, n2, hG'⟩
  have h0 : cst (mx r) F.testBit = 0 := s2_zero (fun a ha b hb => by
    by_cases z : (F.testBit a && !F.testBit b) = true
    · rw [if_pos z]
      rw [Bool.and_eq_true, Bool.not_eq_true'] at z
      rcases Nat.eq_zero_or_pos (mx r a b) with q | q
      · exact q
      · have := n4 a ha b hb z.1 q
        rw [z.2] at this
        cases this
    · rw [if_neg z])
  have hF : cst (mx c) F.testBit = sum := by
    have := a1 F.testBit n2 hG'
    omega
  refine ⟨⟨⟨F.testBit, hok, hF⟩, fun P hP => ?_⟩, n1, hok, hF, fun P hP hv => ?_⟩
  · have := a1 P hP.2.2.1 hP.2.2.2
    omega
  · have h1 := a1 P hP.2.2.1 hP.2.2.2
    have h2 : cst (mx r) P = 0 := by omega
    refine n5 P hP.2.2.1 (fun u hu v hv hpu hr => ?_)
    cases hpv : P v with
    | true => rfl
    | false =>
      have h3 := s2_ge (f := fun a b => if (P a && !P b) = true then mx r a b else 0) hu hv
      have h4 : s2 (fun a b => if (P a && !P b) = true then mx r a b else 0) = 0 := h2
      rw [h4] at h3
      simp only [hpu, hpv] at h3
      have : mx r u v = r (u * 6 + v) := rfl
      simp at h3
      omega
end
section
set_option maxRecDepth 100000
section FROWS
variable {p : Program} {l : Launch} {e : Env} {R : Room} {s : State} {m : MethodId} {args : Array Value} {below : List Frame} {meth : Method} {c : Code} {H : Heap} {locs : List Loc} {cells slots : Nat} {Q : State → Prop}
variable {cc : ByteArray} {own : String} {nL pc : Nat} {ls : Array Slot} {rest : List Value}
theorem n_ifltN (G : CallFix p m c cc nL s args lw_all own) {a : Nat} (ha : a < 2 ^ 31) {off : Int} {tgt : Nat} (hdg : decode cc pc = .ok (.ifCond .lt off, 3)) (ht : (pc : Int) + off = (tgt : Int)) (k : W p l e R s m args below meth c H locs cells slots Q (F0 m (pc + 3) ls rest)) : W p l e R s m args below meth c H locs cells slots Q (F0 m pc ls (.int (nI a) :: rest)) :=
  lv_if_lt G.1 G.2.1 hdg ht (fun q => absurd q (nI_pos ha)) (fun _ => k)
theorem n_ifgeN (G : CallFix p m c cc nL s args lw_all own) {a : Nat} (ha : a < 2 ^ 31) {off : Int} {tgt : Nat} (hdg : decode cc pc = .ok (.ifCond .ge off, 3)) (ht : (pc : Int) + off = (tgt : Int)) (k : W p l e R s m args below meth c H locs cells slots Q (F0 m tgt ls rest)) : W p l e R s m args below meth c H locs cells slots Q (F0 m pc ls (.int (nI a) :: rest)) :=
  lv_if_ge G.1 G.2.1 hdg ht (fun _ => k) (fun q => absurd (nI_pos' ha) q)
theorem n_ifltM (G : CallFix p m c cc nL s args lw_all own) {off : Int} {tgt : Nat} (hdg : decode cc pc = .ok (.ifCond .lt off, 3)) (ht : (pc : Int) + off = (tgt : Int)) (k : W p l e R s m args below meth c H locs cells slots Q (F0 m tgt ls rest)) : W p l e R s m args below meth c H locs cells slots Q (F0 m pc ls (.int (-1) :: rest)) :=
  lv_if_lt G.1 G.2.1 hdg ht (fun _ => k) (fun q => absurd (by decide) q)
theorem n_ifgeM (G : CallFix p m c cc nL s args lw_all own) {off : Int} {tgt : Nat} (hdg : decode cc pc = .ok (.ifCond .ge off, 3)) (ht : (pc : Int) + off = (tgt : Int)) (k : W p l e R s m args below meth c H locs cells slots Q (F0 m (pc + 3) ls rest)) : W p l e R s m args below meth c H locs cells slots Q (F0 m pc ls (.int (-1) :: rest)) :=
  lv_if_ge G.1 G.2.1 hdg ht (fun q => absurd q (by decide)) (fun _ => k)
end FROWS
theorem push_keep {S x u v : Nat} {d : Nat → Nat} {ff : Nat → Int32} {r : Nat → Nat} {t : List Nat} (hp : pth S d ff v (u :: t)) (hm : mnE r x v (u :: t)) : mnE (up2 r x u v) x u t := by
  obtain ⟨hv, hu, hff, hd, hp'⟩ := hp
  have hne : u ≠ v := fun z => by rw [z] at hd; omega
  refine (mnE_keep (x := x) (n := d u) (fun p q h1 h2 h3 h4 => ?_) hp' (Nat.le_refl _)).1 hm.2
  rw [up2_at hu hv h1 h2 hne, if_neg (by rintro ⟨_, rfl⟩; omega), if_neg (by rintro ⟨rfl, _⟩; omega)]
theorem atE_pos {r : Nat → Nat} {x : Nat} : ∀ {v : Nat} {t : List Nat}, atE r x v t → mnE r 1 v t → 0 < x
  | _, [], h, _ => h.elim
  | _, _ :: _, h, hm => by
    rcases h with h | h
    · have := hm.1
      omega
    · exact atE_pos h hm.2
theorem pth_ne {S : Nat} {d : Nat → Nat} {ff : Nat → Int32} {r : Nat → Nat} {v x : Nat} {t : List Nat} (h : pth S d ff v t) (hd : 1 ≤ d v) (hm : mnE r x v t) (hr : ∀ k, k < 36 → r k < 1048576) : x ≠ 1048576 := by
  cases t with
  | nil => have := h.2.2.2; omega
  | cons u t =>
    have h1 := hm.1
    have h2 := hr (u * 6 + v) (by have := h.1; have := h.2.1; omega)
    omega
set_option maxHeartbeats 4000000 in
set_option maxRecDepth 100000 in
theorem met_spread (l : Launch) (D : va_G) (dA dB : ClassId) (h : Nat → Nat) {cap rm : Nat → Nat} {F : Nat} {ff : Nat → Int32} {ln jn ti ab st : Nat → Nat} (S G' : Nat) (hS : S < 64) (hG : G' < 64) (hSG : S &&& G' = 0) (hr : ∀ k, k < 36 → rm k < 2 ^ 31) : Met l yX0_spread (ws_ yX0_spread cX0_spread 7 (some .int)) (rmL 1) (va_Pc [.ref (h 0), .int (nI S), .int (nI G')] (cfU D dA dB h (cap, rm, F, ff, ln, jn, ti, ab, st))) (va_Qi (fun r (u : Nat × (Nat → Int32) × (Nat → Nat)) => (r = -1 ∧ spNone S G' rm u.1) ∨ ∃ b, r = nI b ∧ spFound S G' rm b u.2.1) (fun u t => cfU D dA dB h (cap, rm, u.1, u.2.1, u.2.2, jn, ti, ab, st) t) (cfA h)) 0 0 (cfA h) := by
  refine cf_meti (own := RX0) (f := fun u : Nat × (Nat → Int32) × (Nat → Nat) => (cap, rm, u.1, u.2.1, u.2.2, jn, ti, ab, st)) (by decide) rfl (Nat.le_of_ble_eq_true rfl) ?_
  intro p e s m args below meth c Q ls G I hret hl
  have hl : lv_has ls 7 [(0, .ref (h 0)), (1, .int (nI S)), (2, .int (nI G'))] := hl
  have loop2 : ∀ (n k en : Nat) (F : Nat) (ff : Nat → Int32) (ln : Nat → Nat) (H : Heap) (locs : List Loc), 7 ≤ k + n → spI S G' rm k 0 F ff ln en → cfI D dA dB h (cfA h) s H locs (cap, rm, F, ff, ln, jn, ti, ab, st) → ∀ (ls : Array Slot), lv_has ls 7 [(0, .ref (h 0)), (1, .int (nI S)), (2, .int (nI G')), (3, .int (nI en)), (4, .int (nI k))] → W p l e (rmL 1) s m args below meth c H locs 0 0 Q (F0 m 68 ls []) := by
    intro n
    induction n with
    | zero =>
      intro k en F ff ln H locs h1 hI
      have := sp_le hI
      exact absurd h1 (by omega)
    | succ n ih =>
      intro k en F ff ln H locs hn hI I ls hl
      have hle := sp_le hI
      refine lv_iload G.1 G.2.1 dX0_spread_68 (lv_at hl 4 rfl) ?_
      refine lv_iload_n G.1 G.2.1 dX0_spread_70 rfl (lv_at hl 3 rfl) ?_
      refine n_icmp_ge (tgt := 187) G dX0_spread_71 (by decide) (by omega) (by omega) (fun c_71 => ?_) (fun c_71 => ?_)
      · refine lv_iconst (v := -1) G.1 G.2.1 dX0_spread_187 (by decide) ?_
        exact hret _ _ _ _ _ (F, ff, ln) dX0_spread_188 (Or.inl ⟨rfl, sp_end hI (by omega)⟩) I
      · refine lv_iload G.1 G.2.1 dX0_spread_74 (lv_at hl 4 rfl) ?_
        refine n_bipush (a := 6) G dX0_spread_76 (by decide) ?_
        refine n_icmp_ge (tgt := 187) G dX0_spread_78 (by decide) (by omega) (by omega) (fun c_78 => ?_) (fun c_78 => ?_)
        · refine lv_iconst (v := -1) G.1 G.2.1 dX0_spread_187 (by decide) ?_
          exact hret _ _ _ _ _ (F, ff, ln) dX0_spread_188 (Or.inl ⟨rfl, sp_end hI (by omega)⟩) I
        · refine lv_aload_n G.1 G.2.1 dX0_spread_81 rfl (lv_at hl 0 rfl) ?_
          refine g_ln G I dX0_spread_82 ?_
          refine lv_iload G.1 G.2.1 dX0_spread_85 (lv_at hl 4 rfl) ?_
          refine r_ln G I (by omega) dX0_spread_87 ?_
          refine lv_istore (lv' := [(5, .int (nI (ln k))), (0, .ref (h 0)), (1, .int (nI S)), (2, .int (nI G')), (3, .int (nI en)), (4, .int (nI k))]) G.1 G.2.1 dX0_spread_88 hl (by decide) rfl (fun ls hl => ?_)
          refine n_iconst (a := 0) G dX0_spread_90 (by decide) ?_
          refine lv_istore (lv' := [(6, .int (nI 0)), (5, .int (nI (ln k))), (0, .ref (h 0)), (1, .int (nI S)), (2, .int (nI G')), (3, .int (nI en)), (4, .int (nI k))]) G.1 G.2.1 dX0_spread_91 hl (by decide) rfl (fun ls hl => ?_)
          have hk : k < en := c_71
          have hln := sp_ln hI hk
          have inner : ∀ (n' a b en : Nat) (F : Nat) (ff : Nat → Int32) (ln : Nat → Nat) (H : Heap) (locs : List Loc), b ≤ 6 → 7 ≤ b + n' → k < en → ln k = a → spI S G' rm k b F ff ln en → cfI D dA dB h (cfA h) s H locs (cap, rm, F, ff, ln, jn, ti, ab, st) → ∀ (ls : Array Slot), lv_has ls 7 [(0, .ref (h 0)), (1, .int (nI S)), (2, .int (nI G')), (3, .int (nI en)), (4, .int (nI k)), (5, .int (nI a)), (6, .int (nI b))] → W p l e (rmL 1) s m args below meth c H locs 0 0 Q (F0 m 93 ls []) := by
            intro n'
            induction n' with
            | zero =>
              intro a b en F ff ln H locs h1 h2
              exact absurd h2 (by omega)
            | succ n' ih' =>
              intro a b en F ff ln H locs hb hn' hk hlk hI I ls hl
              have hle := sp_le hI
              have hln := sp_ln hI hk
              rw [hlk] at hln
              refine lv_iload G.1 G.2.1 dX0_spread_93 (lv_at hl 6 rfl) ?_
              refine n_bipush (a := 6) G dX0_spread_95 (by decide) ?_
              refine n_icmp_ge (tgt := 181) G dX0_spread_97 (by decide) (by omega) (by omega) (fun c_97 => ?_) (fun c_97 => ?_)
              · refine n_iinc (b := 1) (lv' := [(4, .int (nI (k + 1))), (0, .ref (h 0)), (1, .int (nI S)), (2, .int (nI G')), (3, .int (nI en)), (5, .int (nI a)), (6, .int (nI b))]) G dX0_spread_181 hl (q := 4) rfl (by decide) (by decide) rfl (fun ls hl => ?_)
                refine lv_goto (tgt := 68) G.1 G.2.1 dX0_spread_184 (by decide) ?_
                obtain rfl : b = 6 := by omega
                exact ih (k + 1) en _ _ _ _ _ (by omega) (sp_next hI hk) I ls (lv_sub hl [1, 2, 3, 4, 0] rfl)
              · refine lv_aload_n G.1 G.2.1 dX0_spread_100 rfl (lv_at hl 0 rfl) ?_
                refine g_F G I dX0_spread_101 ?_
                refine lv_iload G.1 G.2.1 dX0_spread_104 (lv_at hl 6 rfl) ?_
                refine c_in G (by omega) (by omega) (by decide) hl.1 (Nat.le_of_ble_eq_true rfl) dX0_spread_106 ?_
                refine n_ifne (tgt := 175) G dX0_spread_109 (by decide) (fun c_109 => ?_) (fun c_109 => ?_)
                · refine n_iinc (b := 1) (lv' := [(6, .int (nI (b + 1))), (0, .ref (h 0)), (1, .int (nI S)), (2, .int (nI G')), (3, .int (nI en)), (4, .int (nI k)), (5, .int (nI a))]) G dX0_spread_175 hl (q := 6) rfl (by decide) (by decide) rfl (fun ls hl => ?_)
                  refine lv_goto (tgt := 93) G.1 G.2.1 dX0_spread_178 (by decide) ?_
                  exact ih' a (b + 1) en _ _ _ _ _ (by omega) (by omega) hk hlk (sp_skip hI (by first | exact Or.inl c_109 | exact Or.inr (by rw [hlk]; exact c_125))) I ls (lv_sub hl [1, 2, 3, 4, 5, 6, 0] rfl)
                · refine lv_aload_n G.1 G.2.1 dX0_spread_112 rfl (lv_at hl 0 rfl) ?_
                  refine g_rm G I dX0_spread_113 ?_
                  refine lv_iload G.1 G.2.1 dX0_spread_116 (lv_at hl 5 rfl) ?_
                  refine n_bipush (a := 6) G dX0_spread_118 (by decide) ?_
                  refine n_imul G dX0_spread_120 ?_
                  refine lv_iload G.1 G.2.1 dX0_spread_121 (lv_at hl 6 rfl) ?_
                  refine n_iadd G dX0_spread_123 ?_
                  refine r_rm G I (by omega) dX0_spread_124 ?_
                  refine n_ifleN (tgt := 175) G (hr _ (by omega)) dX0_spread_125 (by decide) (fun c_125 => ?_) (fun c_125 => ?_)
                  · refine n_iinc (b := 1) (lv' := [(6, .int (nI (b + 1))), (0, .ref (h 0)), (1, .int (nI S)), (2, .int (nI G')), (3, .int (nI en)), (4, .int (nI k)), (5, .int (nI a))]) G dX0_spread_175 hl (q := 6) rfl (by decide) (by decide) rfl (fun ls hl => ?_)
                    refine lv_goto (tgt := 93) G.1 G.2.1 dX0_spread_178 (by decide) ?_
                    exact ih' a (b + 1) en _ _ _ _ _ (by omega) (by omega) hk hlk (sp_skip hI (by first | exact Or.inl c_109 | exact Or.inr (by rw [hlk]; exact c_125))) I ls (lv_sub hl [1, 2, 3, 4, 5, 6, 0] rfl)
                  · refine lv_aload_n G.1 G.2.1 dX0_spread_128 rfl (lv_at hl 0 rfl) ?_
                    refine lv_dup G.1 G.2.1 dX0_spread_129 rfl ?_
                    refine g_F G I dX0_spread_130 ?_
                    refine n_iconst (a := 1) G dX0_spread_133 (by decide) ?_
                    refine lv_iload G.1 G.2.1 dX0_spread_134 (lv_at hl 6 rfl) ?_
                    refine n_ishl G (by omega) dX0_spread_136 ?_
                    refine n_ior G dX0_spread_137 ?_
                    refine p_F G I dX0_spread_138 (fun H locs I => ?_)
                    refine lv_aload_n G.1 G.2.1 dX0_spread_141 rfl (lv_at hl 0 rfl) ?_
                    refine g_ff G I dX0_spread_142 ?_
                    refine lv_iload G.1 G.2.1 dX0_spread_145 (lv_at hl 6 rfl) ?_
                    refine lv_iload G.1 G.2.1 dX0_spread_147 (lv_at hl 5 rfl) ?_
                    refine n_i2b G (by omega) dX0_spread_149 ?_
                    refine w_ff G I (nx_nar (by omega)) (by omega) dX0_spread_150 (fun H locs I => ?_)
                    refine lv_aload_n G.1 G.2.1 dX0_spread_151 rfl (lv_at hl 0 rfl) ?_
                    refine g_ln G I dX0_spread_152 ?_
                    refine lv_iload_n G.1 G.2.1 dX0_spread_155 rfl (lv_at hl 3 rfl) ?_
                    refine lv_iload G.1 G.2.1 dX0_spread_156 (lv_at hl 6 rfl) ?_
                    refine n_i2b G (by omega) dX0_spread_158 ?_
                    refine w_ln G I (by omega) (by omega) dX0_spread_159 (fun H locs I => ?_)
                    refine n_iinc (b := 1) (lv' := [(3, .int (nI (en + 1))), (0, .ref (h 0)), (1, .int (nI S)), (2, .int (nI G')), (4, .int (nI k)), (5, .int (nI a)), (6, .int (nI b))]) G dX0_spread_160 hl (q := 3) rfl (by decide) (by decide) rfl (fun ls hl => ?_)
                    refine lv_iload_n G.1 G.2.1 dX0_spread_163 rfl (lv_at hl 3 rfl) ?_
                    refine lv_iload G.1 G.2.1 dX0_spread_164 (lv_at hl 6 rfl) ?_
                    refine c_in G (by omega) (by omega) (by decide) hl.1 (Nat.le_of_ble_eq_true rfl) dX0_spread_166 ?_
                    refine n_ifeq (tgt := 175) G dX0_spread_169 (by decide) (fun c_169 => ?_) (fun c_169 => ?_)
                    · refine n_iinc (b := 1) (lv' := [(6, .int (nI (b + 1))), (3, .int (nI (en + 1))), (0, .ref (h 0)), (1, .int (nI S)), (2, .int (nI G')), (4, .int (nI k)), (5, .int (nI a))]) G dX0_spread_175 hl (q := 6) rfl (by decide) (by decide) rfl (fun ls hl => ?_)
                      refine lv_goto (tgt := 93) G.1 G.2.1 dX0_spread_178 (by decide) ?_
                      have h5 := sp_new hI hk (by omega) c_109 (by rw [hlk]; exact c_125) c_169
                      rw [hlk] at h5
                      exact ih' a (b + 1) (en + 1) _ _ _ _ _ (by omega) (by omega) (by omega) (by rw [up_n (by omega)]; exact hlk) h5 I ls (lv_sub hl [2, 3, 4, 1, 5, 6, 0] rfl)
                    · refine lv_iload G.1 G.2.1 dX0_spread_172 (lv_at hl 6 rfl) ?_
                      have h5 := sp_goal hI hk (by omega) c_109 (by rw [hlk]; exact c_125) c_169
                      rw [hlk] at h5
                      exact hret _ _ _ _ _ ((F ||| (2 ^ b)), (upd ff b (nI a)), (va_up ln en b)) dX0_spread_174 (Or.inr ⟨b, rfl, h5⟩) I
          exact inner 7 (ln k) 0 en F ff ln H locs (by omega) (by omega) hk rfl hI I ls (lv_sub hl [2, 3, 4, 5, 6, 1, 0] rfl)
  have loop1 : ∀ (n a en : Nat) (F : Nat) (ff : Nat → Int32) (ln : Nat → Nat) (H : Heap) (locs : List Loc), a ≤ 6 → 7 ≤ a + n → sp1 S a F ff ln en → cfI D dA dB h (cfA h) s H locs (cap, rm, F, ff, ln, jn, ti, ab, st) → ∀ (ls : Array Slot), lv_has ls 7 [(0, .ref (h 0)), (1, .int (nI S)), (2, .int (nI G')), (3, .int (nI en)), (4, .int (nI a))] → W p l e (rmL 1) s m args below meth c H locs 0 0 Q (F0 m 10 ls []) := by
    intro n
    induction n with
    | zero =>
      intro a en F ff ln H locs h1 h2
      exact absurd h2 (by omega)
    | succ n ih =>
      intro a en F ff ln H locs ha hn hI I ls hl
      have hle := sp1_le hI
      refine lv_iload G.1 G.2.1 dX0_spread_10 (lv_at hl 4 rfl) ?_
      refine n_bipush (a := 6) G dX0_spread_12 (by decide) ?_
      refine n_icmp_ge (tgt := 65) G dX0_spread_14 (by decide) (by omega) (by omega) (fun c_14 => ?_) (fun c_14 => ?_)
      · refine n_iconst (a := 0) G dX0_spread_65 (by decide) ?_
        refine lv_istore (lv' := [(4, .int (nI 0)), (0, .ref (h 0)), (1, .int (nI S)), (2, .int (nI G')), (3, .int (nI en))]) G.1 G.2.1 dX0_spread_66 hl (by decide) rfl (fun ls hl => ?_)
        have e6 : a = 6 := by omega
        rw [e6] at hI
        exact loop2 7 0 en _ _ _ _ _ (by omega) (sp_start hI hSG hS) I ls (lv_sub hl [1, 2, 3, 4, 0] rfl)
      · refine lv_iload_n G.1 G.2.1 dX0_spread_17 rfl (lv_at hl 1 rfl) ?_
        refine lv_iload G.1 G.2.1 dX0_spread_18 (lv_at hl 4 rfl) ?_
        refine c_in G (by omega) (by omega) (by decide) hl.1 (Nat.le_of_ble_eq_true rfl) dX0_spread_20 ?_
        refine n_ifeq (tgt := 59) G dX0_spread_23 (by decide) (fun c_23 => ?_) (fun c_23 => ?_)
        · refine n_iinc (b := 1) (lv' := [(4, .int (nI (a + 1))), (0, .ref (h 0)), (1, .int (nI S)), (2, .int (nI G')), (3, .int (nI en))]) G dX0_spread_59 hl (q := 4) rfl (by decide) (by decide) rfl (fun ls hl => ?_)
          refine lv_goto (tgt := 10) G.1 G.2.1 dX0_spread_62 (by decide) ?_
          exact ih (a + 1) en _ _ _ _ _ (by omega) (by omega) (sp1_out hI c_23) I ls (lv_sub hl [1, 2, 3, 4, 0] rfl)
        · refine lv_aload_n G.1 G.2.1 dX0_spread_26 rfl (lv_at hl 0 rfl) ?_
          refine lv_dup G.1 G.2.1 dX0_spread_27 rfl ?_
          refine g_F G I dX0_spread_28 ?_
          refine n_iconst (a := 1) G dX0_spread_31 (by decide) ?_
          refine lv_iload G.1 G.2.1 dX0_spread_32 (lv_at hl 4 rfl) ?_
          refine n_ishl G (by omega) dX0_spread_34 ?_
          refine n_ior G dX0_spread_35 ?_
          refine p_F G I dX0_spread_36 (fun H locs I => ?_)
          refine lv_aload_n G.1 G.2.1 dX0_spread_39 rfl (lv_at hl 0 rfl) ?_
          refine g_ff G I dX0_spread_40 ?_
          refine lv_iload G.1 G.2.1 dX0_spread_43 (lv_at hl 4 rfl) ?_
          refine lv_iconst (v := -1) G.1 G.2.1 dX0_spread_45 (by decide) ?_
          refine w_ff G I nx_narm (by omega) dX0_spread_46 (fun H locs I => ?_)
          refine lv_aload_n G.1 G.2.1 dX0_spread_47 rfl (lv_at hl 0 rfl) ?_
          refine g_ln G I dX0_spread_48 ?_
          refine lv_iload_n G.1 G.2.1 dX0_spread_51 rfl (lv_at hl 3 rfl) ?_
          refine lv_iload G.1 G.2.1 dX0_spread_52 (lv_at hl 4 rfl) ?_
          refine n_i2b G (by omega) dX0_spread_54 ?_
          refine w_ln G I (by omega) (by omega) dX0_spread_55 (fun H locs I => ?_)
          refine n_iinc (b := 1) (lv' := [(3, .int (nI (en + 1))), (0, .ref (h 0)), (1, .int (nI S)), (2, .int (nI G')), (4, .int (nI a))]) G dX0_spread_56 hl (q := 3) rfl (by decide) (by decide) rfl (fun ls hl => ?_)
          refine n_iinc (b := 1) (lv' := [(4, .int (nI (a + 1))), (3, .int (nI (en + 1))), (0, .ref (h 0)), (1, .int (nI S)), (2, .int (nI G'))]) G dX0_spread_59 hl (q := 4) rfl (by decide) (by decide) rfl (fun ls hl => ?_)
          refine lv_goto (tgt := 10) G.1 G.2.1 dX0_spread_62 (by decide) ?_
          exact ih (a + 1) (en + 1) _ _ _ _ _ (by omega) (by omega) (sp1_in hI (by omega) c_23) I ls (lv_sub hl [2, 3, 4, 1, 0] rfl)
  refine lv_aload_n G.1 G.2.1 dX0_spread_0 rfl (lv_at hl 0 rfl) ?_
  refine n_iconst (a := 0) G dX0_spread_1 (by decide) ?_
  refine p_F G I dX0_spread_2 (fun H locs I => ?_)
  refine n_iconst (a := 0) G dX0_spread_5 (by decide) ?_
  refine lv_istore_n (lv' := [(3, .int (nI 0)), (0, .ref (h 0)), (1, .int (nI S)), (2, .int (nI G'))]) G.1 G.2.1 dX0_spread_6 rfl hl (by decide) rfl (fun ls hl => ?_)
  refine n_iconst (a := 0) G dX0_spread_7 (by decide) ?_
  refine lv_istore (lv' := [(4, .int (nI 0)), (3, .int (nI 0)), (0, .ref (h 0)), (1, .int (nI S)), (2, .int (nI G'))]) G.1 G.2.1 dX0_spread_8 hl (by decide) rfl (fun ls hl => ?_)
  exact loop1 7 0 0 _ _ _ _ _ (by omega) (by omega) (sp1_0 S _ _) I ls (lv_sub hl [2, 3, 4, 1, 0] rfl)
set_option maxHeartbeats 4000000 in
set_option maxRecDepth 100000 in
theorem met_push (l : Launch) (D : va_G) (dA dB : ClassId) (h : Nat → Nat) {cap rm : Nat → Nat} {F : Nat} {ff : Nat → Int32} {ln jn ti ab st : Nat → Nat} (S b : Nat) (d : Nat → Nat) (T : List Nat) (hpT : pth S d ff b T) (hr : ∀ k, k < 36 → rm k < 1048576) : Met l yX0_push (ws_ yX0_push cX0_push 5 (some .int)) (rmL 0) (va_Pc [.ref (h 0), .int (nI b)] (cfU D dA dB h (cap, rm, F, ff, ln, jn, ti, ab, st))) (va_Qi (fun r (u : Nat → Nat) => ∃ x, r = nI x ∧ mnE rm x b T ∧ (x = 1048576 ∨ atE rm x b T) ∧ u = pushP x rm b T) (fun u t => cfU D dA dB h (cap, u, F, ff, ln, jn, ti, ab, st) t) (cfA h)) 0 0 (cfA h) := by
  refine cf_meti (own := RX0) (f := fun u : Nat → Nat => (cap, u, F, ff, ln, jn, ti, ab, st)) (by decide) rfl (Nat.le_of_ble_eq_true rfl) ?_
  intro p e s m args below meth c Q ls G I hret hl
  have hl : lv_has ls 5 [(0, .ref (h 0)), (1, .int (nI b))] := hl
  have loop2 : ∀ x, mnE rm x b T → (x = 1048576 ∨ atE rm x b T) → ∀ (t : List Nat) (v : Nat) (r : Nat → Nat) (H : Heap) (locs : List Loc), pth S d ff v t → mnE r x v t → pushP x r v t = pushP x rm b T → cfI D dA dB h (cfA h) s H locs (cap, r, F, ff, ln, jn, ti, ab, st) → ∀ (ls : Array Slot), lv_has ls 5 [(0, .ref (h 0)), (1, .int (nI b)), (2, .int (nI x)), (3, .int (nI v))] → W p l e (rmL 0) s m args below meth c H locs 0 0 Q (F0 m 57 ls []) := by
    intro x hx1 hx2 t
    induction t with
    | nil =>
      intro v r H locs hp hm he I ls hl
      have hff : ff v = -1 := hp.2.1
      have hv := hp.1
      refine lv_aload_n G.1 G.2.1 dX0_push_57 rfl (lv_at hl 0 rfl) ?_
      refine g_ff G I dX0_push_58 ?_
      refine lv_iload_n G.1 G.2.1 dX0_push_61 rfl (lv_at hl 3 rfl) ?_
      refine r_ff G I (by omega) dX0_push_62 ?_
      rw [hff]
      refine n_ifltM (tgt := 116) G dX0_push_63 (by decide) ?_
      refine lv_iload_n G.1 G.2.1 dX0_push_116 rfl (lv_at hl 2 rfl) ?_
      exact hret _ _ _ _ _ r dX0_push_117 ⟨x, rfl, hx1, hx2, he⟩ I
    | cons u t ih =>
      intro v r H locs hp hm he I ls hl
      have hff : ff v = nI u := hp.2.2.1
      have hv := hp.1
      have hu := hp.2.1
      refine lv_aload_n G.1 G.2.1 dX0_push_57 rfl (lv_at hl 0 rfl) ?_
      refine g_ff G I dX0_push_58 ?_
      refine lv_iload_n G.1 G.2.1 dX0_push_61 rfl (lv_at hl 3 rfl) ?_
      refine r_ff G I (by omega) dX0_push_62 ?_
      rw [hff]
      refine n_ifltN (tgt := 116) G (by omega) dX0_push_63 (by decide) ?_
      refine lv_aload_n G.1 G.2.1 dX0_push_66 rfl (lv_at hl 0 rfl) ?_
      refine g_ff G I dX0_push_67 ?_
      refine lv_iload_n G.1 G.2.1 dX0_push_70 rfl (lv_at hl 3 rfl) ?_
      refine r_ff G I (by omega) dX0_push_71 ?_
      rw [hff]
      refine lv_istore (lv' := [(4, .int (nI u)), (0, .ref (h 0)), (1, .int (nI b)), (2, .int (nI x)), (3, .int (nI v))]) G.1 G.2.1 dX0_push_72 hl (by decide) rfl (fun ls hl => ?_)
      refine lv_aload_n G.1 G.2.1 dX0_push_74 rfl (lv_at hl 1 rfl) ?_
      refine g_rm G I dX0_push_75 ?_
      refine lv_iload G.1 G.2.1 dX0_push_78 (lv_at hl 0 rfl) ?_
      refine n_bipush (a := 6) G dX0_push_80 (by decide) ?_
      refine n_imul G dX0_push_82 ?_
      refine lv_iload_n G.1 G.2.1 dX0_push_83 rfl (lv_at hl 4 rfl) ?_
      refine n_iadd G dX0_push_84 ?_
      refine lv_dup2_11 G.1 G.2.1 dX0_push_85 rfl rfl ?_
      refine r_rm G I (by omega) dX0_push_86 ?_
      refine lv_iload_n G.1 G.2.1 dX0_push_87 rfl (lv_at hl 3 rfl) ?_
      refine n_isub G hm.1 dX0_push_88 ?_
      refine w_rm G I (by omega) dX0_push_89 (fun H locs I => ?_)
      refine lv_aload_n G.1 G.2.1 dX0_push_90 rfl (lv_at hl 1 rfl) ?_
      refine g_rm G I dX0_push_91 ?_
      refine lv_iload_n G.1 G.2.1 dX0_push_94 rfl (lv_at hl 4 rfl) ?_
      refine n_bipush (a := 6) G dX0_push_95 (by decide) ?_
      refine n_imul G dX0_push_97 ?_
      refine lv_iload G.1 G.2.1 dX0_push_98 (lv_at hl 0 rfl) ?_
      refine n_iadd G dX0_push_100 ?_
      refine lv_dup2_11 G.1 G.2.1 dX0_push_101 rfl rfl ?_
      refine r_rm G I (by omega) dX0_push_102 ?_
      refine lv_iload_n G.1 G.2.1 dX0_push_103 rfl (lv_at hl 3 rfl) ?_
      refine n_iadd G dX0_push_104 ?_
      refine w_rm G I (by omega) dX0_push_105 (fun H locs I => ?_)
      refine lv_aload_n G.1 G.2.1 dX0_push_106 rfl (lv_at hl 1 rfl) ?_
      refine g_ff G I dX0_push_107 ?_
      refine lv_iload_n G.1 G.2.1 dX0_push_110 rfl (lv_at hl 4 rfl) ?_
      refine r_ff G I (by omega) dX0_push_111 ?_
      rw [hff]
      refine lv_istore_n (lv' := [(3, .int (nI u)), (4, .int (nI u)), (0, .ref (h 0)), (1, .int (nI b)), (2, .int (nI x))]) G.1 G.2.1 dX0_push_112 rfl hl (by decide) rfl (fun ls hl => ?_)
      refine lv_goto (tgt := 57) G.1 G.2.1 dX0_push_113 (by decide) ?_
      have I : cfI D dA dB h (cfA h) s H locs (cap, (up2 r x u v), F, ff, ln, jn, ti, ab, st) := I
      exact ih u (up2 r x u v) _ _ hp.2.2.2.2 (push_keep hp hm) he I ls (lv_sub hl [2, 3, 4, 0] rfl)
  have loop1 : ∀ (t : List Nat) (v x : Nat), x ≤ 1048576 → pth S d ff v t → (∀ y, y ≤ x → mnE rm y v t → mnE rm y b T) → (x = 1048576 ∨ atE rm x b T) → (∀ y, atE rm y v t → atE rm y b T) → ∀ (ls : Array Slot), lv_has ls 5 [(0, .ref (h 0)), (1, .int (nI b)), (2, .int (nI x)), (3, .int (nI v))] → W p l e (rmL 0) s m args below meth c s.heap [] 0 0 Q (F0 m 5 ls []) := by
    intro t
    induction t with
    | nil =>
      intro v x hx hp hA hB hC ls hl
      have hff : ff v = -1 := hp.2.1
      have hv := hp.1
      refine lv_aload_n G.1 G.2.1 dX0_push_5 rfl (lv_at hl 0 rfl) ?_
      refine g_ff G I dX0_push_6 ?_
      refine lv_iload_n G.1 G.2.1 dX0_push_9 rfl (lv_at hl 3 rfl) ?_
      refine r_ff G I (by omega) dX0_push_10 ?_
      rw [hff]
      refine n_ifltM (tgt := 55) G dX0_push_11 (by decide) ?_
      refine lv_iload_n G.1 G.2.1 dX0_push_55 rfl (lv_at hl 1 rfl) ?_
      refine lv_istore_n (lv' := [(3, .int (nI b)), (0, .ref (h 0)), (1, .int (nI b)), (2, .int (nI x))]) G.1 G.2.1 dX0_push_56 rfl hl (by decide) rfl (fun ls hl => ?_)
      have hm := hA x (Nat.le_refl _) trivial
      exact loop2 x hm hB T b rm _ _ hpT hm rfl I ls (lv_sub hl [1, 2, 3, 0] rfl)
    | cons u t ih =>
      intro v x hx hp hA hB hC ls hl
      have hff : ff v = nI u := hp.2.2.1
      have hv := hp.1
      have hu := hp.2.1
      have hrb := hr (u * 6 + v) (by omega)
      refine lv_aload_n G.1 G.2.1 dX0_push_5 rfl (lv_at hl 0 rfl) ?_
      refine g_ff G I dX0_push_6 ?_
      refine lv_iload_n G.1 G.2.1 dX0_push_9 rfl (lv_at hl 3 rfl) ?_
      refine r_ff G I (by omega) dX0_push_10 ?_
      rw [hff]
      refine n_ifltN (tgt := 55) G (by omega) dX0_push_11 (by decide) ?_
      refine lv_aload_n G.1 G.2.1 dX0_push_14 rfl (lv_at hl 0 rfl) ?_
      refine g_rm G I dX0_push_15 ?_
      refine lv_aload_n G.1 G.2.1 dX0_push_18 rfl (lv_at hl 0 rfl) ?_
      refine g_ff G I dX0_push_19 ?_
      refine lv_iload_n G.1 G.2.1 dX0_push_22 rfl (lv_at hl 3 rfl) ?_
      refine r_ff G I (by omega) dX0_push_23 ?_
      rw [hff]
      refine n_bipush (a := 6) G dX0_push_24 (by decide) ?_
      refine n_imul G dX0_push_26 ?_
      refine lv_iload_n G.1 G.2.1 dX0_push_27 rfl (lv_at hl 3 rfl) ?_
      refine n_iadd G dX0_push_28 ?_
      refine r_rm G I (by omega) dX0_push_29 ?_
      refine lv_istore (lv' := [(4, .int (nI (rm ((u * 6) + v)))), (0, .ref (h 0)), (1, .int (nI b)), (2, .int (nI x)), (3, .int (nI v))]) G.1 G.2.1 dX0_push_30 hl (by decide) rfl (fun ls hl => ?_)
      refine lv_iload G.1 G.2.1 dX0_push_32 (lv_at hl 0 rfl) ?_
      refine lv_iload_n G.1 G.2.1 dX0_push_34 rfl (lv_at hl 3 rfl) ?_
      refine n_icmp_ge (tgt := 43) G dX0_push_35 (by decide) (by omega) (by omega) (fun c_35 => ?_) (fun c_35 => ?_)
      · refine lv_iload_n G.1 G.2.1 dX0_push_43 rfl (lv_at hl 3 rfl) ?_
        refine lv_istore_n (lv' := [(2, .int (nI x)), (4, .int (nI (rm ((u * 6) + v)))), (0, .ref (h 0)), (1, .int (nI b)), (3, .int (nI v))]) G.1 G.2.1 dX0_push_44 rfl hl (by decide) rfl (fun ls hl => ?_)
        refine lv_aload_n G.1 G.2.1 dX0_push_45 rfl (lv_at hl 2 rfl) ?_
        refine g_ff G I dX0_push_46 ?_
        refine lv_iload_n G.1 G.2.1 dX0_push_49 rfl (lv_at hl 4 rfl) ?_
        refine r_ff G I (by omega) dX0_push_50 ?_
        rw [hff]
        refine lv_istore_n (lv' := [(3, .int (nI u)), (2, .int (nI x)), (4, .int (nI (rm ((u * 6) + v)))), (0, .ref (h 0)), (1, .int (nI b))]) G.1 G.2.1 dX0_push_51 rfl hl (by decide) rfl (fun ls hl => ?_)
        refine lv_goto (tgt := 5) G.1 G.2.1 dX0_push_52 (by decide) ?_
        exact ih u x hx hp.2.2.2.2 (fun y hy hm => hA y hy ⟨by omega, hm⟩) hB (fun y hy => hC y (Or.inr hy)) ls (lv_sub hl [3, 4, 1, 0] rfl)
      · refine lv_iload G.1 G.2.1 dX0_push_38 (lv_at hl 0 rfl) ?_
        refine lv_goto (tgt := 44) G.1 G.2.1 dX0_push_40 (by decide) ?_
        refine lv_istore_n (lv' := [(2, .int (nI (rm ((u * 6) + v)))), (4, .int (nI (rm ((u * 6) + v)))), (0, .ref (h 0)), (1, .int (nI b)), (3, .int (nI v))]) G.1 G.2.1 dX0_push_44 rfl hl (by decide) rfl (fun ls hl => ?_)
        refine lv_aload_n G.1 G.2.1 dX0_push_45 rfl (lv_at hl 2 rfl) ?_
        refine g_ff G I dX0_push_46 ?_
        refine lv_iload_n G.1 G.2.1 dX0_push_49 rfl (lv_at hl 4 rfl) ?_
        refine r_ff G I (by omega) dX0_push_50 ?_
        rw [hff]
        refine lv_istore_n (lv' := [(3, .int (nI u)), (2, .int (nI (rm ((u * 6) + v)))), (4, .int (nI (rm ((u * 6) + v)))), (0, .ref (h 0)), (1, .int (nI b))]) G.1 G.2.1 dX0_push_51 rfl hl (by decide) rfl (fun ls hl => ?_)
        refine lv_goto (tgt := 5) G.1 G.2.1 dX0_push_52 (by decide) ?_
        exact ih u (rm (u * 6 + v)) (by omega) hp.2.2.2.2 (fun y hy hm => hA y (by omega) ⟨hy, hm⟩) (Or.inr (hC _ (Or.inl rfl))) (fun y hy => hC y (Or.inr hy)) ls (lv_sub hl [3, 4, 1, 0] rfl)
  refine n_ldc G dX0_push_0 ?_
  refine lv_istore_n (lv' := [(2, .int (nI 1048576)), (0, .ref (h 0)), (1, .int (nI b))]) G.1 G.2.1 dX0_push_2 rfl hl (by decide) rfl (fun ls hl => ?_)
  refine lv_iload_n G.1 G.2.1 dX0_push_3 rfl (lv_at hl 2 rfl) ?_
  refine lv_istore_n (lv' := [(3, .int (nI b)), (2, .int (nI 1048576)), (0, .ref (h 0)), (1, .int (nI b))]) G.1 G.2.1 dX0_push_4 rfl hl (by decide) rfl (fun ls hl => ?_)
  exact loop1 T b 1048576 (Nat.le_refl _) hpT (fun _ _ h => h) (Or.inl rfl) (fun _ h => h) ls (lv_sub hl [2, 3, 1, 0] rfl)
theorem cw_spread : callWords RX0 63 RX0 yX0_spread cX0_spread 7 (some .int) 2 := ⟨lw_V q101 q103 qs4 q14 q104, by decide +kernel⟩
theorem cw_push : callWords RX0 66 RX0 yX0_push cX0_push 5 (some .int) 1 := ⟨lw_V q105 q107 qs5 q14 q108, by decide +kernel⟩
theorem cw_flow : callWords RX0 74 RX0 yX0_flow cX0_flow 6 (some .int) 2 := ⟨lw_V q97 q99 qs3 q14 q100, by decide +kernel⟩
set_option maxHeartbeats 4000000 in
set_option maxRecDepth 100000 in
theorem met_flow (l : Launch) (D : va_G) (dA dB : ClassId) (h : Nat → Nat) {cap rm : Nat → Nat} {F : Nat} {ff : Nat → Int32} {ln jn ti ab st : Nat → Nat} (hc : CutOK cap) (S G' : Nat) (hS : S < 64) (hG : G' < 64) (hS0 : S ≠ 0) (hG0 : G' ≠ 0) (hSG : S &&& G' = 0) : Met l yX0_flow (ws_ yX0_flow cX0_flow 6 (some .int)) (rmL 2) (va_Pc [.ref (h 0), .int (nI S), .int (nI G')] (cfU D dA dB h (cap, rm, F, ff, ln, jn, ti, ab, st))) (va_Qi (fun r (u : (Nat → Nat) × Nat × (Nat → Int32) × (Nat → Nat)) => ∃ v, r = nI v ∧ floP cap S G' v u.2.1) (fun u t => cfU D dA dB h (cap, u.1, u.2.1, u.2.2.1, u.2.2.2, jn, ti, ab, st) t) (cfA h)) 0 0 (cfA h) := by
  refine cf_meti (own := RX0) (f := fun u : (Nat → Nat) × Nat × (Nat → Int32) × (Nat → Nat) => (cap, u.1, u.2.1, u.2.2.1, u.2.2.2, jn, ti, ab, st)) (by decide) rfl (Nat.le_of_ble_eq_true rfl) ?_
  intro p e s m args below meth c Q ls G I hret hl
  have hl : lv_has ls 6 [(0, .ref (h 0)), (1, .int (nI S)), (2, .int (nI G'))] := hl
  have rounds : ∀ (n rd sum : Nat) (rm : Nat → Nat) (F : Nat) (ff : Nat → Int32) (ln : Nat → Nat) (H : Heap) (locs : List Loc), 128 ≤ rd + n → flI cap S G' rm sum rd → cfI D dA dB h (cfA h) s H locs (cap, rm, F, ff, ln, jn, ti, ab, st) → ∀ (ls : Array Slot), lv_has ls 6 [(0, .ref (h 0)), (1, .int (nI S)), (2, .int (nI G')), (3, .int (nI sum)), (4, .int (nI rd))] → W p l e (rmL 2) s m args below meth c H locs 0 0 Q (F0 m 31 ls []) := by
    intro n
    induction n with
    | zero =>
      intro rd sum rm F ff ln H locs h1 hI
      have := flI_rd hI
      exact absurd h1 (by omega)
    | succ n ih =>
      intro rd sum rm F ff ln H locs hn hI I ls hl
      have hrd := flI_rd hI
      have hb := flI_le hc hI
      refine lv_iload G.1 G.2.1 dX0_flow_31 (lv_at hl 4 rfl) ?_
      refine n_sipush (a := 128) G dX0_flow_33 (by decide) ?_
      refine n_icmp_ge (tgt := 69) G dX0_flow_36 (by decide) (by omega) (by omega) (fun c_36 => ?_) (fun c_36 => ?_)
      · exact absurd c_36 (by omega)
      · refine lv_aload_n G.1 G.2.1 dX0_flow_39 rfl (lv_at hl 0 rfl) ?_
        refine lv_iload_n G.1 G.2.1 dX0_flow_40 rfl (lv_at hl 1 rfl) ?_
        refine lv_iload_n G.1 G.2.1 dX0_flow_41 rfl (lv_at hl 2 rfl) ?_
        refine cf_mi (rest := []) G I (met_spread l D dA dB h (cap := cap) (rm := rm) (F := F) (ff := ff) (ln := ln) (jn := jn) (ti := ti) (ab := ab) (st := st) S G' hS hG hSG (fun k hk => by have := hb k hk; omega)) cw_spread (by decide) rfl hl.1 (Nat.le_of_ble_eq_true rfl) rfl dX0_flow_42 (fun r_42 u_42 H locs hr_42 I _ _ => ?_)
        obtain ⟨F_42, ff_42, ln_42⟩ := u_42
        have I : cfI D dA dB h (cfA h) s H locs (cap, rm, F_42, ff_42, ln_42, jn, ti, ab, st) := I
        rcases hr_42 with ⟨rfl, hno⟩ | ⟨b, rfl, hfo⟩
        · refine lv_istore (lv' := [(5, .int (-1)), (0, .ref (h 0)), (1, .int (nI S)), (2, .int (nI G')), (3, .int (nI sum)), (4, .int (nI rd))]) G.1 G.2.1 dX0_flow_45 hl (by decide) rfl (fun ls hl => ?_)
          refine lv_iload G.1 G.2.1 dX0_flow_47 (lv_at hl 0 rfl) ?_
          refine n_ifgeM (tgt := 54) G dX0_flow_49 (by decide) ?_
          refine lv_iload_n G.1 G.2.1 dX0_flow_52 rfl (lv_at hl 4 rfl) ?_
          exact hret _ _ _ _ _ (rm, F_42, ff_42, ln_42) dX0_flow_53 ⟨sum, rfl, flI_end hS hG hS0 hG0 hI hno⟩ I
        · obtain ⟨hb6, hGb, d, T, d1, d2, d3, d4, d5, d6, d7⟩ := hfo
          refine lv_istore (lv' := [(5, .int (nI b)), (0, .ref (h 0)), (1, .int (nI S)), (2, .int (nI G')), (3, .int (nI sum)), (4, .int (nI rd))]) G.1 G.2.1 dX0_flow_45 hl (by decide) rfl (fun ls hl => ?_)
          refine lv_iload G.1 G.2.1 dX0_flow_47 (lv_at hl 0 rfl) ?_
          refine n_ifgeN (tgt := 54) G (by omega) dX0_flow_49 (by decide) ?_
          refine lv_iload_n G.1 G.2.1 dX0_flow_54 rfl (lv_at hl 4 rfl) ?_
          refine lv_aload_n G.1 G.2.1 dX0_flow_55 rfl (lv_at hl 1 rfl) ?_
          refine lv_iload G.1 G.2.1 dX0_flow_56 (lv_at hl 0 rfl) ?_
          refine cf_mi (rest := [.int (nI sum)]) G I (met_push l D dA dB h (cap := cap) (rm := rm) (F := F_42) (ff := ff_42) (ln := ln_42) (jn := jn) (ti := ti) (ab := ab) (st := st) S b d T d6 (fun k hk => by have := hb k hk; omega)) cw_push (by decide) rfl hl.1 (Nat.le_of_ble_eq_true rfl) rfl dX0_flow_58 (fun r_58 u_58 H locs hr_58 I _ _ => ?_)
          obtain ⟨x, rfl, x1, x2, rfl⟩ := hr_58
          have I : cfI D dA dB h (cfA h) s H locs (cap, (pushP x rm b T), F_42, ff_42, ln_42, jn, ti, ab, st) := I
          have xa : atE rm x b T := by
            rcases x2 with z | z
            · exact absurd z (pth_ne d6 d1 x1 (fun k hk => by have := hb k hk; omega))
            · exact z
          refine n_iadd G dX0_flow_61 ?_
          refine lv_istore_n (lv' := [(3, .int (nI (sum + x))), (5, .int (nI b)), (0, .ref (h 0)), (1, .int (nI S)), (2, .int (nI G')), (4, .int (nI rd))]) G.1 G.2.1 dX0_flow_62 rfl hl (by decide) rfl (fun ls hl => ?_)
          refine n_iinc (b := 1) (lv' := [(4, .int (nI (rd + 1))), (3, .int (nI (sum + x))), (5, .int (nI b)), (0, .ref (h 0)), (1, .int (nI S)), (2, .int (nI G'))]) G dX0_flow_63 hl (q := 5) rfl (by decide) (by decide) rfl (fun ls hl => ?_)
          refine lv_goto (tgt := 31) G.1 G.2.1 dX0_flow_66 (by decide) ?_
          exact ih (rd + 1) (sum + x) _ _ _ _ _ _ (by omega) (flI_push hI hb6 hGb d1 d2 d3 d4 d5 d6 d7 (atE_pos xa d7) x1 xa) I ls (lv_sub hl [3, 4, 5, 1, 0] rfl)
  have copy : ∀ (n k : Nat) (rm : Nat → Nat) (H : Heap) (locs : List Loc), k ≤ 36 → 37 ≤ k + n → (∀ j, j < k → rm j = cap j) → cfI D dA dB h (cfA h) s H locs (cap, rm, F, ff, ln, jn, ti, ab, st) → ∀ (ls : Array Slot), lv_has ls 6 [(0, .ref (h 0)), (1, .int (nI S)), (2, .int (nI G')), (3, .int (nI k))] → W p l e (rmL 2) s m args below meth c H locs 0 0 Q (F0 m 2 ls []) := by
    intro n
    induction n with
    | zero =>
      intro k rm H locs h1 h2
      exact absurd h2 (by omega)
    | succ n ih =>
      intro k rm H locs hk hn hI I ls hl
      refine lv_iload_n G.1 G.2.1 dX0_flow_2 rfl (lv_at hl 3 rfl) ?_
      refine n_bipush (a := 36) G dX0_flow_3 (by decide) ?_
      refine n_icmp_ge (tgt := 26) G dX0_flow_5 (by decide) (by omega) (by omega) (fun c_5 => ?_) (fun c_5 => ?_)
      · refine n_iconst (a := 0) G dX0_flow_26 (by decide) ?_
        refine lv_istore_n (lv' := [(3, .int (nI 0)), (0, .ref (h 0)), (1, .int (nI S)), (2, .int (nI G'))]) G.1 G.2.1 dX0_flow_27 rfl hl (by decide) rfl (fun ls hl => ?_)
        refine n_iconst (a := 0) G dX0_flow_28 (by decide) ?_
        refine lv_istore (lv' := [(4, .int (nI 0)), (3, .int (nI 0)), (0, .ref (h 0)), (1, .int (nI S)), (2, .int (nI G'))]) G.1 G.2.1 dX0_flow_29 hl (by decide) rfl (fun ls hl => ?_)
        exact rounds 128 0 0 _ _ _ _ _ _ (by omega) (flI_0 (fun j hj => hI j (by omega))) I ls (lv_sub hl [2, 3, 4, 1, 0] rfl)
      · refine lv_aload_n G.1 G.2.1 dX0_flow_8 rfl (lv_at hl 0 rfl) ?_
        refine g_rm G I dX0_flow_9 ?_
        refine lv_iload_n G.1 G.2.1 dX0_flow_12 rfl (lv_at hl 3 rfl) ?_
        refine lv_aload_n G.1 G.2.1 dX0_flow_13 rfl (lv_at hl 0 rfl) ?_
        refine g_cap G I dX0_flow_14 ?_
        refine lv_iload_n G.1 G.2.1 dX0_flow_17 rfl (lv_at hl 3 rfl) ?_
        refine r_cap G I (by omega) dX0_flow_18 ?_
        refine w_rm G I (by omega) dX0_flow_19 (fun H locs I => ?_)
        refine n_iinc (b := 1) (lv' := [(3, .int (nI (k + 1))), (0, .ref (h 0)), (1, .int (nI S)), (2, .int (nI G'))]) G dX0_flow_20 hl (q := 3) rfl (by decide) (by decide) rfl (fun ls hl => ?_)
        refine lv_goto (tgt := 2) G.1 G.2.1 dX0_flow_23 (by decide) ?_
        exact ih (k + 1) _ _ _ (by omega) (by omega) (fun j hj => by rcases lt_split hj with q | rfl; rw [up_n (by omega)]; exact hI j q; exact up_s _ _ _) I ls (lv_sub hl [1, 2, 3, 0] rfl)
  refine n_iconst (a := 0) G dX0_flow_0 (by decide) ?_
  refine lv_istore_n (lv' := [(3, .int (nI 0)), (0, .ref (h 0)), (1, .int (nI S)), (2, .int (nI G'))]) G.1 G.2.1 dX0_flow_1 rfl hl (by decide) rfl (fun ls hl => ?_)
  exact copy 37 0 _ _ _ (by omega) (by omega) (fun j hj => absurd hj (by omega)) I ls (lv_sub hl [1, 2, 3, 0] rfl)
end
section
/-! what the questions that ask for a flow answer: plain numbers -/
theorem pow_ne0 (a : Nat) : 2 ^ a ≠ 0 := Nat.pos_iff_ne_zero.mp (Nat.two_pow_pos a)
theorem pow_dis {i j : Nat} (hi : i < 6) (hne : i ≠ j) : 2 ^ i &&& 2 ^ j = 0 := (dis_iff (pow_lt64 hi)).mpr (fun a _ h => by
  rw [tb_pow, decide_eq_true_eq] at h
  rw [tb_pow, decide_eq_false_iff_not]
  omega)
theorem floP_bet {c : Nat → Nat} {i j v F : Nat} (hi : i < 6) (hj : j < 6) (hne : i ≠ j) (h : floP c (2 ^ i) (2 ^ j) v F) : betP c (nI i) (nI j) (nI v) := Or.inl ⟨i, j, v, hi, hj, hne, rfl, rfl, h.1, rfl⟩
theorem floP_cor {c : Nat → Nat} {i j v F : Nat} (hi : i < 6) (hj : j < 6) (hne : i ≠ j) (h : floP c (2 ^ i) (2 ^ j) v F) : corP c (nI i) (nI j) (nI F) := by
  obtain ⟨h1, h2, h3, h4, h5⟩ := h
  exact Or.inl ⟨i, j, v, F, hi, hj, hne, rfl, rfl, h1, h2, fun q hq => ⟨fun hF P hP hv => h5 P hP hv q hq hF, fun a => a F.testBit h3 h4⟩, rfl⟩
theorem okP_compl {I O : Nat} {P : Nat → Bool} (h : okP I O P) : okP O I (fun a => !P a) := by
  obtain ⟨⟨a, ha, h1⟩, ⟨b, hb, h2⟩, h3, h4⟩ := h
  exact ⟨⟨b, hb, by simp [h2]⟩, ⟨a, ha, by simp [h1]⟩, fun q hq z => by simp [h4 q hq z], fun q hq z => by simp [h3 q hq z]⟩
theorem isMin_compl {c : Nat → Nat} {I O v : Nat} (hs : Sym (mx c)) (h : isMin c I O v) : isMin c O I v := by
  obtain ⟨⟨P, hP, e⟩, hmin⟩ := h
  refine ⟨⟨fun a => !P a, okP_compl hP, by rw [cst_compl hs]; exact e⟩, fun R hR => ?_⟩
  have := hmin _ (okP_compl hR)
  rw [cst_compl hs] at this
  exact this
theorem rea_of_cor {c : Nat → Nat} {i j : Nat} {r : Int32} (hs : Sym (mx c)) (hi : i < 6) (hj : j < 6) (hne : i ≠ j) (h : corP c (nI j) (nI i) r) : ∃ M, M < 64 ∧ r = nI M ∧ reaP c (nI i) (nI j) (nI (63 &&& (63 ^^^ M))) := by
  rcases h with ⟨j', i', v, M, hj', hi', hne', e1, e2, hv, hM, hb, rfl⟩ | ⟨hn, rfl⟩
  · obtain ⟨rfl, rfl⟩ := pair_uniq hj hi hj' hi' e1 e2
    refine ⟨M, hM, rfl, Or.inl ⟨i, j, v, 63 &&& (63 ^^^ M), hi, hj, hne, rfl, rfl, isMin_compl hs hv, and_lt64 (by omega), fun q hq => ?_, rfl⟩⟩
    rw [Nat.testBit_and, tb_63 q hq, tb_not hq, Bool.true_and, Bool.not_eq_true']
    constructor
    · intro hf
      apply Classical.byContradiction
      intro hno
      have : M.testBit q = true := (hb q hq).mpr (fun P hP hv' => by
        cases hp : P q with
        | true => rfl
        | false => exact absurd ⟨fun a => !P a, okP_compl hP, by rw [cst_compl hs]; exact hv', by simp [hp]⟩ hno)
      rw [hf] at this
      cases this
    · rintro ⟨P, hP, hv', hq'⟩
      cases hf : M.testBit q with
      | false => rfl
      | true =>
        have := (hb q hq).mp hf _ (okP_compl hP) (by rw [cst_compl hs]; exact hv')
        simp [hq'] at this
  · rw [prB_nI hj hi (fun z => hne z.symm)] at hn; cases hn
/-! leastAgainst -/
theorem okP_b {S b : Nat} {P : Nat → Bool} (hb : b < 6) : okP S (2 ^ b) P ↔ okP S 0 P ∧ P b = false := by
  constructor
  · intro ⟨h1, h2, h3, h4⟩
    exact ⟨⟨h1, h2, h3, fun a _ h => (by rw [tb_0] at h; cases h)⟩, h4 b hb (by rw [tb_pow]; simp)⟩
  · intro ⟨⟨h1, h2, h3, _⟩, h5⟩
    refine ⟨h1, h2, h3, fun a _ h => ?_⟩
    rw [tb_pow, decide_eq_true_eq] at h
    rw [← h]; exact h5
def laI (c : Nat → Nat) (S b v : Nat) : Prop := v ≤ 1048576 ∧ (∀ q, q < b → q < 6 → S.testBit q = false → ∀ P, okP S 0 P → P q = false → v ≤ cst (mx c) P) ∧ ((v = 1048576 ∧ ∀ q, q < b → q < 6 → S.testBit q = true) ∨ ∃ P, okP S 0 P ∧ cst (mx c) P = v)
theorem laI_0 (c : Nat → Nat) (S : Nat) : laI c S 0 1048576 := ⟨Nat.le_refl _, fun q hq => absurd hq (by omega), Or.inl ⟨rfl, fun q hq => absurd hq (by omega)⟩⟩
theorem laI_in {c : Nat → Nat} {S b v : Nat} (h : laI c S b v) (hb : S.testBit b = true) : laI c S (b + 1) v := by
  obtain ⟨h1, h2, h3⟩ := h
  refine ⟨h1, fun q hq h6 hs => ?_, ?_⟩
  · rcases lt_split hq with z | rfl
    · exact h2 q z h6 hs
    · rw [hb] at hs; cases hs
  · rcases h3 with ⟨e, h3⟩ | h3
    · refine Or.inl ⟨e, fun q hq h6 => ?_⟩
      rcases lt_split hq with z | rfl
      · exact h3 q z h6
      · exact hb
    · exact Or.inr h3
theorem laI_lt {c : Nat → Nat} {S b v w : Nat} (h : laI c S b v) (hb : b < 6) (hw : isMin c S (2 ^ b) w) (hlt : w < v) : laI c S (b + 1) w := by
  obtain ⟨h1, h2, h3⟩ := h
  refine ⟨by omega, fun q hq h6 hs P hP hPq => ?_, Or.inr ?_⟩
  · rcases lt_split hq with z | rfl
    · have := h2 q z h6 hs P hP hPq; omega
    · exact hw.2 P ((okP_b h6).mpr ⟨hP, hPq⟩)
  · obtain ⟨P, hP, e⟩ := hw.1
    exact ⟨P, ((okP_b hb).mp hP).1, e⟩
theorem laI_ge {c : Nat → Nat} {S b v w : Nat} (hc : CutOK c) (h : laI c S b v) (hb : b < 6) (hw : isMin c S (2 ^ b) w) (hge : v ≤ w) : laI c S (b + 1) v := by
  obtain ⟨h1, h2, h3⟩ := h
  have hw1 := isMin_le hc hw
  refine ⟨h1, fun q hq h6 hs P hP hPq => ?_, ?_⟩
  · rcases lt_split hq with z | rfl
    · exact h2 q z h6 hs P hP hPq
    · have := hw.2 P ((okP_b h6).mpr ⟨hP, hPq⟩); omega
  · rcases h3 with ⟨e, h3⟩ | h3
    · omega
    · exact Or.inr h3
theorem laI_end {c : Nat → Nat} {S v : Nat} (hS : S < 64) (h63 : S ≠ 63) (h : laI c S 6 v) : isMin c S 0 v := by
  obtain ⟨h1, h2, h3⟩ := h
  obtain ⟨b, hb, hf⟩ := tb_none hS h63
  refine ⟨?_, fun P hP => ?_⟩
  · rcases h3 with ⟨_, h3⟩ | h3
    · have := h3 b hb hb; rw [hf] at this; cases this
    · exact h3
  · obtain ⟨q, hq, hq'⟩ := hP.2.1
    refine h2 q hq hq ?_ P hP hq'
    cases hs : S.testBit q with
    | false => rfl
    | true => have := hP.2.2.1 q hq hs; rw [hq'] at this; cases this
/-! leastSide -/
def lsG (c : Nat → Nat) (v a S O : Nat) : Prop := S < 64 ∧ O < 64 ∧ S.testBit 0 = true ∧ (∃ P, okP S O P ∧ cst (mx c) P = v) ∧ (∀ q, q < 6 → a < q → S.testBit q = !O.testBit q) ∧ (∀ q, q < 6 → 1 ≤ q → q ≤ a → S.testBit q = false ∧ O.testBit q = false) ∧ O.testBit 0 = false ∧ ∀ T, T < 64 → T % 2 = 1 → 1 ≤ T → T ≤ 62 → cst (mx c) T.testBit = v → S / 2 ^ (a + 1) ≤ T / 2 ^ (a + 1)
theorem lsG_0 {c : Nat → Nat} {v : Nat} (hs : Sym (mx c)) (hv : isMin c 0 0 v) : lsG c v 5 1 0 := by
  refine ⟨by omega, by omega, by decide, ?_, fun q hq h => absurd h (by omega), fun q hq h1 _ => ⟨?_, tb_0 q⟩, tb_0 0, fun T hT _ _ _ _ => ?_⟩
  · obtain ⟨P, hP, e⟩ := hv.1
    have key : ∀ R : Nat → Bool, okP 0 0 R → R 0 = true → okP 1 0 R := fun R hR h0 => ⟨hR.1, hR.2.1, fun a ha h => by
      have : a = 0 := by
        have h1 : (2 ^ 0).testBit a = true := h
        rw [tb_pow, decide_eq_true_eq] at h1
        exact h1.symm
      rw [this]; exact h0, hR.2.2.2⟩
    cases h0 : P 0 with
    | true => exact ⟨P, key P hP h0, e⟩
    | false => exact ⟨fun a => !P a, key _ (okP_compl hP) (by simp [h0]), by rw [cst_compl hs]; exact e⟩
  · have h2 : Nat.testBit (2 ^ 0) q = decide (0 = q) := tb_pow 0 q
    rw [decide_eq_false (by omega)] at h2
    exact h2
  · rw [show 1 / 2 ^ (5 + 1) = 0 by decide]
    exact Nat.zero_le _
theorem lsG_lt {c : Nat → Nat} {v a S O : Nat} (h : lsG c v a S O) : S < 64 ∧ O < 64 := ⟨h.1, h.2.1⟩
theorem lsG_pre {c : Nat → Nat} {v a S O : Nat} (h : lsG c v a S O) (ha : a < 6) (h1 : 1 ≤ a) : S ≠ 0 ∧ (O ||| 2 ^ a) < 64 ∧ (O ||| 2 ^ a) ≠ 0 ∧ S &&& (O ||| 2 ^ a) = 0 := by
  obtain ⟨hS, hO, h0, hex, hd, hu, hO0, hm⟩ := h
  refine ⟨fun z => (by rw [z, tb_0] at h0; cases h0), tb_or_lt hO ha, fun z => ?_, (dis_iff hS).mpr (fun q hq hs => ?_)⟩
  · have := tb_or_self O a
    rw [z, tb_0] at this
    cases this
  · by_cases hqa : q = a
    · rw [hqa, (hu a ha h1 (Nat.le_refl _)).1] at hs; cases hs
    · rw [tb_or_ne hqa]
      rcases Nat.eq_zero_or_pos q with z | z
      · rw [z]; exact hO0
      · rcases Nat.lt_or_ge a q with w | w
        · have := hd q hq w
          rw [hs] at this
          simpa using this.symm
        · exact (hu q hq z w).2
theorem okP_or {S O a : Nat} {P : Nat → Bool} (ha : a < 6) : okP S (O ||| 2 ^ a) P ↔ okP S O P ∧ P a = false := by
  constructor
  · intro ⟨h1, h2, h3, h4⟩
    exact ⟨⟨h1, h2, h3, fun q hq h => h4 q hq (tb_or_mono h)⟩, h4 a ha (tb_or_self O a)⟩
  · intro ⟨⟨h1, h2, h3, h4⟩, h5⟩
    refine ⟨h1, h2, h3, fun q hq h => ?_⟩
    by_cases hqa : q = a
    · rw [hqa]; exact h5
    · rw [tb_or_ne hqa] at h; exact h4 q hq h
theorem okP_orI {S O a : Nat} {P : Nat → Bool} (ha : a < 6) : okP (S ||| 2 ^ a) O P ↔ okP S O P ∧ P a = true := by
  constructor
  · intro ⟨h1, h2, h3, h4⟩
    exact ⟨⟨h1, h2, fun q hq h => h3 q hq (tb_or_mono h), h4⟩, h3 a ha (tb_or_self S a)⟩
  · intro ⟨⟨h1, h2, h3, h4⟩, h5⟩
    refine ⟨h1, h2, fun q hq h => ?_, h4⟩
    by_cases hqa : q = a
    · rw [hqa]; exact h5
    · rw [tb_or_ne hqa] at h; exact h3 q hq h
theorem div_step (S a : Nat) : S / 2 ^ a = 2 * (S / 2 ^ (a + 1)) + (S.testBit a).toNat := by
  rw [Nat.testBit_eq_decide_div_mod_eq, Nat.pow_succ, ← Nat.div_div_eq_div_mul]
  generalize S / 2 ^ a = n
  rcases Nat.mod_two_eq_zero_or_one n with e | e
  · rw [e]; simp; omega
  · rw [e]; simp; omega
theorem div_or {S a : Nat} (h : S.testBit a = false) : (S ||| 2 ^ a) / 2 ^ (a + 1) = S / 2 ^ (a + 1) := by
  refine Nat.eq_of_testBit_eq (fun i => ?_)
  rw [Nat.testBit_div_two_pow, Nat.testBit_div_two_pow, tb_or_ne (by omega)]
theorem div_bits {S T a : Nat} (h : S / 2 ^ (a + 1) = T / 2 ^ (a + 1)) {q : Nat} (hq : a < q) : S.testBit q = T.testBit q := by
  have h1 : (S / 2 ^ (a + 1)).testBit (q - (a + 1)) = (T / 2 ^ (a + 1)).testBit (q - (a + 1)) := by rw [h]
  rw [Nat.testBit_div_two_pow, Nat.testBit_div_two_pow, show q - (a + 1) + (a + 1) = q by omega] at h1
  exact h1
theorem lsG_out {c : Nat → Nat} {v a S O : Nat} (h : lsG c v (a + 1) S O) (ha : a + 1 < 6) (hw : isMin c S (O ||| 2 ^ (a + 1)) v) : lsG c v a S (O ||| 2 ^ (a + 1)) := by
  obtain ⟨hS, hO, h0, hex, hd, hu, hO0, hm⟩ := h
  have hSa := (hu (a + 1) ha (by omega) (Nat.le_refl _)).1
  refine ⟨hS, tb_or_lt hO ha, h0, ?_, fun q hq h1 => ?_, fun q hq h1 h2 => ?_, by rw [tb_or_ne (by omega)]; exact hO0, fun T hT h1 h2 h3 h4 => ?_⟩
  · obtain ⟨P, hP, e⟩ := hw.1
    exact ⟨P, hP, e⟩
  · by_cases hqa : q = a + 1
    · rw [hqa, hSa, tb_or_self]; rfl
    · rw [tb_or_ne hqa]; exact hd q hq (by omega)
  · rw [tb_or_ne (by omega)]; exact hu q hq h1 (by omega)
  · have := hm T hT h1 h2 h3 h4
    rw [div_step S (a + 1), div_step T (a + 1), hSa]
    simp
    omega
theorem lsG_in {c : Nat → Nat} {v a S O w : Nat} (h : lsG c v (a + 1) S O) (ha : a + 1 < 6) (hw : isMin c S (O ||| 2 ^ (a + 1)) w) (hne : w ≠ v) (hv : isMin c 0 0 v) : lsG c v a (S ||| 2 ^ (a + 1)) O := by
  obtain ⟨hS, hO, h0, hex, hd, hu, hO0, hm⟩ := h
  have hSa := (hu (a + 1) ha (by omega) (Nat.le_refl _)).1
  have hOa := (hu (a + 1) ha (by omega) (Nat.le_refl _)).2
  -- no cheapest side of the question leaves the place out
  have hno : ∀ P, okP S O P → cst (mx c) P = v → P (a + 1) = true := by
    intro P hP hPv
    cases hp : P (a + 1) with
    | true => rfl
    | false =>
      have h1 := hw.2 P ((okP_or ha).mpr ⟨hP, hp⟩)
      obtain ⟨R, hR, hRe⟩ := hw.1
      have h2 := hv.2 R ⟨hR.1, hR.2.1, fun q _ z => (by rw [tb_0] at z; cases z), fun q _ z => (by rw [tb_0] at z; cases z)⟩
      omega
  refine ⟨tb_or_lt hS ha, hO, tb_or_mono h0, ?_, fun q hq h1 => ?_, fun q hq h1 h2 => ?_, hO0, fun T hT h1 h2 h3 h4 => ?_⟩
  · obtain ⟨P, hP, e⟩ := hex
    exact ⟨P, (okP_orI ha).mpr ⟨hP, hno P hP e⟩, e⟩
  · by_cases hqa : q = a + 1
    · rw [hqa, tb_or_self, hOa]; rfl
    · rw [tb_or_ne hqa]; exact hd q hq (by omega)
  · rw [tb_or_ne (by omega)]; exact hu q hq h1 (by omega)
  · have hle := hm T hT h1 h2 h3 h4
    rw [div_step (S ||| 2 ^ (a + 1)) (a + 1), div_step T (a + 1), div_or hSa, tb_or_self]
    rcases Nat.lt_or_ge (S / 2 ^ (a + 1 + 1)) (T / 2 ^ (a + 1 + 1)) with z | z
    · have := Bool.toNat_le (T.testBit (a + 1))
      show 2 * _ + 1 ≤ _
      omega
    · have he : S / 2 ^ (a + 1 + 1) = T / 2 ^ (a + 1 + 1) := by omega
      have hT0 : T.testBit 0 = true := by rw [odd_tb, decide_eq_true_eq]; exact h1
      have hok : okP S O T.testBit := by
        obtain ⟨s1, s2⟩ := (side_iff hT).mp ⟨h2, h3⟩
        refine ⟨s1, s2, fun q hq hs => ?_, fun q hq ho => ?_⟩
        · rcases Nat.eq_zero_or_pos q with y | y
          · rw [y]; exact hT0
          · rcases Nat.lt_or_ge (a + 1) q with x | x
            · rw [← div_bits he x]; exact hs
            · rw [(hu q hq y x).1] at hs; cases hs
        · rcases Nat.eq_zero_or_pos q with y | y
          · rw [y, hO0] at ho; cases ho
          · rcases Nat.lt_or_ge (a + 1) q with x | x
            · have := hd q hq x
              rw [ho] at this
              rw [← div_bits he x]; exact this
            · rw [(hu q hq y x).2] at ho; cases ho
      have := hno T.testBit hok h4
      rw [this, he]
      exact Nat.le_refl _
theorem lsG_end {c : Nat → Nat} {v S O : Nat} (hv : isMin c 0 0 v) (h : lsG c v 0 S O) : lsdP c (nI S) := by
  obtain ⟨hS, hO, h0, ⟨P, hP, e⟩, hd, hu, hO0, hm⟩ := h
  have hPS : ∀ q, q < 6 → S.testBit q = P q := by
    intro q hq
    cases hs : S.testBit q with
    | true => exact (hP.2.2.1 q hq hs).symm
    | false =>
      rcases Nat.eq_zero_or_pos q with y | y
      · rw [y, h0] at hs; cases hs
      · have := hd q hq y
        rw [hs] at this
        exact (hP.2.2.2 q hq (by simpa using this.symm)).symm
  have hcs : cst (mx c) S.testBit = v := by rw [cst_congr hPS]; exact e
  have hside := (side_iff hS).mpr (by
    have := okP_congr (fun a ha => (hPS a ha).symm) hP
    exact ⟨this.1, this.2.1⟩)
  have hodd : S % 2 = 1 := by rw [odd_tb, decide_eq_true_eq] at h0; exact h0
  refine ⟨v, S, hv, hside.1, hside.2, hodd, hcs, fun T h1 h2 h3 h4 => ?_, rfl⟩
  have := hm T (by omega) h3 h1 (by omega) h4
  simp at this
  omega
/-! forced -/
theorem or_zero' (a : Nat) : a ||| 0 = a := Nat.or_zero a
theorem forP_bad {c : Nat → Nat} {i j : Nat} (hi : i < 64) (hj : j < 64) (h : i &&& j ≠ 0 ∨ i = 63 ∨ j = 63) : forP c (nI i) (nI j) (-1) := by
  refine Or.inl ⟨i, j, hi, hj, rfl, rfl, Or.inr ⟨fun P hP => ?_, rfl⟩⟩
  rcases h with h | h | h
  · refine h ((dis_iff hi).mpr (fun a ha hs => ?_))
    have h1 := hP.2.2.1 a ha hs
    cases ho : j.testBit a with
    | false => rfl
    | true => have := hP.2.2.2 a ha ho; rw [h1] at this; cases this
  · obtain ⟨b, hb, hb'⟩ := hP.2.1
    have := hP.2.2.1 b hb (by rw [h]; exact tb_63 b hb)
    rw [hb'] at this; cases this
  · obtain ⟨b, hb, hb'⟩ := hP.1
    have := hP.2.2.2 b hb (by rw [h]; exact tb_63 b hb)
    rw [hb'] at this; cases this
theorem forP_min {c : Nat → Nat} {i j v : Nat} (hi : i < 64) (hj : j < 64) (h : isMin c i j v) : forP c (nI i) (nI j) (nI v) := Or.inl ⟨i, j, hi, hj, rfl, rfl, Or.inl ⟨v, h, rfl⟩⟩
end
section
/-! adding the most tightly joined, putting the last two together: plain numbers -/
def cutT (M : Nat → Nat → Nat) (T P : Nat → Bool) : Nat := s2 (fun a b => if (T a && T b && (P a && !P b)) = true then M a b else 0)
def crs (M : Nat → Nat → Nat) (A P : Nat → Bool) (u : Nat) : Nat := sm 6 (fun x => if (A x && (P x != P u)) = true then M u x else 0)
def wA (M : Nat → Nat → Nat) (A : Nat → Bool) (u : Nat) : Nat := sm 6 (fun b => if A b = true then M u b else 0)
def addP (A : Nat → Bool) (u : Nat) : Nat → Bool := fun a => A a || decide (u = a)
def symT (M : Nat → Nat → Nat) (T : Nat → Bool) : Prop := ∀ a, a < 6 → ∀ b, b < 6 → T a = true → T b = true → M a b = M b a
theorem addP_s (A : Nat → Bool) (u : Nat) : addP A u u = true := by unfold addP; simp
theorem addP_n {A : Nat → Bool} {u a : Nat} (h : a ≠ u) : addP A u a = A a := by unfold addP; rw [decide_eq_false (fun z => h z.symm), Bool.or_false]
theorem cutT_add {M : Nat → Nat → Nat} {A P : Nat → Bool} {u : Nat} (hu : u < 6) (hA : A u = false) (hs : symT M (addP A u)) : cutT M (addP A u) P = cutT M A P + crs M A P u := by
  have e : cutT M (addP A u) P = s2 (fun a b => (if (A a && A b && (P a && !P b)) = true then M a b else 0) + ((if a = u then (fun b => if (A b && (P u && !P b)) = true then M u b else 0) b else 0) + (if b = u then (fun a => if (A a && (P a && !P u)) = true then M u a else 0) a else 0))) := by
    refine s2_congr (fun a ha b hb => ?_)
    by_cases h1 : a = u
    · by_cases h2 : b = u
      · subst h1; subst h2
        simp [hA]
      · subst h1
        rw [addP_s, addP_n h2]
        simp [hA, h2]
    · by_cases h2 : b = u
      · subst h2
        rw [addP_s, addP_n h1]
        cases hAa : A a with
        | false => simp [hA, h1, hAa]
        | true =>
          have := hs a ha b hb (by rw [addP_n h1]; exact hAa) (addP_s A b)
          simp [hA, h1, this, hAa]
      · rw [addP_n h1, addP_n h2]
        simp [h1, h2]
  rw [e, s2_add, s2_add, s2_row hu, s2_col hu, ← sm_add]
  show _ = cutT M A P + sm 6 (fun x => if (A x && (P x != P u)) = true then M u x else 0)
  refine congrArg (fun z => cutT M A P + z) (sm_congr (fun x _ => ?_))
  cases A x <;> cases P x <;> cases P u <;> simp
theorem wA_add {M : Nat → Nat → Nat} {A : Nat → Bool} {u v : Nat} (hv : v < 6) (hA : A v = false) : wA M (addP A v) u = wA M A u + M u v := by
  have e : wA M (addP A v) u = sm 6 (fun b => (if A b = true then M u b else 0) + (if b = v then M u v else 0)) := sm_congr (fun b _ => by
    by_cases h : b = v
    · subst h; rw [addP_s]; simp [hA]
    · rw [addP_n h]; simp [h])
  rw [e, sm_add, sm_ite hv]
  rfl
theorem crs_add {M : Nat → Nat → Nat} {A P : Nat → Bool} {u v : Nat} (hv : v < 6) (hA : A v = false) : crs M (addP A v) P u = crs M A P u + (if (P v != P u) = true then M u v else 0) := by
  have e : crs M (addP A v) P u = sm 6 (fun b => (if (A b && (P b != P u)) = true then M u b else 0) + (if b = v then (if (P v != P u) = true then M u v else 0) else 0)) := sm_congr (fun b _ => by
    by_cases h : b = v
    · subst h; rw [addP_s]; simp [hA]
    · rw [addP_n h]; simp [h])
  rw [e, sm_add, sm_ite hv]
  rfl
/-- what is added is added by tightness: a cut between the last and the next costs at least the next one's tightness -/
def maI (M : Nat → Nat → Nat) (T A : Nat → Bool) (l : Nat) : Prop := ∀ (P : Nat → Bool) (u : Nat), u < 6 → T u = true → A u = false → P u ≠ P l → wA M A u ≤ cutT M A P + crs M A P u
theorem symT_sub {M : Nat → Nat → Nat} {T A : Nat → Bool} (h : symT M T) (hs : ∀ q, q < 6 → A q = true → T q = true) : symT M A := fun a ha b hb h1 h2 => h a ha b hb (hs a ha h1) (hs b hb h2)
theorem addP_sub {T A : Nat → Bool} {v : Nat} (hs : ∀ q, q < 6 → A q = true → T q = true) (hT : T v = true) : ∀ q, q < 6 → addP A v q = true → T q = true := by
  intro q hq h
  by_cases e : q = v
  · rw [e]; exact hT
  · rw [addP_n e] at h; exact hs q hq h
theorem bne_of_ne {a b : Bool} (h : a ≠ b) : (a != b) = true := by cases a <;> cases b <;> simp_all
theorem maI_step {M : Nat → Nat → Nat} {T A : Nat → Bool} {l v : Nat} (h : maI M T A l) (hs : symT M T) (hA : ∀ q, q < 6 → A q = true → T q = true) (hv : v < 6) (hT : T v = true) (hAv : A v = false) (hmax : ∀ u, u < 6 → T u = true → A u = false → wA M A u ≤ wA M A v) : maI M T (addP A v) v := by
  intro P u hu hTu hAu hP
  have huv : u ≠ v := fun z => by rw [z, addP_s] at hAu; cases hAu
  rw [addP_n huv] at hAu
  rw [wA_add hv hAv, cutT_add hv hAv (symT_sub hs (addP_sub hA hT)), crs_add hv hAv, if_pos (bne_of_ne (fun z => hP z.symm))]
  by_cases hl : P v = P l
  · have := h P u hu hTu hAu (by rw [← hl]; exact hP)
    omega
  · have h1 := h P v hv hT hAv hl
    have h2 := hmax u hu hTu hAu
    omega
theorem maI_first {M : Nat → Nat → Nat} {T A : Nat → Bool} {v : Nat} (hv : v < 6) (hA : ∀ q, q < 6 → A q = false) : maI M T (addP A v) v := by
  intro P u hu hTu hAu hP
  have h0 : wA M A u = 0 := sm_zero (fun b hb => by rw [hA b hb]; rfl)
  rw [wA_add hv (hA v hv), crs_add hv (hA v hv), if_pos (bne_of_ne (fun z => hP z.symm)), h0]
  omega
theorem wA_congr {M : Nat → Nat → Nat} {A B : Nat → Bool} (h : ∀ q, q < 6 → A q = B q) (u : Nat) : wA M A u = wA M B u := sm_congr (fun b hb => by rw [h b hb])
theorem cutT_congr {M : Nat → Nat → Nat} {A B : Nat → Bool} (h : ∀ q, q < 6 → A q = B q) (P : Nat → Bool) : cutT M A P = cutT M B P := s2_congr (fun a ha b hb => by rw [h a ha, h b hb])
theorem crs_congr {M : Nat → Nat → Nat} {A B : Nat → Bool} (h : ∀ q, q < 6 → A q = B q) (P : Nat → Bool) (u : Nat) : crs M A P u = crs M B P u := sm_congr (fun b hb => by rw [h b hb])
theorem maI_congr {M : Nat → Nat → Nat} {T A B : Nat → Bool} {l : Nat} (h : ∀ q, q < 6 → A q = B q) (hm : maI M T A l) : maI M T B l := by
  intro P u hu hT hB hP
  have := hm P u hu hT (by rw [h u hu]; exact hB) hP
  rw [wA_congr h, cutT_congr h, crs_congr h] at this
  exact this
/-! tightest: the one of T and not of A that is joined most tightly to A -/
def tgI (M : Nat → Nat → Nat) (T A a : Nat) (best : Int32) (ti : Nat → Nat) : Prop := (best = -1 ∧ ∀ q, q < a → q < 6 → ¬ (T.testBit q = true ∧ A.testBit q = false)) ∨ ∃ v, best = nI v ∧ v < a ∧ v < 6 ∧ T.testBit v = true ∧ A.testBit v = false ∧ ti v = wA M A.testBit v ∧ ∀ q, q < a → q < 6 → T.testBit q = true → A.testBit q = false → wA M A.testBit q ≤ wA M A.testBit v
def tgP (M : Nat → Nat → Nat) (T A : Nat) (r : Int32) (ti : Nat → Nat) : Prop := ∃ v, r = nI v ∧ v < 6 ∧ T.testBit v = true ∧ A.testBit v = false ∧ ti v = wA M A.testBit v ∧ ∀ q, q < 6 → T.testBit q = true → A.testBit q = false → wA M A.testBit q ≤ wA M A.testBit v
theorem tgI_0 (M : Nat → Nat → Nat) (T A : Nat) (ti : Nat → Nat) : tgI M T A 0 (-1) ti := Or.inl ⟨rfl, fun q hq => absurd hq (by omega)⟩
theorem tgI_skip {M : Nat → Nat → Nat} {T A a : Nat} {best : Int32} {ti : Nat → Nat} (h : tgI M T A a best ti) (hn : T.testBit a = false ∨ A.testBit a = true) : tgI M T A (a + 1) best ti := by
  rcases h with ⟨rfl, h⟩ | ⟨v, rfl, h1, h2, h3, h4, h5, h6⟩
  · refine Or.inl ⟨rfl, fun q hq h6 hz => ?_⟩
    rcases lt_split hq with z | rfl
    · exact h q z h6 hz
    · rcases hn with w | w
      · rw [w] at hz; cases hz.1
      · rw [w] at hz; cases hz.2
  · refine Or.inr ⟨v, rfl, by omega, h2, h3, h4, h5, fun q hq hq6 hT hA => ?_⟩
    rcases lt_split hq with z | rfl
    · exact h6 q z hq6 hT hA
    · rcases hn with w | w
      · rw [w] at hT; cases hT
      · rw [w] at hA; cases hA
theorem tgI_new {M : Nat → Nat → Nat} {T A a : Nat} {ti : Nat → Nat} (h : ∀ q, q < a → q < 6 → ¬ (T.testBit q = true ∧ A.testBit q = false)) (ha : a < 6) (hT : T.testBit a = true) (hA : A.testBit a = false) : tgI M T A (a + 1) (nI a) (va_up ti a (wA M A.testBit a)) := by
  refine Or.inr ⟨a, rfl, by omega, ha, hT, hA, up_s _ _ _, fun q hq hq6 h1 h2 => ?_⟩
  rcases lt_split hq with z | rfl
  · exact absurd ⟨h1, h2⟩ (h q z hq6)
  · exact Nat.le_refl _
theorem tgI_gt {M : Nat → Nat → Nat} {T A a v : Nat} {ti : Nat → Nat} (h6 : ∀ q, q < a → q < 6 → T.testBit q = true → A.testBit q = false → wA M A.testBit q ≤ wA M A.testBit v) (ha : a < 6) (hT : T.testBit a = true) (hA : A.testBit a = false) (hgt : wA M A.testBit v < wA M A.testBit a) : tgI M T A (a + 1) (nI a) (va_up ti a (wA M A.testBit a)) := by
  refine Or.inr ⟨a, rfl, by omega, ha, hT, hA, up_s _ _ _, fun q hq hq6 h1 h2 => ?_⟩
  rcases lt_split hq with z | rfl
  · have := h6 q z hq6 h1 h2; omega
  · exact Nat.le_refl _
theorem tgI_le {M : Nat → Nat → Nat} {T A a v : Nat} {ti : Nat → Nat} (h1 : v < a) (h2 : v < 6) (h3 : T.testBit v = true) (h4 : A.testBit v = false) (h5 : ti v = wA M A.testBit v) (h6 : ∀ q, q < a → q < 6 → T.testBit q = true → A.testBit q = false → wA M A.testBit q ≤ wA M A.testBit v) (hle : wA M A.testBit a ≤ wA M A.testBit v) : tgI M T A (a + 1) (nI v) (va_up ti a (wA M A.testBit a)) := by
  refine Or.inr ⟨v, rfl, by omega, h2, h3, h4, by rw [up_n (by omega)]; exact h5, fun q hq hq6 g1 g2 => ?_⟩
  rcases lt_split hq with z | rfl
  · exact h6 q z hq6 g1 g2
  · exact hle
theorem tgI_end {M : Nat → Nat → Nat} {T A : Nat} {best : Int32} {ti : Nat → Nat} (h : tgI M T A 6 best ti) (hex : ∃ q, q < 6 ∧ T.testBit q = true ∧ A.testBit q = false) : tgP M T A best ti := by
  rcases h with ⟨rfl, h⟩ | ⟨v, rfl, h1, h2, h3, h4, h5, h6⟩
  · obtain ⟨q, hq, hz⟩ := hex
    exact absurd hz (h q hq hq)
  · exact ⟨v, rfl, h2, h3, h4, h5, fun q hq => h6 q hq hq⟩
theorem wA_bound {M : Nat → Nat → Nat} {T A : Nat → Bool} {B : Nat} (hB : ∀ p, p < 6 → ∀ q, q < 6 → T p = true → T q = true → p ≠ q → M p q ≤ B) (hA : ∀ q, q < 6 → A q = true → T q = true) {u : Nat} (hu : u < 6) (hT : T u = true) (hAu : A u = false) : wA M A u ≤ 6 * B := by
  refine sm_bound (fun b hb => ?_)
  by_cases h : A b = true
  · rw [if_pos h]
    exact hB u hu b hb hT (hA b hb h) (fun z => by rw [← z, hAu] at h; cases h)
  · rw [if_neg h]; exact Nat.zero_le _
/-! merge -/
def mgI (s t : Nat) (j0 : Nat → Nat) (c : Nat) (j : Nat → Nat) : Prop :=
  (∀ p, p < 6 → ∀ q, q < 6 → p ≠ s → q ≠ s → j (p * 6 + q) = j0 (p * 6 + q)) ∧ (∀ q, q < 6 → q ≠ s → q ≠ t → j (s * 6 + q) = if q < c then j0 (s * 6 + q) + j0 (t * 6 + q) else j0 (s * 6 + q)) ∧ (∀ q, q < 6 → q ≠ s → q ≠ t → q < c → j (q * 6 + s) = j0 (s * 6 + q) + j0 (t * 6 + q))
theorem mgI_0 (s t : Nat) (j : Nat → Nat) : mgI s t j 0 j := ⟨fun _ _ _ _ _ _ => rfl, fun q _ _ _ => (if_neg (by omega)).symm, fun q _ _ _ h => absurd h (by omega)⟩
theorem mgI_step {s t c : Nat} {j0 j : Nat → Nat} (hs : s < 6) (ht : t < 6) (hst : s ≠ t) (hc : c < 6) (h : mgI s t j0 c j) : mgI s t j0 (c + 1) (va_up (va_up j (s * 6 + c) (j (s * 6 + c) + j (t * 6 + c))) (c * 6 + s) (va_up j (s * 6 + c) (j (s * 6 + c) + j (t * 6 + c)) (s * 6 + c))) := by
  obtain ⟨h1, h2, h3⟩ := h
  refine ⟨fun p hp q hq a b => ?_, fun q hq a b => ?_, fun q hq a b hlt => ?_⟩
  · rw [up_n (by omega), up_n (by omega)]
    exact h1 p hp q hq a b
  · rw [up_n (by omega)]
    by_cases e : q = c
    · subst e
      rw [up_s, h2 q hq a b, if_neg (by omega), if_pos (by omega), h1 t ht q hq (fun z => hst z.symm) a]
    · rw [up_n (by omega), h2 q hq a b]
      by_cases z : q < c
      · rw [if_pos z, if_pos (by omega)]
      · rw [if_neg z, if_neg (by omega)]
  · by_cases e : q = c
    · subst e
      rw [up_s, up_s, h2 q hq a b, if_neg (by omega), h1 t ht q hq (fun z => hst z.symm) a]
    · rw [up_n (by omega), up_n (by omega)]
      exact h3 q hq a b (by omega)
def mgP (s t : Nat) (j0 j : Nat → Nat) : Prop := (∀ p, p < 6 → ∀ q, q < 6 → p ≠ s → q ≠ s → mx j p q = mx j0 p q) ∧ ∀ q, q < 6 → q ≠ s → q ≠ t → mx j s q = mx j0 s q + mx j0 t q ∧ mx j q s = mx j0 s q + mx j0 t q
theorem mgI_end {s t : Nat} {j0 j : Nat → Nat} (hs : s < 6) (h : mgI s t j0 6 j) : mgP s t j0 (va_up j (s * 6 + s) 0) := by
  obtain ⟨h1, h2, h3⟩ := h
  refine ⟨fun p hp q hq a b => ?_, fun q hq a b => ⟨?_, ?_⟩⟩
  · show va_up j (s * 6 + s) 0 (p * 6 + q) = j0 (p * 6 + q)
    rw [up_n (by omega)]
    exact h1 p hp q hq a b
  · show va_up j (s * 6 + s) 0 (s * 6 + q) = j0 (s * 6 + q) + j0 (t * 6 + q)
    rw [up_n (by omega), h2 q hq a b, if_pos hq]
  · show va_up j (s * 6 + s) 0 (q * 6 + s) = j0 (s * 6 + q) + j0 (t * 6 + q)
    rw [up_n (by omega)]
    exact h3 q hq a b hq
/-! the picks of a phase -/
def phs (M : Nat → Nat → Nat) (T A t : Nat) (before : Int32) (ti : Nat → Nat) : Prop := ∃ (s : Nat) (A' : Nat → Bool), s < 6 ∧ before = nI s ∧ A' s = true ∧ A' t = false ∧ (∀ q, q < 6 → A.testBit q = addP A' t q) ∧ ti t = wA M A' t ∧ maI M T.testBit A' s
def pkI (M : Nat → Nat → Nat) (T A cnt : Nat) (last before : Int32) (ti : Nat → Nat) : Prop := A < 64 ∧ (∀ q, q < 6 → A.testBit q = true → T.testBit q = true) ∧ pcn A = cnt ∧ ((cnt = 0 ∧ A = 0 ∧ last = -1) ∨ ∃ t, t < 6 ∧ last = nI t ∧ A.testBit t = true ∧ 1 ≤ cnt ∧ maI M T.testBit A.testBit t ∧ (2 ≤ cnt → phs M T A t before ti))
theorem pkI_0 (M : Nat → Nat → Nat) (T : Nat) (ti : Nat → Nat) : pkI M T 0 0 (-1) (-1) ti := ⟨by omega, fun q _ h => (by rw [tb_0] at h; cases h), pcn_0, Or.inl ⟨rfl, rfl, rfl⟩⟩
theorem pcn_mono {A T : Nat} (h : ∀ q, q < 6 → A.testBit q = true → T.testBit q = true) : pcn A ≤ pcn T := sm_le (fun q hq => by
  by_cases e : A.testBit q = true
  · rw [if_pos e, if_pos (h q hq e)]; exact Nat.le_refl _
  · rw [if_neg e]; exact Nat.zero_le _)
theorem pick_ex {A T : Nat} (h : pcn A < pcn T) : ∃ q, q < 6 ∧ T.testBit q = true ∧ A.testBit q = false := by
  apply Classical.byContradiction
  intro hno
  have : pcn T ≤ pcn A := pcn_mono (fun q hq hT => by
    cases hA : A.testBit q with
    | true => rfl
    | false => exact absurd ⟨q, hq, hT, hA⟩ hno)
  omega
theorem pick_all {A T : Nat} (hs : ∀ q, q < 6 → A.testBit q = true → T.testBit q = true) (h : pcn T ≤ pcn A) : ∀ q, q < 6 → A.testBit q = T.testBit q := by
  intro q hq
  cases hA : A.testBit q with
  | true => exact (hs q hq hA).symm
  | false =>
    cases hT : T.testBit q with
    | false => rfl
    | true =>
      have h1 := pcn_add hq hA
      have h2 : pcn (A ||| 2 ^ q) ≤ pcn T := pcn_mono (fun p hp hb => by
        by_cases e : p = q
        · rw [e]; exact hT
        · rw [tb_or_ne e] at hb; exact hs p hp hb)
      omega
theorem pkI_step {M : Nat → Nat → Nat} {T A cnt : Nat} {last before r : Int32} {ti ti' : Nat → Nat} (hs : symT M T.testBit) (h : pkI M T A cnt last before ti) (ht : tgP M T A r ti') : ∃ v, r = nI v ∧ v < 6 ∧ pkI M T (A ||| 2 ^ v) (cnt + 1) (nI v) last ti' := by
  obtain ⟨h1, h2, h3, h4⟩ := h
  obtain ⟨v, rfl, hv, hT, hA, hti, hmax⟩ := ht
  have hor : ∀ q, q < 6 → addP A.testBit v q = (A ||| 2 ^ v).testBit q := fun q _ => (tb_or A v q).symm
  refine ⟨v, rfl, hv, tb_or_lt h1 hv, fun q hq hb => ?_, by rw [pcn_add hv hA, h3], Or.inr ⟨v, hv, rfl, tb_or_self A v, by omega, ?_, fun h5 => ?_⟩⟩
  · by_cases e : q = v
    · rw [e]; exact hT
    · rw [tb_or_ne e] at hb; exact h2 q hq hb
  · rcases h4 with ⟨_, e, _⟩ | ⟨t, ht6, _, _, _, hm, _⟩
    · exact maI_congr hor (maI_first hv (fun q _ => by rw [e]; exact tb_0 q))
    · exact maI_congr hor (maI_step hm hs h2 hv hT hA hmax)
  · rcases h4 with ⟨e, _, _⟩ | ⟨t, ht6, e, hAt, _, hm, _⟩
    · omega
    · exact ⟨t, A.testBit, ht6, e, hAt, hA, fun q hq => (hor q hq).symm, hti, hm⟩
/-! the phases -/
def prop (T Q : Nat → Bool) : Prop := (∃ p, p < 6 ∧ T p = true ∧ Q p = true) ∧ ∃ q, q < 6 ∧ T q = true ∧ Q q = false
def swI (c : Nat → Nat) (T : Nat) (M : Nat → Nat → Nat) (ph best : Nat) : Prop :=
  T < 64 ∧ pcn T + ph = 6 ∧ symT M T.testBit ∧ (∀ p, p < 6 → ∀ q, q < 6 → T.testBit p = true → T.testBit q = true → p ≠ q → M p q ≤ 31 * 2 ^ ph) ∧ best ≤ 1048576 ∧ (best = 1048576 ∨ ∃ P, okP 0 0 P ∧ cst (mx c) P = best) ∧
  (∀ P, okP 0 0 P → best ≤ cst (mx c) P ∨ ∃ Q, prop T.testBit Q ∧ cutT M T.testBit Q ≤ cst (mx c) P) ∧ ∀ Q, prop T.testBit Q → ∃ P, okP 0 0 P ∧ cst (mx c) P = cutT M T.testBit Q
theorem okP00 {P : Nat → Bool} (h : prop (Nat.testBit 63) P) : okP 0 0 P := by
  obtain ⟨⟨p, hp, _, h1⟩, ⟨q, hq, _, h2⟩⟩ := h
  exact ⟨⟨p, hp, h1⟩, ⟨q, hq, h2⟩, fun a _ z => (by rw [tb_0] at z; cases z), fun a _ z => (by rw [tb_0] at z; cases z)⟩
theorem swI_0 {c j : Nat → Nat} (hc : CutOK c) (hj : ∀ k, k < 36 → j k = c k) : swI c 63 (mx j) 0 1048576 := by
  have hm : ∀ a, a < 6 → ∀ b, b < 6 → mx j a b = mx c a b := fun a ha b hb => hj _ (by omega)
  have he : ∀ Q, cutT (mx j) (Nat.testBit 63) Q = cst (mx c) Q := fun Q => s2_congr (fun a ha b hb => by rw [tb_63 a ha, tb_63 b hb, hm a ha b hb]; rfl)
  refine ⟨by omega, by rw [pcn_63], fun a ha b hb _ _ => by rw [hm a ha b hb, hm b hb a ha]; exact hc.1 a ha b hb, fun p hp q hq _ _ _ => by rw [hm p hp q hq]; exact CutOK_mx hc p hp q hq, Nat.le_refl _, Or.inl rfl, fun P hP => Or.inr ⟨P, ?_, by rw [he]; exact Nat.le_refl _⟩, fun Q hQ => ⟨Q, okP00 hQ, (he Q).symm⟩⟩
  obtain ⟨⟨a, ha, h1⟩, ⟨b, hb, h2⟩, _⟩ := hP
  exact ⟨⟨a, ha, tb_63 a ha, h1⟩, ⟨b, hb, tb_63 b hb, h2⟩⟩
theorem tb_del {T t q : Nat} (hq : q < 6) : (T &&& (63 ^^^ 2 ^ t)).testBit q = (T.testBit q && !decide (t = q)) := by rw [Nat.testBit_and, tb_not hq, tb_pow]
theorem tb_del_s {T t : Nat} (ht : t < 6) : (T &&& (63 ^^^ 2 ^ t)).testBit t = false := by rw [tb_del ht]; simp
theorem tb_del_n {T t q : Nat} (hq : q < 6) (h : q ≠ t) : (T &&& (63 ^^^ 2 ^ t)).testBit q = T.testBit q := by rw [tb_del hq, decide_eq_false (fun z => h z.symm)]; simp
theorem cutT_mx {M M' : Nat → Nat → Nat} {A P : Nat → Bool} (h : ∀ a, a < 6 → ∀ b, b < 6 → A a = true → A b = true → M a b = M' a b) : cutT M A P = cutT M' A P := s2_congr (fun a ha b hb => by
  by_cases h1 : A a = true
  · by_cases h2 : A b = true
    · rw [h a ha b hb h1 h2]
    · rw [Bool.not_eq_true] at h2; simp [h2]
  · rw [Bool.not_eq_true] at h1; simp [h1])
/-- two places put together: sides that don't part them cost the same -/
theorem merge_cut {j0 j : Nat → Nat} {T : Nat} {s t : Nat} {P : Nat → Bool} (hs : s < 6) (ht : t < 6) (hst : s ≠ t) (hTs : T.testBit s = true) (hTt : T.testBit t = true) (hsy : symT (mx j0) T.testBit) (hm : mgP s t j0 j) (hP : P s = P t) : cutT (mx j) (T &&& (63 ^^^ 2 ^ t)).testBit P = cutT (mx j0) T.testBit P := by
  -- the rest
  have B0 : ∀ B : Nat → Bool, (∀ q, q < 6 → B q = (T.testBit q && !decide (q = s) && !decide (q = t))) → cutT (mx j) (T &&& (63 ^^^ 2 ^ t)).testBit P = cutT (mx j0) T.testBit P := by
    intro B hB
    have hBs : B s = false := by rw [hB s hs]; simp
    have hBt : B t = false := by rw [hB t ht]; simp
    have hBT : ∀ q, q < 6 → B q = true → T.testBit q = true ∧ q ≠ s ∧ q ≠ t := by
      intro q hq h
      rw [hB q hq] at h
      simp at h
      exact ⟨h.1.1, h.1.2, h.2⟩
    have e1 : ∀ q, q < 6 → (T &&& (63 ^^^ 2 ^ t)).testBit q = addP B s q := by
      intro q hq
      by_cases h1 : q = s
      · rw [h1, addP_s, tb_del_n hs hst]; exact hTs
      · rw [addP_n h1, hB q hq, tb_del hq, decide_eq_false h1]
        by_cases h2 : q = t
        · simp [h2]
        · have h3 : ¬ t = q := fun z => h2 z.symm
          simp [h2, h3]
    have e2 : ∀ q, q < 6 → T.testBit q = addP (addP B s) t q := by
      intro q hq
      by_cases h2 : q = t
      · rw [h2, addP_s]; exact hTt
      · rw [addP_n h2, ← e1 q hq, tb_del_n hq h2]
    have hAt : addP B s t = false := by rw [addP_n (fun z => hst z.symm)]; exact hBt
    have hsT : symT (mx j0) (addP (addP B s) t) := symT_sub hsy (fun q hq h => by rw [e2 q hq]; exact h)
    have hsS : symT (mx j0) (addP B s) := symT_sub hsy (fun q hq h => by
      have := e1 q hq
      rw [h, tb_del hq, Bool.and_eq_true] at this
      exact this.1)
    have hsJ : symT (mx j) (addP B s) := by
      intro a ha b hb h1 h2
      by_cases ea : a = s
      · by_cases eb : b = s
        · rw [ea, eb]
        · rw [addP_n eb] at h2
          obtain ⟨_, _, z⟩ := hBT b hb h2
          rw [ea, (hm.2 b hb eb z).1, (hm.2 b hb eb z).2]
      · rw [addP_n ea] at h1
        obtain ⟨y1, y2, y3⟩ := hBT a ha h1
        by_cases eb : b = s
        · rw [eb, (hm.2 a ha ea y3).1, (hm.2 a ha ea y3).2]
        · rw [addP_n eb] at h2
          obtain ⟨x1, x2, x3⟩ := hBT b hb h2
          rw [hm.1 a ha b hb ea eb, hm.1 b hb a ha eb ea]
          exact hsy a ha b hb y1 x1
    rw [cutT_congr e1, cutT_congr e2, cutT_add ht hAt hsT, cutT_add hs hBs hsS, cutT_add hs hBs hsJ, crs_add hs hBs, if_neg (by rw [hP]; simp), Nat.add_zero]
    have c1 : cutT (mx j) B P = cutT (mx j0) B P := cutT_mx (fun a ha b hb h1 h2 => hm.1 a ha b hb (hBT a ha h1).2.1 (hBT b hb h2).2.1)
    have c2 : crs (mx j) B P s = crs (mx j0) B P s + crs (mx j0) B P t := by
      show _ = sm 6 _ + sm 6 _
      rw [← sm_add]
      refine sm_congr (fun x hx => ?_)
      rw [← hP]
      by_cases hb : B x = true
      · obtain ⟨_, y2, y3⟩ := hBT x hx hb
        rw [(hm.2 x hx y2 y3).1]
        split <;> simp
      · rw [Bool.not_eq_true] at hb
        simp [hb]
    rw [c1, c2]
    omega
  exact B0 (fun q => T.testBit q && !decide (q = s) && !decide (q = t)) (fun q _ => rfl)
theorem swI_step {c j0 : Nat → Nat} {T A ph best t : Nat} {before : Int32} {ti : Nat → Nat} (h : swI c T (mx j0) ph best) (hall : ∀ q, q < 6 → A.testBit q = T.testBit q) (ht : t < 6) (hp : phs (mx j0) T A t before ti) :
    ∃ s, s < 6 ∧ before = nI s ∧ s ≠ t ∧ ti t ≤ 6 * (31 * 2 ^ ph) ∧ ∀ j, (mgP s t j0 j → swI c (T &&& (63 ^^^ 2 ^ t)) (mx j) (ph + 1) (if ti t < best then ti t else best)) := by
  obtain ⟨hT, hpc, hsy, hbd, hb20, hat, hlow, hlift⟩ := h
  obtain ⟨s, A', hs, hbe, hA's, hA't, hadd, hti, hma⟩ := hp
  have hst : s ≠ t := fun z => by rw [z, hA't] at hA's; cases hA's
  have hTx : T.testBit t = true := by rw [← hall t ht, hadd t ht, addP_s]
  have htb : ti t ≤ 6 * (31 * 2 ^ ph) := by
    rw [hti]
    exact wA_bound hbd (fun q hq z => by rw [← hall q hq, hadd q hq]; unfold addP; rw [z]; rfl) ht hTx hA't
  refine ⟨s, hs, hbe, hst, htb, fun j hm => ?_⟩
  have hT' : ∀ q, q < 6 → T.testBit q = addP A' t q := fun q hq => by rw [← hall q hq]; exact hadd q hq
  have hTt : T.testBit t = true := by rw [hT' t ht, addP_s]
  have hTs : T.testBit s = true := by rw [hT' s hs, addP_n hst]; exact hA's
  have hsA : symT (mx j0) (addP A' t) := symT_sub hsy (fun q hq z => by rw [hT' q hq]; exact z)
  -- the cut of the phase
  have hcutP : ∀ P : Nat → Bool, P s ≠ P t → ti t ≤ cutT (mx j0) T.testBit P := by
    intro P hP
    rw [cutT_congr hT', cutT_add ht hA't hsA, hti]
    exact hma P t ht hTt hA't (fun z => hP z.symm)
  have hcutt : cutT (mx j0) T.testBit (fun q => decide (q = t)) = ti t := by
    rw [cutT_congr hT', cutT_add ht hA't hsA, hti]
    have z1 : cutT (mx j0) A' (fun q => decide (q = t)) = 0 := s2_zero (fun a ha b hb => by
      by_cases e : a = t
      · rw [e, hA't]; simp
      · simp [e])
    rw [z1, Nat.zero_add]
    refine sm_congr (fun x hx => ?_)
    by_cases e : x = t
    · rw [e, hA't]; simp
    · simp [e]
  refine ⟨and_lt64 hT, ?_, ?_, ?_, ?_, ?_, ?_, ?_⟩
  · have h1 := pcn_add ht (tb_del_s (T := T) ht)
    have h2 : (T &&& (63 ^^^ 2 ^ t)) ||| 2 ^ t = T := tb_ext (tb_or_lt (and_lt64 hT) ht) hT (fun q hq => by
      by_cases e : q = t
      · rw [e, tb_or_self, hTt]
      · rw [tb_or_ne e, tb_del_n hq e])
    rw [h2] at h1
    omega
  · intro a ha b hb h1 h2
    have na : a ≠ t := fun z => by rw [z, tb_del_s ht] at h1; cases h1
    have nb : b ≠ t := fun z => by rw [z, tb_del_s ht] at h2; cases h2
    rw [tb_del_n ha na] at h1
    rw [tb_del_n hb nb] at h2
    by_cases ea : a = s
    · by_cases eb : b = s
      · rw [ea, eb]
      · rw [ea, (hm.2 b hb eb nb).1, (hm.2 b hb eb nb).2]
    · by_cases eb : b = s
      · rw [eb, (hm.2 a ha ea na).1, (hm.2 a ha ea na).2]
      · rw [hm.1 a ha b hb ea eb, hm.1 b hb a ha eb ea]
        exact hsy a ha b hb h1 h2
  · intro a ha b hb h1 h2 hne
    have na : a ≠ t := fun z => by rw [z, tb_del_s ht] at h1; cases h1
    have nb : b ≠ t := fun z => by rw [z, tb_del_s ht] at h2; cases h2
    rw [tb_del_n ha na] at h1
    rw [tb_del_n hb nb] at h2
    rw [Nat.pow_succ]
    by_cases ea : a = s
    · have eb : b ≠ s := fun z => hne (by rw [ea, z])
      have x1 := hbd s hs b hb hTs h2 (fun z => eb z.symm)
      have x2 := hbd t ht b hb hTt h2 (fun z => nb z.symm)
      rw [ea, (hm.2 b hb eb nb).1]
      omega
    · by_cases eb : b = s
      · have x1 := hbd s hs a ha hTs h1 (fun z => ea z.symm)
        have x2 := hbd t ht a ha hTt h1 (fun z => na z.symm)
        rw [eb, (hm.2 a ha ea na).2]
        omega
      · have x1 := hbd a ha b hb h1 h2 hne
        rw [hm.1 a ha b hb ea eb]
        omega
  · split <;> omega
  · by_cases hlt : ti t < best
    · rw [if_pos hlt]
      right
      have := hlift (fun q => decide (q = t)) ⟨⟨t, ht, hTt, by simp⟩, ⟨s, hs, hTs, by simp [hst]⟩⟩
      rw [hcutt] at this
      exact this
    · rw [if_neg hlt]; exact hat
  · intro P hP
    have hb' : (if ti t < best then ti t else best) ≤ best ∧ (if ti t < best then ti t else best) ≤ ti t := by split <;> omega
    rcases hlow P hP with z | ⟨Q, hQ, hc⟩
    · left; omega
    · by_cases e : Q s = Q t
      · right
        refine ⟨Q, ?_, by rw [merge_cut hs ht hst hTs hTt hsy hm e]; exact hc⟩
        obtain ⟨⟨p, hp6, p1, p2⟩, ⟨q, hq6, q1, q2⟩⟩ := hQ
        refine ⟨?_, ?_⟩
        · by_cases ep : p = t
          · exact ⟨s, hs, by rw [tb_del_n hs hst]; exact hTs, by rw [e, ← ep]; exact p2⟩
          · exact ⟨p, hp6, by rw [tb_del_n hp6 ep]; exact p1, p2⟩
        · by_cases eq : q = t
          · exact ⟨s, hs, by rw [tb_del_n hs hst]; exact hTs, by rw [e, ← eq]; exact q2⟩
          · exact ⟨q, hq6, by rw [tb_del_n hq6 eq]; exact q1, q2⟩
      · left
        have := hcutP Q e
        omega
  · intro Q hQ
    -- t goes where s goes
    have hPs : (fun q => if q = t then Q s else Q q) s = Q s := by simp [hst]
    have hPt : (fun q => if q = t then Q s else Q q) t = Q s := by simp
    have hPn : ∀ q, q ≠ t → (fun q => if q = t then Q s else Q q) q = Q q := fun q h => by simp [h]
    generalize (fun q => if q = t then Q s else Q q) = P at hPs hPt hPn
    have hPT : prop T.testBit P := by
      obtain ⟨⟨p, hp6, p1, p2⟩, ⟨q, hq6, q1, q2⟩⟩ := hQ
      have np : p ≠ t := fun z => by rw [z, tb_del_s ht] at p1; cases p1
      have nq : q ≠ t := fun z => by rw [z, tb_del_s ht] at q1; cases q1
      rw [tb_del_n hp6 np] at p1
      rw [tb_del_n hq6 nq] at q1
      exact ⟨⟨p, hp6, p1, by rw [hPn p np]; exact p2⟩, ⟨q, hq6, q1, by rw [hPn q nq]; exact q2⟩⟩
    obtain ⟨R, hR, e⟩ := hlift P hPT
    refine ⟨R, hR, e.trans ?_⟩
    rw [← merge_cut hs ht hst hTs hTt hsy hm (hPs.trans hPt.symm)]
    refine s2_congr (fun a ha b hb => ?_)
    by_cases ea : a = t
    · rw [ea, tb_del_s ht]; simp
    · by_cases eb : b = t
      · rw [eb, tb_del_s ht]; simp
      · rw [hPn a ea, hPn b eb]
theorem swI_end {c : Nat → Nat} {T ph best : Nat} {M : Nat → Nat → Nat} (hc : CutOK c) (h : swI c T M ph best) (hph : 5 ≤ ph) : isMin c 0 0 best := by
  obtain ⟨hT, hpc, hsy, hbd, hb20, hat, hlow, hlift⟩ := h
  have hno : ∀ Q, ¬ prop T.testBit Q := by
    rintro Q ⟨⟨p, hp6, p1, p2⟩, ⟨q, hq6, q1, q2⟩⟩
    have hne : q ≠ p := fun z => by rw [z, p2] at q2; cases q2
    have h1 : pcn (0 ||| 2 ^ p) = pcn 0 + 1 := pcn_add hp6 (tb_0 p)
    have h2 : pcn ((0 ||| 2 ^ p) ||| 2 ^ q) = pcn (0 ||| 2 ^ p) + 1 := pcn_add hq6 (by rw [tb_or_ne hne]; exact tb_0 q)
    have h3 : pcn ((0 ||| 2 ^ p) ||| 2 ^ q) ≤ pcn T := pcn_mono (fun x hx hb => by
      by_cases e1 : x = q
      · rw [e1]; exact q1
      · rw [tb_or_ne e1] at hb
        by_cases e2 : x = p
        · rw [e2]; exact p1
        · rw [tb_or_ne e2, tb_0] at hb; cases hb)
    rw [pcn_0] at h1
    omega
  have hall : ∀ P, okP 0 0 P → best ≤ cst (mx c) P := fun P hP => by
    rcases hlow P hP with z | ⟨Q, hQ, _⟩
    · exact z
    · exact absurd hQ (hno Q)
  refine ⟨?_, hall⟩
  rcases hat with e | e
  · have h1 := hall _ okP_00
    have h2 := CutOK_cst hc (fun a => decide (a = 0))
    omega
  · exact e
end
section
set_option maxRecDepth 100000
set_option maxHeartbeats 4000000 in
set_option maxRecDepth 100000 in
theorem met_tightest (l : Launch) (D : va_G) (dA dB : ClassId) (h : Nat → Nat) {cap rm : Nat → Nat} {F : Nat} {ff : Nat → Int32} {ln jn ti ab st : Nat → Nat} (T A : Nat) (hT : T < 64) (hA : A < 64) (hex : ∃ q, q < 6 ∧ T.testBit q = true ∧ A.testBit q = false) (hb2 : ∀ u, u < 6 → T.testBit u = true → A.testBit u = false → wA (mx jn) (Nat.testBit A) u < 2 ^ 31) : Met l yX0_tightest (ws_ yX0_tightest cX0_tightest 7 (some .int)) (rmL 1) (va_Pc [.ref (h 0), .int (nI T), .int (nI A)] (cfU D dA dB h (cap, rm, F, ff, ln, jn, ti, ab, st))) (va_Qi (fun r (u : Nat → Nat) => tgP (mx jn) T A r u) (fun u t => cfU D dA dB h (cap, rm, F, ff, ln, jn, u, ab, st) t) (cfA h)) 0 0 (cfA h) := by
  refine cf_meti (own := RX0) (f := fun u : Nat → Nat => (cap, rm, F, ff, ln, jn, u, ab, st)) (by decide) rfl (Nat.le_of_ble_eq_true rfl) ?_
  intro p e s m args below meth c Q ls G I hret hl
  have hl : lv_has ls 7 [(0, .ref (h 0)), (1, .int (nI T)), (2, .int (nI A))] := hl
  have loop : ∀ (n a : Nat) (best : Int32) (ti : Nat → Nat) (H : Heap) (locs : List Loc), a ≤ 6 → 7 ≤ a + n → tgI (mx jn) T A a best ti → cfI D dA dB h (cfA h) s H locs (cap, rm, F, ff, ln, jn, ti, ab, st) → ∀ (ls : Array Slot), lv_has ls 7 [(0, .ref (h 0)), (1, .int (nI T)), (2, .int (nI A)), (3, .int best), (4, .int (nI a))] → W p l e (rmL 1) s m args below meth c H locs 0 0 Q (F0 m 5 ls []) := by
    intro n
    induction n with
    | zero =>
      intro a best ti H locs h1 h2
      exact absurd h2 (by omega)
    | succ n ih =>
      intro a best ti H locs ha hn hI I ls hl
      refine lv_iload G.1 G.2.1 dX0_tightest_5 (lv_at hl 4 rfl) ?_
      refine n_bipush (a := 6) G dX0_tightest_7 (by decide) ?_
      refine n_icmp_ge (tgt := 117) G dX0_tightest_9 (by decide) (by omega) (by omega) (fun c_9 => ?_) (fun c_9 => ?_)
      · refine lv_iload_n G.1 G.2.1 dX0_tightest_117 rfl (lv_at hl 3 rfl) ?_
        have e6 : a = 6 := by omega
        rw [e6] at hI
        exact hret _ _ _ _ _ ti dX0_tightest_118 (tgI_end hI hex) I
      · refine lv_iload_n G.1 G.2.1 dX0_tightest_12 rfl (lv_at hl 1 rfl) ?_
        refine lv_iload G.1 G.2.1 dX0_tightest_13 (lv_at hl 4 rfl) ?_
        refine c_in G (by omega) (by omega) (by decide) hl.1 (Nat.le_of_ble_eq_true rfl) dX0_tightest_15 ?_
        refine n_ifeq (tgt := 111) G dX0_tightest_18 (by decide) (fun c_18 => ?_) (fun c_18 => ?_)
        · refine n_iinc (b := 1) (lv' := [(4, .int (nI (a + 1))), (0, .ref (h 0)), (1, .int (nI T)), (2, .int (nI A)), (3, .int best)]) G dX0_tightest_111 hl (q := 4) rfl (by decide) (by decide) rfl (fun ls hl => ?_)
          refine lv_goto (tgt := 5) G.1 G.2.1 dX0_tightest_114 (by decide) ?_
          exact ih (a + 1) _ _ _ _ (by omega) (by omega) (tgI_skip hI (by first | exact Or.inl c_18 | exact Or.inr c_27)) I ls (lv_sub hl [1, 2, 3, 4, 0] rfl)
        · refine lv_iload_n G.1 G.2.1 dX0_tightest_21 rfl (lv_at hl 2 rfl) ?_
          refine lv_iload G.1 G.2.1 dX0_tightest_22 (lv_at hl 4 rfl) ?_
          refine c_in G (by omega) (by omega) (by decide) hl.1 (Nat.le_of_ble_eq_true rfl) dX0_tightest_24 ?_
          refine n_ifne (tgt := 111) G dX0_tightest_27 (by decide) (fun c_27 => ?_) (fun c_27 => ?_)
          · refine n_iinc (b := 1) (lv' := [(4, .int (nI (a + 1))), (0, .ref (h 0)), (1, .int (nI T)), (2, .int (nI A)), (3, .int best)]) G dX0_tightest_111 hl (q := 4) rfl (by decide) (by decide) rfl (fun ls hl => ?_)
            refine lv_goto (tgt := 5) G.1 G.2.1 dX0_tightest_114 (by decide) ?_
            exact ih (a + 1) _ _ _ _ (by omega) (by omega) (tgI_skip hI (by first | exact Or.inl c_18 | exact Or.inr c_27)) I ls (lv_sub hl [1, 2, 3, 4, 0] rfl)
          · refine n_iconst (a := 0) G dX0_tightest_30 (by decide) ?_
            refine lv_istore (lv' := [(5, .int (nI 0)), (0, .ref (h 0)), (1, .int (nI T)), (2, .int (nI A)), (3, .int best), (4, .int (nI a))]) G.1 G.2.1 dX0_tightest_31 hl (by decide) rfl (fun ls hl => ?_)
            refine n_iconst (a := 0) G dX0_tightest_33 (by decide) ?_
            refine lv_istore (lv' := [(6, .int (nI 0)), (5, .int (nI 0)), (0, .ref (h 0)), (1, .int (nI T)), (2, .int (nI A)), (3, .int best), (4, .int (nI a))]) G.1 G.2.1 dX0_tightest_34 hl (by decide) rfl (fun ls hl => ?_)
            have inner : ∀ (n' b : Nat), b ≤ 6 → 7 ≤ b + n' → ∀ (ls : Array Slot), lv_has ls 7 [(0, .ref (h 0)), (1, .int (nI T)), (2, .int (nI A)), (3, .int best), (4, .int (nI a)), (5, .int (nI (sm b (fun b => if Nat.testBit A b = true then mx jn a b else 0)))), (6, .int (nI b))] → W p l e (rmL 1) s m args below meth c H locs 0 0 Q (F0 m 36 ls []) := by
              intro n'
              induction n' with
              | zero =>
                intro b h1 h2
                exact absurd h2 (by omega)
              | succ n' ih' =>
                intro b hb hn' ls hl
                refine lv_iload G.1 G.2.1 dX0_tightest_36 (lv_at hl 6 rfl) ?_
                refine n_bipush (a := 6) G dX0_tightest_38 (by decide) ?_
                refine n_icmp_ge (tgt := 80) G dX0_tightest_40 (by decide) (by omega) (by omega) (fun c_40 => ?_) (fun c_40 => ?_)
                · have e6 : b = 6 := by omega
                  have hwa := hb2 a (by omega) c_18 c_27
                  have hl : lv_has ls 7 [(0, .ref (h 0)), (1, .int (nI T)), (2, .int (nI A)), (3, .int best), (4, .int (nI a)), (5, .int (nI (wA (mx jn) (Nat.testBit A) a))), (6, .int (nI 6))] := by rw [e6] at hl; exact hl
                  refine lv_aload_n G.1 G.2.1 dX0_tightest_80 rfl (lv_at hl 0 rfl) ?_
                  refine g_ti G I dX0_tightest_81 ?_
                  refine lv_iload G.1 G.2.1 dX0_tightest_84 (lv_at hl 4 rfl) ?_
                  refine lv_iload G.1 G.2.1 dX0_tightest_86 (lv_at hl 5 rfl) ?_
                  refine w_ti G I (by omega) dX0_tightest_88 (fun H locs I => ?_)
                  rcases hI with ⟨rfl, hno⟩ | ⟨v, rfl, v1, v2, v3, v4, v5, v6⟩
                  · refine lv_iload_n G.1 G.2.1 dX0_tightest_89 rfl (lv_at hl 3 rfl) ?_
                    refine n_ifltM (tgt := 104) G dX0_tightest_90 (by decide) ?_
                    refine lv_iload G.1 G.2.1 dX0_tightest_104 (lv_at hl 4 rfl) ?_
                    refine lv_goto (tgt := 110) G.1 G.2.1 dX0_tightest_106 (by decide) ?_
                    refine lv_istore_n (lv' := [(3, .int (nI a)), (0, .ref (h 0)), (1, .int (nI T)), (2, .int (nI A)), (4, .int (nI a)), (5, .int (nI (wA (mx jn) (Nat.testBit A) a))), (6, .int (nI 6))]) G.1 G.2.1 dX0_tightest_110 rfl hl (by decide) rfl (fun ls hl => ?_)
                    refine n_iinc (b := 1) (lv' := [(4, .int (nI (a + 1))), (3, .int (nI a)), (0, .ref (h 0)), (1, .int (nI T)), (2, .int (nI A)), (5, .int (nI (wA (mx jn) (Nat.testBit A) a))), (6, .int (nI 6))]) G dX0_tightest_111 hl (q := 4) rfl (by decide) (by decide) rfl (fun ls hl => ?_)
                    refine lv_goto (tgt := 5) G.1 G.2.1 dX0_tightest_114 (by decide) ?_
                    exact ih (a + 1) _ _ _ _ (by omega) (by omega) (tgI_new hno (by omega) c_18 c_27) I ls (lv_sub hl [2, 3, 4, 1, 0] rfl)
                  · have hwv := hb2 v v2 v3 v4
                    refine lv_iload_n G.1 G.2.1 dX0_tightest_89 rfl (lv_at hl 3 rfl) ?_
                    refine n_ifltN (tgt := 104) G (by omega) dX0_tightest_90 (by decide) ?_
                    refine lv_iload G.1 G.2.1 dX0_tightest_93 (lv_at hl 5 rfl) ?_
                    refine lv_aload_n G.1 G.2.1 dX0_tightest_95 rfl (lv_at hl 0 rfl) ?_
                    refine g_ti G I dX0_tightest_96 ?_
                    refine lv_iload_n G.1 G.2.1 dX0_tightest_99 rfl (lv_at hl 3 rfl) ?_
                    refine r_ti G I (by omega) dX0_tightest_100 ?_
                    refine n_icmp_le (tgt := 109) G dX0_tightest_101 (by decide) hwa (by rw [up_n (by omega), v5]; exact hwv) (fun c_101 => ?_) (fun c_101 => ?_)
                    · refine lv_iload_n G.1 G.2.1 dX0_tightest_109 rfl (lv_at hl 3 rfl) ?_
                      refine lv_istore_n (lv' := [(3, .int (nI v)), (0, .ref (h 0)), (1, .int (nI T)), (2, .int (nI A)), (4, .int (nI a)), (5, .int (nI (wA (mx jn) (Nat.testBit A) a))), (6, .int (nI 6))]) G.1 G.2.1 dX0_tightest_110 rfl hl (by decide) rfl (fun ls hl => ?_)
                      refine n_iinc (b := 1) (lv' := [(4, .int (nI (a + 1))), (3, .int (nI v)), (0, .ref (h 0)), (1, .int (nI T)), (2, .int (nI A)), (5, .int (nI (wA (mx jn) (Nat.testBit A) a))), (6, .int (nI 6))]) G dX0_tightest_111 hl (q := 4) rfl (by decide) (by decide) rfl (fun ls hl => ?_)
                      refine lv_goto (tgt := 5) G.1 G.2.1 dX0_tightest_114 (by decide) ?_
                      exact ih (a + 1) _ _ _ _ (by omega) (by omega) (tgI_le v1 v2 v3 v4 v5 v6 (by rw [up_n (by omega), v5] at c_101; exact c_101)) I ls (lv_sub hl [2, 3, 4, 1, 0] rfl)
                    · refine lv_iload G.1 G.2.1 dX0_tightest_104 (lv_at hl 4 rfl) ?_
                      refine lv_goto (tgt := 110) G.1 G.2.1 dX0_tightest_106 (by decide) ?_
                      refine lv_istore_n (lv' := [(3, .int (nI a)), (0, .ref (h 0)), (1, .int (nI T)), (2, .int (nI A)), (4, .int (nI a)), (5, .int (nI (wA (mx jn) (Nat.testBit A) a))), (6, .int (nI 6))]) G.1 G.2.1 dX0_tightest_110 rfl hl (by decide) rfl (fun ls hl => ?_)
                      refine n_iinc (b := 1) (lv' := [(4, .int (nI (a + 1))), (3, .int (nI a)), (0, .ref (h 0)), (1, .int (nI T)), (2, .int (nI A)), (5, .int (nI (wA (mx jn) (Nat.testBit A) a))), (6, .int (nI 6))]) G dX0_tightest_111 hl (q := 4) rfl (by decide) (by decide) rfl (fun ls hl => ?_)
                      refine lv_goto (tgt := 5) G.1 G.2.1 dX0_tightest_114 (by decide) ?_
                      exact ih (a + 1) _ _ _ _ (by omega) (by omega) (tgI_gt v6 (by omega) c_18 c_27 (by rw [up_n (by omega), v5] at c_101; exact c_101)) I ls (lv_sub hl [2, 3, 4, 1, 0] rfl)
                · refine lv_iload G.1 G.2.1 dX0_tightest_43 (lv_at hl 5 rfl) ?_
                  refine lv_iload_n G.1 G.2.1 dX0_tightest_45 rfl (lv_at hl 2 rfl) ?_
                  refine lv_iload G.1 G.2.1 dX0_tightest_46 (lv_at hl 6 rfl) ?_
                  refine c_in G (by omega) (by omega) (by decide) hl.1 (Nat.le_of_ble_eq_true rfl) dX0_tightest_48 ?_
                  refine n_ifeq (tgt := 70) G dX0_tightest_51 (by decide) (fun c_51 => ?_) (fun c_51 => ?_)
                  · refine n_iconst (a := 0) G dX0_tightest_70 (by decide) ?_
                    refine n_iadd G dX0_tightest_71 ?_
                    refine lv_istore (lv' := [(5, .int (nI ((sm b (fun b => if Nat.testBit A b = true then mx jn a b else 0)) + 0))), (0, .ref (h 0)), (1, .int (nI T)), (2, .int (nI A)), (3, .int best), (4, .int (nI a)), (6, .int (nI b))]) G.1 G.2.1 dX0_tightest_72 hl (by decide) rfl (fun ls hl => ?_)
                    refine n_iinc (b := 1) (lv' := [(6, .int (nI (b + 1))), (5, .int (nI ((sm b (fun b => if Nat.testBit A b = true then mx jn a b else 0)) + 0))), (0, .ref (h 0)), (1, .int (nI T)), (2, .int (nI A)), (3, .int best), (4, .int (nI a))]) G dX0_tightest_74 hl (q := 6) rfl (by decide) (by decide) rfl (fun ls hl => ?_)
                    refine lv_goto (tgt := 36) G.1 G.2.1 dX0_tightest_77 (by decide) ?_
                    refine ih' (b + 1) (by omega) (by omega) ls ?_
                    rw [show sm (b + 1) (fun b => if Nat.testBit A b = true then mx jn a b else 0) = sm b (fun b => if Nat.testBit A b = true then mx jn a b else 0) + (if Nat.testBit A b = true then mx jn a b else 0) from rfl, c_51]
                    exact (lv_sub hl [2, 3, 4, 5, 6, 1, 0] rfl)
                  · refine lv_aload_n G.1 G.2.1 dX0_tightest_54 rfl (lv_at hl 0 rfl) ?_
                    refine g_jn G I dX0_tightest_55 ?_
                    refine lv_iload G.1 G.2.1 dX0_tightest_58 (lv_at hl 4 rfl) ?_
                    refine n_bipush (a := 6) G dX0_tightest_60 (by decide) ?_
                    refine n_imul G dX0_tightest_62 ?_
                    refine lv_iload G.1 G.2.1 dX0_tightest_63 (lv_at hl 6 rfl) ?_
                    refine n_iadd G dX0_tightest_65 ?_
                    refine r_jn G I (by omega) dX0_tightest_66 ?_
                    refine lv_goto (tgt := 71) G.1 G.2.1 dX0_tightest_67 (by decide) ?_
                    refine n_iadd G dX0_tightest_71 ?_
                    refine lv_istore (lv' := [(5, .int (nI ((sm b (fun b => if Nat.testBit A b = true then mx jn a b else 0)) + (jn ((a * 6) + b))))), (0, .ref (h 0)), (1, .int (nI T)), (2, .int (nI A)), (3, .int best), (4, .int (nI a)), (6, .int (nI b))]) G.1 G.2.1 dX0_tightest_72 hl (by decide) rfl (fun ls hl => ?_)
                    refine n_iinc (b := 1) (lv' := [(6, .int (nI (b + 1))), (5, .int (nI ((sm b (fun b => if Nat.testBit A b = true then mx jn a b else 0)) + (jn ((a * 6) + b))))), (0, .ref (h 0)), (1, .int (nI T)), (2, .int (nI A)), (3, .int best), (4, .int (nI a))]) G dX0_tightest_74 hl (q := 6) rfl (by decide) (by decide) rfl (fun ls hl => ?_)
                    refine lv_goto (tgt := 36) G.1 G.2.1 dX0_tightest_77 (by decide) ?_
                    refine ih' (b + 1) (by omega) (by omega) ls ?_
                    rw [show sm (b + 1) (fun b => if Nat.testBit A b = true then mx jn a b else 0) = sm b (fun b => if Nat.testBit A b = true then mx jn a b else 0) + (if Nat.testBit A b = true then mx jn a b else 0) from rfl, c_51]
                    exact (lv_sub hl [2, 3, 4, 5, 6, 1, 0] rfl)
            exact inner 7 0 (by omega) (by omega) ls (lv_sub hl [2, 3, 4, 5, 6, 1, 0] rfl)
  refine lv_iconst (v := -1) G.1 G.2.1 dX0_tightest_0 (by decide) ?_
  refine lv_istore_n (lv' := [(3, .int (-1)), (0, .ref (h 0)), (1, .int (nI T)), (2, .int (nI A))]) G.1 G.2.1 dX0_tightest_1 rfl hl (by decide) rfl (fun ls hl => ?_)
  refine n_iconst (a := 0) G dX0_tightest_2 (by decide) ?_
  refine lv_istore (lv' := [(4, .int (nI 0)), (3, .int (-1)), (0, .ref (h 0)), (1, .int (nI T)), (2, .int (nI A))]) G.1 G.2.1 dX0_tightest_3 hl (by decide) rfl (fun ls hl => ?_)
  exact loop 7 0 _ _ _ _ (by omega) (by omega) (tgI_0 _ T A ti) I ls (lv_sub hl [2, 3, 4, 1, 0] rfl)
set_option maxHeartbeats 4000000 in
set_option maxRecDepth 100000 in
theorem met_merge (l : Launch) (D : va_G) (dA dB : ClassId) (h : Nat → Nat) {cap rm : Nat → Nat} {F : Nat} {ff : Nat → Int32} {ln jn ti ab st : Nat → Nat} (x y : Nat) (hx : x < 6) (hy : y < 6) (hxy : x ≠ y) : Met l yX0_merge (ws_ yX0_merge cX0_merge 4 none) (rmL 0) (va_Pc [.ref (h 0), .int (nI x), .int (nI y)] (cfU D dA dB h (cap, rm, F, ff, ln, jn, ti, ab, st))) (va_Qv (fun u : Nat → Nat => mgP x y jn u) (fun u t => cfU D dA dB h (cap, rm, F, ff, ln, u, ti, ab, st) t) (cfA h)) 0 0 (cfA h) := by
  refine cf_metv (own := RX0) (f := fun u : Nat → Nat => (cap, rm, F, ff, ln, u, ti, ab, st)) (by decide) rfl (Nat.le_of_ble_eq_true rfl) ?_
  intro p e s m args below meth c Q ls G I hret hl
  have hl : lv_has ls 4 [(0, .ref (h 0)), (1, .int (nI x)), (2, .int (nI y))] := hl
  have loop : ∀ (n k : Nat) (j : Nat → Nat) (H : Heap) (locs : List Loc), k ≤ 6 → 7 ≤ k + n → mgI x y jn k j → cfI D dA dB h (cfA h) s H locs (cap, rm, F, ff, ln, j, ti, ab, st) → ∀ (ls : Array Slot), lv_has ls 4 [(0, .ref (h 0)), (1, .int (nI x)), (2, .int (nI y)), (3, .int (nI k))] → W p l e (rmL 0) s m args below meth c H locs 0 0 Q (F0 m 2 ls []) := by
    intro n
    induction n with
    | zero =>
      intro k j H locs h1 h2
      exact absurd h2 (by omega)
    | succ n ih =>
      intro k j H locs hk hn hI I ls hl
      refine lv_iload_n G.1 G.2.1 dX0_merge_2 rfl (lv_at hl 3 rfl) ?_
      refine n_bipush (a := 6) G dX0_merge_3 (by decide) ?_
      refine n_icmp_ge (tgt := 61) G dX0_merge_5 (by decide) (by omega) (by omega) (fun c_5 => ?_) (fun c_5 => ?_)
      · refine lv_aload_n G.1 G.2.1 dX0_merge_61 rfl (lv_at hl 0 rfl) ?_
        refine g_jn G I dX0_merge_62 ?_
        refine lv_iload_n G.1 G.2.1 dX0_merge_65 rfl (lv_at hl 1 rfl) ?_
        refine n_bipush (a := 6) G dX0_merge_66 (by decide) ?_
        refine n_imul G dX0_merge_68 ?_
        refine lv_iload_n G.1 G.2.1 dX0_merge_69 rfl (lv_at hl 1 rfl) ?_
        refine n_iadd G dX0_merge_70 ?_
        refine n_iconst (a := 0) G dX0_merge_71 (by decide) ?_
        refine w_jn G I (by omega) dX0_merge_72 (fun H locs I => ?_)
        have e6 : k = 6 := by omega
        rw [e6] at hI
        exact hret _ _ _ _ (va_up j ((x * 6) + x) 0) dX0_merge_73 (mgI_end hx hI) I
      · refine lv_aload_n G.1 G.2.1 dX0_merge_8 rfl (lv_at hl 0 rfl) ?_
        refine g_jn G I dX0_merge_9 ?_
        refine lv_iload_n G.1 G.2.1 dX0_merge_12 rfl (lv_at hl 1 rfl) ?_
        refine n_bipush (a := 6) G dX0_merge_13 (by decide) ?_
        refine n_imul G dX0_merge_15 ?_
        refine lv_iload_n G.1 G.2.1 dX0_merge_16 rfl (lv_at hl 3 rfl) ?_
        refine n_iadd G dX0_merge_17 ?_
        refine lv_dup2_11 G.1 G.2.1 dX0_merge_18 rfl rfl ?_
        refine r_jn G I (by omega) dX0_merge_19 ?_
        refine lv_aload_n G.1 G.2.1 dX0_merge_20 rfl (lv_at hl 0 rfl) ?_
        refine g_jn G I dX0_merge_21 ?_
        refine lv_iload_n G.1 G.2.1 dX0_merge_24 rfl (lv_at hl 2 rfl) ?_
        refine n_bipush (a := 6) G dX0_merge_25 (by decide) ?_
        refine n_imul G dX0_merge_27 ?_
        refine lv_iload_n G.1 G.2.1 dX0_merge_28 rfl (lv_at hl 3 rfl) ?_
        refine n_iadd G dX0_merge_29 ?_
        refine r_jn G I (by omega) dX0_merge_30 ?_
        refine n_iadd G dX0_merge_31 ?_
        refine w_jn G I (by omega) dX0_merge_32 (fun H locs I => ?_)
        refine lv_aload_n G.1 G.2.1 dX0_merge_33 rfl (lv_at hl 0 rfl) ?_
        refine g_jn G I dX0_merge_34 ?_
        refine lv_iload_n G.1 G.2.1 dX0_merge_37 rfl (lv_at hl 3 rfl) ?_
        refine n_bipush (a := 6) G dX0_merge_38 (by decide) ?_
        refine n_imul G dX0_merge_40 ?_
        refine lv_iload_n G.1 G.2.1 dX0_merge_41 rfl (lv_at hl 1 rfl) ?_
        refine n_iadd G dX0_merge_42 ?_
        refine lv_aload_n G.1 G.2.1 dX0_merge_43 rfl (lv_at hl 0 rfl) ?_
        refine g_jn G I dX0_merge_44 ?_
        refine lv_iload_n G.1 G.2.1 dX0_merge_47 rfl (lv_at hl 1 rfl) ?_
        refine n_bipush (a := 6) G dX0_merge_48 (by decide) ?_
        refine n_imul G dX0_merge_50 ?_
        refine lv_iload_n G.1 G.2.1 dX0_merge_51 rfl (lv_at hl 3 rfl) ?_
        refine n_iadd G dX0_merge_52 ?_
        refine r_jn G I (by omega) dX0_merge_53 ?_
        refine w_jn G I (by omega) dX0_merge_54 (fun H locs I => ?_)
        refine n_iinc (b := 1) (lv' := [(3, .int (nI (k + 1))), (0, .ref (h 0)), (1, .int (nI x)), (2, .int (nI y))]) G dX0_merge_55 hl (q := 3) rfl (by decide) (by decide) rfl (fun ls hl => ?_)
        refine lv_goto (tgt := 2) G.1 G.2.1 dX0_merge_58 (by decide) ?_
        exact ih (k + 1) _ _ _ (by omega) (by omega) (mgI_step hx hy hxy (by omega) hI) I ls (lv_sub hl [1, 2, 3, 0] rfl)
  refine n_iconst (a := 0) G dX0_merge_0 (by decide) ?_
  refine lv_istore_n (lv' := [(3, .int (nI 0)), (0, .ref (h 0)), (1, .int (nI x)), (2, .int (nI y))]) G.1 G.2.1 dX0_merge_1 rfl hl (by decide) rfl (fun ls hl => ?_)
  exact loop 7 0 _ _ _ (by omega) (by omega) (mgI_0 x y jn) I ls (lv_sub hl [1, 2, 3, 0] rfl)
theorem cw_tightest : callWords RX0 51 RX0 yX0_tightest cX0_tightest 7 (some .int) 2 := ⟨lw_V q84 q86 qs1 q14 q87, by decide +kernel⟩
theorem cw_merge : callWords RX0 55 RX0 yX0_merge cX0_merge 4 none 2 := ⟨lw_V q88 q90 qs2 q14 q91, by decide +kernel⟩
theorem p16 {ph : Nat} (h : ph ≤ 4) : 6 * (31 * 2 ^ ph) < 2 ^ 31 := by
  have : 2 ^ ph ≤ 2 ^ 4 := Nat.pow_le_pow_right (by omega) h
  omega
abbrev CFS : Type := (Nat → Nat) × Nat × (Nat → Int32) × (Nat → Nat) × (Nat → Nat) × (Nat → Nat) × (Nat → Nat) × (Nat → Nat)
set_option maxHeartbeats 4000000 in
set_option maxRecDepth 100000 in
theorem met_least (l : Launch) (D : va_G) (dA dB : ClassId) (h : Nat → Nat) {cap rm : Nat → Nat} {F : Nat} {ff : Nat → Int32} {ln jn ti ab st : Nat → Nat} (hc : CutOK cap) : Met l yX0_least (ws_ yX0_least cX0_least 8 (some .int)) (rmL 2) (va_Pc [.ref (h 0)] (cfU D dA dB h (cap, rm, F, ff, ln, jn, ti, ab, st))) (va_Qi (fun r (_ : CFS) => leaP cap r) (fun u t => cfU D dA dB h (cap, u) t) (cfA h)) 0 0 (cfA h) := by
  refine cf_meti (own := RX0) (f := fun u : CFS => (cap, u)) (by decide) rfl (Nat.le_of_ble_eq_true rfl) ?_
  intro p e s m args below meth c Q ls G I hret hl
  have hl : lv_has ls 8 [(0, .ref (h 0))] := hl
  have phase : ∀ (n ph T best : Nat) (jn ti : Nat → Nat) (H : Heap) (locs : List Loc), ph ≤ 5 → 6 ≤ ph + n → swI cap T (mx jn) ph best → cfI D dA dB h (cfA h) s H locs (cap, rm, F, ff, ln, jn, ti, ab, st) → ∀ (ls : Array Slot), lv_has ls 8 [(0, .ref (h 0)), (1, .int (nI best)), (2, .int (nI T)), (3, .int (nI ph))] → W p l e (rmL 2) s m args below meth c H locs 0 0 Q (F0 m 34 ls []) := by
    intro n
    induction n with
    | zero =>
      intro ph T best jn ti H locs h1 h2
      exact absurd h2 (by omega)
    | succ n ih =>
      intro ph T best jn ti H locs hp hn hI I ls hl
      have hT := hI.1
      have hpc := hI.2.1
      have hb20 := hI.2.2.2.2.1
      refine lv_iload_n G.1 G.2.1 dX0_least_34 rfl (lv_at hl 3 rfl) ?_
      refine n_iconst (a := 5) G dX0_least_35 (by decide) ?_
      refine n_icmp_ge (tgt := 132) G dX0_least_36 (by decide) (by omega) (by omega) (fun c_36 => ?_) (fun c_36 => ?_)
      · refine lv_iload_n G.1 G.2.1 dX0_least_132 rfl (lv_at hl 1 rfl) ?_
        exact hret _ _ _ _ _ (rm, F, ff, ln, jn, ti, ab, st) dX0_least_133 ⟨best, swI_end hc hI (by omega), rfl⟩ I
      · refine lv_iconst (v := -1) G.1 G.2.1 dX0_least_39 (by decide) ?_
        refine lv_istore (lv' := [(4, .int (-1)), (0, .ref (h 0)), (1, .int (nI best)), (2, .int (nI T)), (3, .int (nI ph))]) G.1 G.2.1 dX0_least_40 hl (by decide) rfl (fun ls hl => ?_)
        refine lv_iconst (v := -1) G.1 G.2.1 dX0_least_42 (by decide) ?_
        refine lv_istore (lv' := [(5, .int (-1)), (4, .int (-1)), (0, .ref (h 0)), (1, .int (nI best)), (2, .int (nI T)), (3, .int (nI ph))]) G.1 G.2.1 dX0_least_43 hl (by decide) rfl (fun ls hl => ?_)
        refine n_iconst (a := 0) G dX0_least_45 (by decide) ?_
        refine lv_istore (lv' := [(6, .int (nI 0)), (5, .int (-1)), (4, .int (-1)), (0, .ref (h 0)), (1, .int (nI best)), (2, .int (nI T)), (3, .int (nI ph))]) G.1 G.2.1 dX0_least_46 hl (by decide) rfl (fun ls hl => ?_)
        refine lv_iload_n G.1 G.2.1 dX0_least_48 rfl (lv_at hl 6 rfl) ?_
        refine lv_istore (lv' := [(7, .int (nI ph)), (6, .int (nI 0)), (5, .int (-1)), (4, .int (-1)), (0, .ref (h 0)), (1, .int (nI best)), (2, .int (nI T)), (3, .int (nI ph))]) G.1 G.2.1 dX0_least_49 hl (by decide) rfl (fun ls hl => ?_)
        have hb16 := p16 (show ph ≤ 4 by omega)
        have picks : ∀ (n' k A : Nat) (last bef : Int32) (ti : Nat → Nat) (H : Heap) (locs : List Loc), k ≤ 6 → 7 ≤ k + n' → ph ≤ k → pkI (mx jn) T A (k - ph) last bef ti → cfI D dA dB h (cfA h) s H locs (cap, rm, F, ff, ln, jn, ti, ab, st) → ∀ (ls : Array Slot), lv_has ls 8 [(0, .ref (h 0)), (1, .int (nI best)), (2, .int (nI T)), (3, .int (nI ph)), (4, .int last), (5, .int bef), (6, .int (nI A)), (7, .int (nI k))] → W p l e (rmL 2) s m args below meth c H locs 0 0 Q (F0 m 51 ls []) := by
          intro n'
          induction n' with
          | zero =>
            intro k A last bef ti H locs h1 h2
            exact absurd h2 (by omega)
          | succ n' ih' =>
            intro k A last bef ti H locs hk hn' hpk hJ I ls hl
            have hA := hJ.1
            have hAT := hJ.2.1
            have hAc := hJ.2.2.1
            refine lv_iload G.1 G.2.1 dX0_least_51 (lv_at hl 7 rfl) ?_
            refine n_bipush (a := 6) G dX0_least_53 (by decide) ?_
            refine n_icmp_ge (tgt := 86) G dX0_least_55 (by decide) (by omega) (by omega) (fun c_55 => ?_) (fun c_55 => ?_)
            · obtain ⟨_, _, _, hz⟩ := hJ
              rcases hz with ⟨e0, _, _⟩ | ⟨t, ht, rfl, hAt, _, _, hph⟩
              · exact absurd e0 (by omega)
              have hall := pick_all hAT (by omega)
              obtain ⟨x, hx, rfl, hxt, htb, hstep⟩ := swI_step hI hall ht (hph (by omega))
              refine lv_aload_n G.1 G.2.1 dX0_least_86 rfl (lv_at hl 0 rfl) ?_
              refine g_ti G I dX0_least_87 ?_
              refine lv_iload G.1 G.2.1 dX0_least_90 (lv_at hl 4 rfl) ?_
              refine r_ti G I (by omega) dX0_least_92 ?_
              refine lv_iload_n G.1 G.2.1 dX0_least_93 rfl (lv_at hl 1 rfl) ?_
              refine n_icmp_ge (tgt := 107) G dX0_least_94 (by decide) (by omega) (by omega) (fun c_94 => ?_) (fun c_94 => ?_)
              · refine lv_iload_n G.1 G.2.1 dX0_least_107 rfl (lv_at hl 1 rfl) ?_
                refine lv_istore_n (lv' := [(1, .int (nI best)), (0, .ref (h 0)), (2, .int (nI T)), (3, .int (nI ph)), (4, .int (nI t)), (5, .int (nI x)), (6, .int (nI A)), (7, .int (nI k))]) G.1 G.2.1 dX0_least_108 rfl hl (by decide) rfl (fun ls hl => ?_)
                refine lv_aload_n G.1 G.2.1 dX0_least_109 rfl (lv_at hl 1 rfl) ?_
                refine lv_iload G.1 G.2.1 dX0_least_110 (lv_at hl 5 rfl) ?_
                refine lv_iload G.1 G.2.1 dX0_least_112 (lv_at hl 4 rfl) ?_
                refine cf_mv (rest := []) G I (met_merge l D dA dB h (cap := cap) (rm := rm) (F := F) (ff := ff) (ln := ln) (jn := jn) (ti := ti) (ab := ab) (st := st) x t hx ht hxt) cw_merge (by decide) rfl hl.1 (Nat.le_of_ble_eq_true rfl) rfl dX0_least_114 (fun u_114 H locs hr_114 I _ _ => ?_)
                have I : cfI D dA dB h (cfA h) s H locs (cap, rm, F, ff, ln, u_114, ti, ab, st) := I
                have h5 := hstep _ hr_114
                refine lv_iload_n G.1 G.2.1 dX0_least_117 rfl (lv_at hl 2 rfl) ?_
                refine n_iconst (a := 1) G dX0_least_118 (by decide) ?_
                refine lv_iload G.1 G.2.1 dX0_least_119 (lv_at hl 4 rfl) ?_
                refine n_ishl G (by omega) dX0_least_121 ?_
                refine lv_iconst (v := -1) G.1 G.2.1 dX0_least_122 (by decide) ?_
                refine lv_ixor G.1 G.2.1 dX0_least_123 ?_
                refine n_iandn G hT (pow_lt64 ht) dX0_least_124 ?_
                refine lv_istore_n (lv' := [(2, .int (nI (T &&& (63 ^^^ (2 ^ t))))), (1, .int (nI best)), (0, .ref (h 0)), (3, .int (nI ph)), (4, .int (nI t)), (5, .int (nI x)), (6, .int (nI A)), (7, .int (nI k))]) G.1 G.2.1 dX0_least_125 rfl hl (by decide) rfl (fun ls hl => ?_)
                refine n_iinc (b := 1) (lv' := [(3, .int (nI (ph + 1))), (2, .int (nI (T &&& (63 ^^^ (2 ^ t))))), (1, .int (nI best)), (0, .ref (h 0)), (4, .int (nI t)), (5, .int (nI x)), (6, .int (nI A)), (7, .int (nI k))]) G dX0_least_126 hl (q := 3) rfl (by decide) (by decide) rfl (fun ls hl => ?_)
                refine lv_goto (tgt := 34) G.1 G.2.1 dX0_least_129 (by decide) ?_
                rw [if_neg (Nat.not_lt.mpr c_94)] at h5
                exact ih (ph + 1) _ _ _ _ _ _ (by omega) (by omega) h5 I ls (lv_sub hl [3, 2, 1, 0] rfl)
              · refine lv_aload_n G.1 G.2.1 dX0_least_97 rfl (lv_at hl 0 rfl) ?_
                refine g_ti G I dX0_least_98 ?_
                refine lv_iload G.1 G.2.1 dX0_least_101 (lv_at hl 4 rfl) ?_
                refine r_ti G I (by omega) dX0_least_103 ?_
                refine lv_goto (tgt := 108) G.1 G.2.1 dX0_least_104 (by decide) ?_
                refine lv_istore_n (lv' := [(1, .int (nI (ti t))), (0, .ref (h 0)), (2, .int (nI T)), (3, .int (nI ph)), (4, .int (nI t)), (5, .int (nI x)), (6, .int (nI A)), (7, .int (nI k))]) G.1 G.2.1 dX0_least_108 rfl hl (by decide) rfl (fun ls hl => ?_)
                refine lv_aload_n G.1 G.2.1 dX0_least_109 rfl (lv_at hl 1 rfl) ?_
                refine lv_iload G.1 G.2.1 dX0_least_110 (lv_at hl 5 rfl) ?_
                refine lv_iload G.1 G.2.1 dX0_least_112 (lv_at hl 4 rfl) ?_
                refine cf_mv (rest := []) G I (met_merge l D dA dB h (cap := cap) (rm := rm) (F := F) (ff := ff) (ln := ln) (jn := jn) (ti := ti) (ab := ab) (st := st) x t hx ht hxt) cw_merge (by decide) rfl hl.1 (Nat.le_of_ble_eq_true rfl) rfl dX0_least_114 (fun u_114 H locs hr_114 I _ _ => ?_)
                have I : cfI D dA dB h (cfA h) s H locs (cap, rm, F, ff, ln, u_114, ti, ab, st) := I
                have h5 := hstep _ hr_114
                refine lv_iload_n G.1 G.2.1 dX0_least_117 rfl (lv_at hl 2 rfl) ?_
                refine n_iconst (a := 1) G dX0_least_118 (by decide) ?_
                refine lv_iload G.1 G.2.1 dX0_least_119 (lv_at hl 4 rfl) ?_
                refine n_ishl G (by omega) dX0_least_121 ?_
                refine lv_iconst (v := -1) G.1 G.2.1 dX0_least_122 (by decide) ?_
                refine lv_ixor G.1 G.2.1 dX0_least_123 ?_
                refine n_iandn G hT (pow_lt64 ht) dX0_least_124 ?_
                refine lv_istore_n (lv' := [(2, .int (nI (T &&& (63 ^^^ (2 ^ t))))), (1, .int (nI (ti t))), (0, .ref (h 0)), (3, .int (nI ph)), (4, .int (nI t)), (5, .int (nI x)), (6, .int (nI A)), (7, .int (nI k))]) G.1 G.2.1 dX0_least_125 rfl hl (by decide) rfl (fun ls hl => ?_)
                refine n_iinc (b := 1) (lv' := [(3, .int (nI (ph + 1))), (2, .int (nI (T &&& (63 ^^^ (2 ^ t))))), (1, .int (nI (ti t))), (0, .ref (h 0)), (4, .int (nI t)), (5, .int (nI x)), (6, .int (nI A)), (7, .int (nI k))]) G dX0_least_126 hl (q := 3) rfl (by decide) (by decide) rfl (fun ls hl => ?_)
                refine lv_goto (tgt := 34) G.1 G.2.1 dX0_least_129 (by decide) ?_
                rw [if_pos c_94] at h5
                exact ih (ph + 1) _ _ _ _ _ _ (by omega) (by omega) h5 I ls (lv_sub hl [3, 2, 1, 0] rfl)
            · refine lv_iload G.1 G.2.1 dX0_least_58 (lv_at hl 4 rfl) ?_
              refine lv_istore (lv' := [(5, .int last), (0, .ref (h 0)), (1, .int (nI best)), (2, .int (nI T)), (3, .int (nI ph)), (4, .int last), (6, .int (nI A)), (7, .int (nI k))]) G.1 G.2.1 dX0_least_60 hl (by decide) rfl (fun ls hl => ?_)
              refine lv_aload_n G.1 G.2.1 dX0_least_62 rfl (lv_at hl 1 rfl) ?_
              refine lv_iload_n G.1 G.2.1 dX0_least_63 rfl (lv_at hl 3 rfl) ?_
              refine lv_iload G.1 G.2.1 dX0_least_64 (lv_at hl 6 rfl) ?_
              refine cf_mi (rest := []) G I (met_tightest l D dA dB h (cap := cap) (rm := rm) (F := F) (ff := ff) (ln := ln) (jn := jn) (ti := ti) (ab := ab) (st := st) T A hT hA (pick_ex (by omega)) (fun u h1 h2 h3 => by have := wA_bound hI.2.2.2.1 hAT h1 h2 h3; omega)) cw_tightest (by decide) rfl hl.1 (Nat.le_of_ble_eq_true rfl) rfl dX0_least_66 (fun r_66 u_66 H locs hr_66 I _ _ => ?_)
              obtain ⟨v, rfl, hv, hJ2⟩ := pkI_step hI.2.2.1 hJ hr_66
              have I : cfI D dA dB h (cfA h) s H locs (cap, rm, F, ff, ln, jn, u_66, ab, st) := I
              refine lv_istore (lv' := [(4, .int (nI v)), (5, .int last), (0, .ref (h 0)), (1, .int (nI best)), (2, .int (nI T)), (3, .int (nI ph)), (6, .int (nI A)), (7, .int (nI k))]) G.1 G.2.1 dX0_least_69 hl (by decide) rfl (fun ls hl => ?_)
              refine lv_iload G.1 G.2.1 dX0_least_71 (lv_at hl 6 rfl) ?_
              refine n_iconst (a := 1) G dX0_least_73 (by decide) ?_
              refine lv_iload G.1 G.2.1 dX0_least_74 (lv_at hl 0 rfl) ?_
              refine n_ishl G (by omega) dX0_least_76 ?_
              refine n_ior G dX0_least_77 ?_
              refine lv_istore (lv' := [(6, .int (nI (A ||| (2 ^ v)))), (4, .int (nI v)), (5, .int last), (0, .ref (h 0)), (1, .int (nI best)), (2, .int (nI T)), (3, .int (nI ph)), (7, .int (nI k))]) G.1 G.2.1 dX0_least_78 hl (by decide) rfl (fun ls hl => ?_)
              refine n_iinc (b := 1) (lv' := [(7, .int (nI (k + 1))), (6, .int (nI (A ||| (2 ^ v)))), (4, .int (nI v)), (5, .int last), (0, .ref (h 0)), (1, .int (nI best)), (2, .int (nI T)), (3, .int (nI ph))]) G dX0_least_80 hl (q := 7) rfl (by decide) (by decide) rfl (fun ls hl => ?_)
              refine lv_goto (tgt := 51) G.1 G.2.1 dX0_least_83 (by decide) ?_
              exact ih' (k + 1) _ _ _ _ _ _ (by omega) (by omega) (by omega) (by rw [show k + 1 - ph = k - ph + 1 by omega]; exact hJ2) I ls (lv_sub hl [4, 5, 6, 7, 2, 3, 1, 0] rfl)
        exact picks 7 ph 0 _ _ _ _ _ (by omega) (by omega) (Nat.le_refl _) (by rw [Nat.sub_self]; exact pkI_0 _ T ti) I ls (lv_sub hl [4, 5, 6, 7, 3, 2, 1, 0] rfl)
  have copy : ∀ (n k : Nat) (jn : Nat → Nat) (H : Heap) (locs : List Loc), k ≤ 36 → 37 ≤ k + n → (∀ j, j < k → jn j = cap j) → cfI D dA dB h (cfA h) s H locs (cap, rm, F, ff, ln, jn, ti, ab, st) → ∀ (ls : Array Slot), lv_has ls 8 [(0, .ref (h 0)), (1, .int (nI k))] → W p l e (rmL 2) s m args below meth c H locs 0 0 Q (F0 m 2 ls []) := by
    intro n
    induction n with
    | zero =>
      intro k jn H locs h1 h2
      exact absurd h2 (by omega)
    | succ n ih =>
      intro k jn H locs hk hn hI I ls hl
      refine lv_iload_n G.1 G.2.1 dX0_least_2 rfl (lv_at hl 1 rfl) ?_
      refine n_bipush (a := 36) G dX0_least_3 (by decide) ?_
      refine n_icmp_ge (tgt := 26) G dX0_least_5 (by decide) (by omega) (by omega) (fun c_5 => ?_) (fun c_5 => ?_)
      · refine n_ldc G dX0_least_26 ?_
        refine lv_istore_n (lv' := [(1, .int (nI 1048576)), (0, .ref (h 0))]) G.1 G.2.1 dX0_least_28 rfl hl (by decide) rfl (fun ls hl => ?_)
        refine n_bipush (a := 63) G dX0_least_29 (by decide) ?_
        refine lv_istore_n (lv' := [(2, .int (nI 63)), (1, .int (nI 1048576)), (0, .ref (h 0))]) G.1 G.2.1 dX0_least_31 rfl hl (by decide) rfl (fun ls hl => ?_)
        refine n_iconst (a := 0) G dX0_least_32 (by decide) ?_
        refine lv_istore_n (lv' := [(3, .int (nI 0)), (2, .int (nI 63)), (1, .int (nI 1048576)), (0, .ref (h 0))]) G.1 G.2.1 dX0_least_33 rfl hl (by decide) rfl (fun ls hl => ?_)
        exact phase 6 0 63 1048576 _ _ _ _ (by omega) (by omega) (swI_0 hc (fun j hj => hI j (by omega))) I ls (lv_sub hl [3, 2, 1, 0] rfl)
      · refine lv_aload_n G.1 G.2.1 dX0_least_8 rfl (lv_at hl 0 rfl) ?_
        refine g_jn G I dX0_least_9 ?_
        refine lv_iload_n G.1 G.2.1 dX0_least_12 rfl (lv_at hl 1 rfl) ?_
        refine lv_aload_n G.1 G.2.1 dX0_least_13 rfl (lv_at hl 0 rfl) ?_
        refine g_cap G I dX0_least_14 ?_
        refine lv_iload_n G.1 G.2.1 dX0_least_17 rfl (lv_at hl 1 rfl) ?_
        refine r_cap G I (by omega) dX0_least_18 ?_
        refine w_jn G I (by omega) dX0_least_19 (fun H locs I => ?_)
        refine n_iinc (b := 1) (lv' := [(1, .int (nI (k + 1))), (0, .ref (h 0))]) G dX0_least_20 hl (q := 1) rfl (by decide) (by decide) rfl (fun ls hl => ?_)
        refine lv_goto (tgt := 2) G.1 G.2.1 dX0_least_23 (by decide) ?_
        exact ih (k + 1) _ _ _ (by omega) (by omega) (fun j hj => by rcases lt_split hj with q | rfl; rw [up_n (by omega)]; exact hI j q; exact up_s _ _ _) I ls (lv_sub hl [1, 0] rfl)
  refine n_iconst (a := 0) G dX0_least_0 (by decide) ?_
  refine lv_istore_n (lv' := [(1, .int (nI 0)), (0, .ref (h 0))]) G.1 G.2.1 dX0_least_1 rfl hl (by decide) rfl (fun ls hl => ?_)
  exact copy 37 0 _ _ _ (by omega) (by omega) (fun j hj => absurd hj (by omega)) I ls (lv_sub hl [1, 0] rfl)
end
section
set_option maxRecDepth 100000
theorem cw_least : callWords RX0 70 RX0 yX0_least cX0_least 8 (some .int) 0 := ⟨lw_V q96 q80 q81 q14 q82, by decide +kernel⟩
theorem cw_core : callWords RX0 77 RX0 yX0_core cX0_core 3 (some .int) 2 := ⟨lw_V q121 q114 q115 q14 q116, by decide +kernel⟩
theorem cw_between : callWords RX0 89 RX0 yX0_between cX0_between 3 (some .int) 2 := ⟨lw_V q154 q110 q111 q14 q112, by decide +kernel⟩
theorem cw_leastAgainst : callWords RX0 80 RX0 yX0_leastAgainst cX0_leastAgainst 5 (some .int) 1 := ⟨lw_V q126 q128 qs6 q14 q129, by decide +kernel⟩
set_option maxHeartbeats 4000000 in
set_option maxRecDepth 100000 in
theorem met_between (l : Launch) (D : va_G) (dA dB : ClassId) (h : Nat → Nat) {cap rm : Nat → Nat} {F : Nat} {ff : Nat → Int32} {ln jn ti ab st : Nat → Nat} (hc : CutOK cap) (a b : Int32) : Met l yX0_between (ws_ yX0_between cX0_between 3 (some .int)) (rmL 3) (va_Pc [.ref (h 0), .int a, .int b] (cfU D dA dB h (cap, rm, F, ff, ln, jn, ti, ab, st))) (va_Qi (fun r (_ : CFS) => betP cap a b r) (fun u t => cfU D dA dB h (cap, u) t) (cfA h)) 0 0 (cfA h) := by
  refine cf_meti (own := RX0) (f := fun u : CFS => (cap, u)) (by decide) rfl (Nat.le_of_ble_eq_true rfl) ?_
  intro p e s m args below meth c Q ls G I hret hl
  have hl : lv_has ls 3 [(0, .ref (h 0)), (1, .int a), (2, .int b)] := hl
  refine lv_iload_n G.1 G.2.1 dX0_between_0 rfl (lv_at hl 1 rfl) ?_
  refine lv_iload_n G.1 G.2.1 dX0_between_1 rfl (lv_at hl 2 rfl) ?_
  refine c_isPair G (by decide) hl.1 (Nat.le_of_ble_eq_true rfl) dX0_between_2 ?_
  refine n_ifeq (tgt := 21) G dX0_between_5 (by decide) (fun c_5 => ?_) (fun c_5 => ?_)
  · refine lv_iconst (v := -1) G.1 G.2.1 dX0_between_21 (by decide) ?_
    exact hret _ _ _ _ _ (rm, F, ff, ln, jn, ti, ab, st) dX0_between_22 (Or.inr ⟨c_5, rfl⟩) I
  · obtain ⟨i, j, hi, hj, hne, rfl, rfl⟩ := prB_of c_5
    refine lv_aload_n G.1 G.2.1 dX0_between_8 rfl (lv_at hl 0 rfl) ?_
    refine n_iconst (a := 1) G dX0_between_9 (by decide) ?_
    refine lv_iload_n G.1 G.2.1 dX0_between_10 rfl (lv_at hl 1 rfl) ?_
    refine n_ishl G (by omega) dX0_between_11 ?_
    refine n_iconst (a := 1) G dX0_between_12 (by decide) ?_
    refine lv_iload_n G.1 G.2.1 dX0_between_13 rfl (lv_at hl 2 rfl) ?_
    refine n_ishl G (by omega) dX0_between_14 ?_
    refine cf_mi (rest := []) G I (met_flow l D dA dB h (cap := cap) (rm := rm) (F := F) (ff := ff) (ln := ln) (jn := jn) (ti := ti) (ab := ab) (st := st) hc (2 ^ i) (2 ^ j) (pow_lt64 hi) (pow_lt64 hj) (pow_ne0 _) (pow_ne0 _) (pow_dis hi hne)) cw_flow (by decide) rfl hl.1 (Nat.le_of_ble_eq_true rfl) rfl dX0_between_15 (fun r_15 u_15 H locs hr_15 I _ _ => ?_)
    obtain ⟨rm_15, F_15, ff_15, ln_15⟩ := u_15
    have I : cfI D dA dB h (cfA h) s H locs (cap, rm_15, F_15, ff_15, ln_15, jn, ti, ab, st) := I
    obtain ⟨v_15, rfl, hf_15⟩ := hr_15
    refine lv_goto (tgt := 22) G.1 G.2.1 dX0_between_18 (by decide) ?_
    exact hret _ _ _ _ _ (rm_15, F_15, ff_15, ln_15, jn, ti, ab, st) dX0_between_22 (floP_bet hi hj hne hf_15) I
set_option maxHeartbeats 4000000 in
set_option maxRecDepth 100000 in
theorem met_core (l : Launch) (D : va_G) (dA dB : ClassId) (h : Nat → Nat) {cap rm : Nat → Nat} {F : Nat} {ff : Nat → Int32} {ln jn ti ab st : Nat → Nat} (hc : CutOK cap) (a b : Int32) : Met l yX0_core (ws_ yX0_core cX0_core 3 (some .int)) (rmL 3) (va_Pc [.ref (h 0), .int a, .int b] (cfU D dA dB h (cap, rm, F, ff, ln, jn, ti, ab, st))) (va_Qi (fun r (_ : CFS) => corP cap a b r) (fun u t => cfU D dA dB h (cap, u) t) (cfA h)) 0 0 (cfA h) := by
  refine cf_meti (own := RX0) (f := fun u : CFS => (cap, u)) (by decide) rfl (Nat.le_of_ble_eq_true rfl) ?_
  intro p e s m args below meth c Q ls G I hret hl
  have hl : lv_has ls 3 [(0, .ref (h 0)), (1, .int a), (2, .int b)] := hl
  refine lv_iload_n G.1 G.2.1 dX0_core_0 rfl (lv_at hl 1 rfl) ?_
  refine lv_iload_n G.1 G.2.1 dX0_core_1 rfl (lv_at hl 2 rfl) ?_
  refine c_isPair G (by decide) hl.1 (Nat.le_of_ble_eq_true rfl) dX0_core_2 ?_
  refine n_ifne (tgt := 10) G dX0_core_5 (by decide) (fun c_5 => ?_) (fun c_5 => ?_)
  · obtain ⟨i, j, hi, hj, hne, rfl, rfl⟩ := prB_of c_5
    refine lv_aload_n G.1 G.2.1 dX0_core_10 rfl (lv_at hl 0 rfl) ?_
    refine n_iconst (a := 1) G dX0_core_11 (by decide) ?_
    refine lv_iload_n G.1 G.2.1 dX0_core_12 rfl (lv_at hl 1 rfl) ?_
    refine n_ishl G (by omega) dX0_core_13 ?_
    refine n_iconst (a := 1) G dX0_core_14 (by decide) ?_
    refine lv_iload_n G.1 G.2.1 dX0_core_15 rfl (lv_at hl 2 rfl) ?_
    refine n_ishl G (by omega) dX0_core_16 ?_
    refine cf_mi (rest := []) G I (met_flow l D dA dB h (cap := cap) (rm := rm) (F := F) (ff := ff) (ln := ln) (jn := jn) (ti := ti) (ab := ab) (st := st) hc (2 ^ i) (2 ^ j) (pow_lt64 hi) (pow_lt64 hj) (pow_ne0 _) (pow_ne0 _) (pow_dis hi hne)) cw_flow (by decide) rfl hl.1 (Nat.le_of_ble_eq_true rfl) rfl dX0_core_17 (fun r_17 u_17 H locs hr_17 I _ _ => ?_)
    obtain ⟨rm_17, F_17, ff_17, ln_17⟩ := u_17
    have I : cfI D dA dB h (cfA h) s H locs (cap, rm_17, F_17, ff_17, ln_17, jn, ti, ab, st) := I
    obtain ⟨v_17, rfl, hf_17⟩ := hr_17
    refine lv_pop G.1 G.2.1 dX0_core_20 rfl ?_
    refine lv_aload_n G.1 G.2.1 dX0_core_21 rfl (lv_at hl 0 rfl) ?_
    refine g_F G I dX0_core_22 ?_
    exact hret _ _ _ _ _ (rm_17, F_17, ff_17, ln_17, jn, ti, ab, st) dX0_core_25 (floP_cor hi hj hne hf_17) I
  · refine n_iconst (a := 0) G dX0_core_8 (by decide) ?_
    exact hret _ _ _ _ _ (rm, F, ff, ln, jn, ti, ab, st) dX0_core_9 (Or.inr ⟨c_5, rfl⟩) I
set_option maxHeartbeats 4000000 in
set_option maxRecDepth 100000 in
theorem met_reach (l : Launch) (D : va_G) (dA dB : ClassId) (h : Nat → Nat) {cap rm : Nat → Nat} {F : Nat} {ff : Nat → Int32} {ln jn ti ab st : Nat → Nat} (hc : CutOK cap) (a b : Int32) : Met l yX0_reach (ws_ yX0_reach cX0_reach 3 (some .int)) (rmL 4) (va_Pc [.ref (h 0), .int a, .int b] (cfU D dA dB h (cap, rm, F, ff, ln, jn, ti, ab, st))) (va_Qi (fun r (_ : CFS) => reaP cap a b r) (fun u t => cfU D dA dB h (cap, u) t) (cfA h)) 0 0 (cfA h) := by
  refine cf_meti (own := RX0) (f := fun u : CFS => (cap, u)) (by decide) rfl (Nat.le_of_ble_eq_true rfl) ?_
  intro p e s m args below meth c Q ls G I hret hl
  have hl : lv_has ls 3 [(0, .ref (h 0)), (1, .int a), (2, .int b)] := hl
  refine lv_iload_n G.1 G.2.1 dX0_reach_0 rfl (lv_at hl 1 rfl) ?_
  refine lv_iload_n G.1 G.2.1 dX0_reach_1 rfl (lv_at hl 2 rfl) ?_
  refine c_isPair G (by decide) hl.1 (Nat.le_of_ble_eq_true rfl) dX0_reach_2 ?_
  refine n_ifeq (tgt := 22) G dX0_reach_5 (by decide) (fun c_5 => ?_) (fun c_5 => ?_)
  · refine n_iconst (a := 0) G dX0_reach_22 (by decide) ?_
    exact hret _ _ _ _ _ (rm, F, ff, ln, jn, ti, ab, st) dX0_reach_23 (Or.inr ⟨c_5, rfl⟩) I
  · obtain ⟨i, j, hi, hj, hne, rfl, rfl⟩ := prB_of c_5
    refine n_bipush (a := 63) G dX0_reach_8 (by decide) ?_
    refine lv_aload_n G.1 G.2.1 dX0_reach_10 rfl (lv_at hl 0 rfl) ?_
    refine lv_iload_n G.1 G.2.1 dX0_reach_11 rfl (lv_at hl 2 rfl) ?_
    refine lv_iload_n G.1 G.2.1 dX0_reach_12 rfl (lv_at hl 1 rfl) ?_
    refine cf_mi (rest := [.int (nI 63)]) G I (met_core l D dA dB h (cap := cap) (rm := rm) (F := F) (ff := ff) (ln := ln) (jn := jn) (ti := ti) (ab := ab) (st := st) hc (nI j) (nI i)) cw_core (by decide) rfl hl.1 (Nat.le_of_ble_eq_true rfl) rfl dX0_reach_13 (fun r_13 u_13 H locs hr_13 I _ _ => ?_)
    obtain ⟨rm_13, F_13, ff_13, ln_13, jn_13, ti_13, ab_13, st_13⟩ := u_13
    have I : cfI D dA dB h (cfA h) s H locs (cap, rm_13, F_13, ff_13, ln_13, jn_13, ti_13, ab_13, st_13) := I
    obtain ⟨M, hM, rfl, hre⟩ := rea_of_cor hc.1 hi hj hne hr_13
    refine lv_iconst (v := -1) G.1 G.2.1 dX0_reach_16 (by decide) ?_
    refine lv_ixor G.1 G.2.1 dX0_reach_17 ?_
    refine n_iandn G (by decide) hM dX0_reach_18 ?_
    refine lv_goto (tgt := 23) G.1 G.2.1 dX0_reach_19 (by decide) ?_
    exact hret _ _ _ _ _ (rm_13, F_13, ff_13, ln_13, jn_13, ti_13, ab_13, st_13) dX0_reach_23 hre I
set_option maxHeartbeats 4000000 in
set_option maxRecDepth 100000 in
theorem met_leastAgainst (l : Launch) (D : va_G) (dA dB : ClassId) (h : Nat → Nat) {cap rm : Nat → Nat} {F : Nat} {ff : Nat → Int32} {ln jn ti ab st : Nat → Nat} (hc : CutOK cap) (S : Nat) (hS : S < 64) (hS0 : S ≠ 0) (h63 : S ≠ 63) : Met l yX0_leastAgainst (ws_ yX0_leastAgainst cX0_leastAgainst 5 (some .int)) (rmL 3) (va_Pc [.ref (h 0), .int (nI S)] (cfU D dA dB h (cap, rm, F, ff, ln, jn, ti, ab, st))) (va_Qi (fun r (_ : CFS) => ∃ v, isMin cap S 0 v ∧ r = nI v) (fun u t => cfU D dA dB h (cap, u) t) (cfA h)) 0 0 (cfA h) := by
  refine cf_meti (own := RX0) (f := fun u : CFS => (cap, u)) (by decide) rfl (Nat.le_of_ble_eq_true rfl) ?_
  intro p e s m args below meth c Q ls G I hret hl
  have hl : lv_has ls 5 [(0, .ref (h 0)), (1, .int (nI S))] := hl
  have loop : ∀ (n b v : Nat) (rm : Nat → Nat) (F : Nat) (ff : Nat → Int32) (ln : Nat → Nat) (H : Heap) (locs : List Loc), b ≤ 6 → 7 ≤ b + n → laI cap S b v → cfI D dA dB h (cfA h) s H locs (cap, rm, F, ff, ln, jn, ti, ab, st) → ∀ (ls : Array Slot), lv_has ls 5 [(0, .ref (h 0)), (1, .int (nI S)), (2, .int (nI v)), (3, .int (nI b))] → W p l e (rmL 3) s m args below meth c H locs 0 0 Q (F0 m 5 ls []) := by
    intro n
    induction n with
    | zero =>
      intro b v rm F ff ln H locs h1 h2
      exact absurd h2 (by omega)
    | succ n ih =>
      intro b v rm F ff ln H locs hb hn hI I ls hl
      have hv20 := hI.1
      refine lv_iload_n G.1 G.2.1 dX0_leastAgainst_5 rfl (lv_at hl 3 rfl) ?_
      refine n_bipush (a := 6) G dX0_leastAgainst_6 (by decide) ?_
      refine n_icmp_ge (tgt := 53) G dX0_leastAgainst_8 (by decide) (by omega) (by omega) (fun c_8 => ?_) (fun c_8 => ?_)
      · refine lv_iload_n G.1 G.2.1 dX0_leastAgainst_53 rfl (lv_at hl 2 rfl) ?_
        have e6 : b = 6 := by omega
        rw [e6] at hI
        exact hret _ _ _ _ _ (rm, F, ff, ln, jn, ti, ab, st) dX0_leastAgainst_54 ⟨v, laI_end hS h63 hI, rfl⟩ I
      · refine lv_iload_n G.1 G.2.1 dX0_leastAgainst_11 rfl (lv_at hl 1 rfl) ?_
        refine lv_iload_n G.1 G.2.1 dX0_leastAgainst_12 rfl (lv_at hl 3 rfl) ?_
        refine c_in G (by omega) (by omega) (by decide) hl.1 (Nat.le_of_ble_eq_true rfl) dX0_leastAgainst_13 ?_
        refine n_ifeq (tgt := 24) G dX0_leastAgainst_16 (by decide) (fun c_16 => ?_) (fun c_16 => ?_)
        · refine lv_aload_n G.1 G.2.1 dX0_leastAgainst_24 rfl (lv_at hl 0 rfl) ?_
          refine lv_iload_n G.1 G.2.1 dX0_leastAgainst_25 rfl (lv_at hl 1 rfl) ?_
          refine n_iconst (a := 1) G dX0_leastAgainst_26 (by decide) ?_
          refine lv_iload_n G.1 G.2.1 dX0_leastAgainst_27 rfl (lv_at hl 3 rfl) ?_
          refine n_ishl G (by omega) dX0_leastAgainst_28 ?_
          refine cf_mi (rest := []) G I (met_flow l D dA dB h (cap := cap) (rm := rm) (F := F) (ff := ff) (ln := ln) (jn := jn) (ti := ti) (ab := ab) (st := st) hc S (2 ^ b) hS (pow_lt64 (by omega)) hS0 (pow_ne0 _) ((dis_iff hS).mpr (fun q hq hs => by rw [tb_pow, decide_eq_false_iff_not]; rintro rfl; rw [c_16] at hs; cases hs))) cw_flow (by decide) rfl hl.1 (Nat.le_of_ble_eq_true rfl) rfl dX0_leastAgainst_29 (fun r_29 u_29 H locs hr_29 I _ _ => ?_)
          obtain ⟨rm_29, F_29, ff_29, ln_29⟩ := u_29
          have I : cfI D dA dB h (cfA h) s H locs (cap, rm_29, F_29, ff_29, ln_29, jn, ti, ab, st) := I
          obtain ⟨v_29, rfl, hf_29⟩ := hr_29
          refine lv_istore (lv' := [(4, .int (nI v_29)), (0, .ref (h 0)), (1, .int (nI S)), (2, .int (nI v)), (3, .int (nI b))]) G.1 G.2.1 dX0_leastAgainst_32 hl (by decide) rfl (fun ls hl => ?_)
          have hfb := isMin_le hc hf_29.1
          refine lv_iload G.1 G.2.1 dX0_leastAgainst_34 (lv_at hl 0 rfl) ?_
          refine lv_iload_n G.1 G.2.1 dX0_leastAgainst_36 rfl (lv_at hl 3 rfl) ?_
          refine n_icmp_ge (tgt := 45) G dX0_leastAgainst_37 (by decide) (by omega) (by omega) (fun c_37 => ?_) (fun c_37 => ?_)
          · refine lv_iload_n G.1 G.2.1 dX0_leastAgainst_45 rfl (lv_at hl 3 rfl) ?_
            refine lv_istore_n (lv' := [(2, .int (nI v)), (4, .int (nI v_29)), (0, .ref (h 0)), (1, .int (nI S)), (3, .int (nI b))]) G.1 G.2.1 dX0_leastAgainst_46 rfl hl (by decide) rfl (fun ls hl => ?_)
            refine n_iinc (b := 1) (lv' := [(3, .int (nI (b + 1))), (2, .int (nI v)), (4, .int (nI v_29)), (0, .ref (h 0)), (1, .int (nI S))]) G dX0_leastAgainst_47 hl (q := 4) rfl (by decide) (by decide) rfl (fun ls hl => ?_)
            refine lv_goto (tgt := 5) G.1 G.2.1 dX0_leastAgainst_50 (by decide) ?_
            exact ih (b + 1) v _ _ _ _ _ _ (by omega) (by omega) (laI_ge hc hI (by omega) hf_29.1 c_37) I ls (lv_sub hl [3, 4, 1, 0] rfl)
          · refine lv_iload G.1 G.2.1 dX0_leastAgainst_40 (lv_at hl 0 rfl) ?_
            refine lv_goto (tgt := 46) G.1 G.2.1 dX0_leastAgainst_42 (by decide) ?_
            refine lv_istore_n (lv' := [(2, .int (nI v_29)), (4, .int (nI v_29)), (0, .ref (h 0)), (1, .int (nI S)), (3, .int (nI b))]) G.1 G.2.1 dX0_leastAgainst_46 rfl hl (by decide) rfl (fun ls hl => ?_)
            refine n_iinc (b := 1) (lv' := [(3, .int (nI (b + 1))), (2, .int (nI v_29)), (4, .int (nI v_29)), (0, .ref (h 0)), (1, .int (nI S))]) G dX0_leastAgainst_47 hl (q := 4) rfl (by decide) (by decide) rfl (fun ls hl => ?_)
            refine lv_goto (tgt := 5) G.1 G.2.1 dX0_leastAgainst_50 (by decide) ?_
            exact ih (b + 1) _ _ _ _ _ _ _ (by omega) (by omega) (laI_lt hI (by omega) hf_29.1 c_37) I ls (lv_sub hl [3, 4, 1, 0] rfl)
        · refine n_ldc G dX0_leastAgainst_19 ?_
          refine lv_goto (tgt := 32) G.1 G.2.1 dX0_leastAgainst_21 (by decide) ?_
          refine lv_istore (lv' := [(4, .int (nI 1048576)), (0, .ref (h 0)), (1, .int (nI S)), (2, .int (nI v)), (3, .int (nI b))]) G.1 G.2.1 dX0_leastAgainst_32 hl (by decide) rfl (fun ls hl => ?_)
          refine lv_iload G.1 G.2.1 dX0_leastAgainst_34 (lv_at hl 0 rfl) ?_
          refine lv_iload_n G.1 G.2.1 dX0_leastAgainst_36 rfl (lv_at hl 3 rfl) ?_
          refine n_icmp_ge (tgt := 45) G dX0_leastAgainst_37 (by decide) (by omega) (by omega) (fun c_37 => ?_) (fun c_37 => ?_)
          · refine lv_iload_n G.1 G.2.1 dX0_leastAgainst_45 rfl (lv_at hl 3 rfl) ?_
            refine lv_istore_n (lv' := [(2, .int (nI v)), (4, .int (nI 1048576)), (0, .ref (h 0)), (1, .int (nI S)), (3, .int (nI b))]) G.1 G.2.1 dX0_leastAgainst_46 rfl hl (by decide) rfl (fun ls hl => ?_)
            refine n_iinc (b := 1) (lv' := [(3, .int (nI (b + 1))), (2, .int (nI v)), (4, .int (nI 1048576)), (0, .ref (h 0)), (1, .int (nI S))]) G dX0_leastAgainst_47 hl (q := 4) rfl (by decide) (by decide) rfl (fun ls hl => ?_)
            refine lv_goto (tgt := 5) G.1 G.2.1 dX0_leastAgainst_50 (by decide) ?_
            exact ih (b + 1) v _ _ _ _ _ _ (by omega) (by omega) (laI_in hI c_16) I ls (lv_sub hl [3, 4, 1, 0] rfl)
          · refine lv_iload G.1 G.2.1 dX0_leastAgainst_40 (lv_at hl 0 rfl) ?_
            refine lv_goto (tgt := 46) G.1 G.2.1 dX0_leastAgainst_42 (by decide) ?_
            refine lv_istore_n (lv' := [(2, .int (nI 1048576)), (4, .int (nI 1048576)), (0, .ref (h 0)), (1, .int (nI S)), (3, .int (nI b))]) G.1 G.2.1 dX0_leastAgainst_46 rfl hl (by decide) rfl (fun ls hl => ?_)
            refine n_iinc (b := 1) (lv' := [(3, .int (nI (b + 1))), (2, .int (nI 1048576)), (4, .int (nI 1048576)), (0, .ref (h 0)), (1, .int (nI S))]) G dX0_leastAgainst_47 hl (q := 4) rfl (by decide) (by decide) rfl (fun ls hl => ?_)
            refine lv_goto (tgt := 5) G.1 G.2.1 dX0_leastAgainst_50 (by decide) ?_
            exact absurd c_37 (by omega)
  refine n_ldc G dX0_leastAgainst_0 ?_
  refine lv_istore_n (lv' := [(2, .int (nI 1048576)), (0, .ref (h 0)), (1, .int (nI S))]) G.1 G.2.1 dX0_leastAgainst_2 rfl hl (by decide) rfl (fun ls hl => ?_)
  refine n_iconst (a := 0) G dX0_leastAgainst_3 (by decide) ?_
  refine lv_istore_n (lv' := [(3, .int (nI 0)), (2, .int (nI 1048576)), (0, .ref (h 0)), (1, .int (nI S))]) G.1 G.2.1 dX0_leastAgainst_4 rfl hl (by decide) rfl (fun ls hl => ?_)
  exact loop 7 0 1048576 _ _ _ _ _ _ (by omega) (by omega) (laI_0 cap S) I ls (lv_sub hl [2, 3, 1, 0] rfl)
set_option maxHeartbeats 4000000 in
set_option maxRecDepth 100000 in
theorem met_leastSide (l : Launch) (D : va_G) (dA dB : ClassId) (h : Nat → Nat) {cap rm : Nat → Nat} {F : Nat} {ff : Nat → Int32} {ln jn ti ab st : Nat → Nat} (hc : CutOK cap) : Met l yX0_leastSide (ws_ yX0_leastSide cX0_leastSide 6 (some .int)) (rmL 3) (va_Pc [.ref (h 0)] (cfU D dA dB h (cap, rm, F, ff, ln, jn, ti, ab, st))) (va_Qi (fun r (_ : CFS) => lsdP cap r) (fun u t => cfU D dA dB h (cap, u) t) (cfA h)) 0 0 (cfA h) := by
  refine cf_meti (own := RX0) (f := fun u : CFS => (cap, u)) (by decide) rfl (Nat.le_of_ble_eq_true rfl) ?_
  intro p e s m args below meth c Q ls G I hret hl
  have hl : lv_has ls 6 [(0, .ref (h 0))] := hl
  have loop : ∀ (v : Nat), isMin cap 0 0 v → ∀ (a S O : Nat) (rm : Nat → Nat) (F : Nat) (ff : Nat → Int32) (ln jn ti ab st : Nat → Nat) (H : Heap) (locs : List Loc), a < 6 → lsG cap v a S O → cfI D dA dB h (cfA h) s H locs (cap, rm, F, ff, ln, jn, ti, ab, st) → ∀ (ls : Array Slot), lv_has ls 6 [(0, .ref (h 0)), (1, .int (nI v)), (2, .int (nI S)), (3, .int (nI O)), (4, .int (nI a))] → W p l e (rmL 3) s m args below meth c H locs 0 0 Q (F0 m 12 ls []) := by
    intro v hv a
    have hvb := isMin_le hc hv
    induction a with
    | zero =>
      intro S O rm F ff ln jn ti ab st H locs ha hI I ls hl
      refine lv_iload G.1 G.2.1 dX0_leastSide_12 (lv_at hl 4 rfl) ?_
      refine n_ifleN (tgt := 59) G (by omega) dX0_leastSide_14 (by decide) (fun c_14 => ?_) (fun c_14 => ?_)
      · refine lv_iload_n G.1 G.2.1 dX0_leastSide_59 rfl (lv_at hl 2 rfl) ?_
        exact hret _ _ _ _ _ (rm, F, ff, ln, jn, ti, ab, st) dX0_leastSide_60 (lsG_end hv hI) I
      · exact absurd c_14 (by decide)
    | succ a ih =>
      intro S O rm F ff ln jn ti ab st H locs ha hI I ls hl
      have hpre := lsG_pre hI ha (by omega)
      have hlt := lsG_lt hI
      refine lv_iload G.1 G.2.1 dX0_leastSide_12 (lv_at hl 4 rfl) ?_
      refine n_ifleN (tgt := 59) G (by omega) dX0_leastSide_14 (by decide) (fun c_14 => ?_) (fun c_14 => ?_)
      · exact absurd c_14 (by omega)
      · refine lv_aload_n G.1 G.2.1 dX0_leastSide_17 rfl (lv_at hl 0 rfl) ?_
        refine lv_iload_n G.1 G.2.1 dX0_leastSide_18 rfl (lv_at hl 2 rfl) ?_
        refine lv_iload_n G.1 G.2.1 dX0_leastSide_19 rfl (lv_at hl 3 rfl) ?_
        refine n_iconst (a := 1) G dX0_leastSide_20 (by decide) ?_
        refine lv_iload G.1 G.2.1 dX0_leastSide_21 (lv_at hl 4 rfl) ?_
        refine n_ishl G (by omega) dX0_leastSide_23 ?_
        refine n_ior G dX0_leastSide_24 ?_
        refine cf_mi (rest := []) G I (met_flow l D dA dB h (cap := cap) (rm := rm) (F := F) (ff := ff) (ln := ln) (jn := jn) (ti := ti) (ab := ab) (st := st) hc S (O ||| (2 ^ (a + 1))) hlt.1 hpre.2.1 hpre.1 hpre.2.2.1 hpre.2.2.2) cw_flow (by decide) rfl hl.1 (Nat.le_of_ble_eq_true rfl) rfl dX0_leastSide_25 (fun r_25 u_25 H locs hr_25 I _ _ => ?_)
        obtain ⟨rm_25, F_25, ff_25, ln_25⟩ := u_25
        have I : cfI D dA dB h (cfA h) s H locs (cap, rm_25, F_25, ff_25, ln_25, jn, ti, ab, st) := I
        obtain ⟨v_25, rfl, hf_25⟩ := hr_25
        have hwb := isMin_le hc hf_25.1
        refine lv_istore (lv' := [(5, .int (nI v_25)), (0, .ref (h 0)), (1, .int (nI v)), (2, .int (nI S)), (3, .int (nI O)), (4, .int (nI (a + 1)))]) G.1 G.2.1 dX0_leastSide_28 hl (by decide) rfl (fun ls hl => ?_)
        refine lv_iload G.1 G.2.1 dX0_leastSide_30 (lv_at hl 0 rfl) ?_
        refine lv_iload_n G.1 G.2.1 dX0_leastSide_32 rfl (lv_at hl 2 rfl) ?_
        refine n_icmp_ne (tgt := 46) G dX0_leastSide_33 (by decide) (by omega) (by omega) (fun c_33 => ?_) (fun c_33 => ?_)
        · refine lv_iload_n G.1 G.2.1 dX0_leastSide_46 rfl (lv_at hl 3 rfl) ?_
          refine n_iconst (a := 1) G dX0_leastSide_47 (by decide) ?_
          refine lv_iload G.1 G.2.1 dX0_leastSide_48 (lv_at hl 5 rfl) ?_
          refine n_ishl G (by omega) dX0_leastSide_50 ?_
          refine n_ior G dX0_leastSide_51 ?_
          refine lv_istore_n (lv' := [(2, .int (nI (S ||| (2 ^ (a + 1))))), (5, .int (nI v_25)), (0, .ref (h 0)), (1, .int (nI v)), (3, .int (nI O)), (4, .int (nI (a + 1)))]) G.1 G.2.1 dX0_leastSide_52 rfl hl (by decide) rfl (fun ls hl => ?_)
          refine lv_iinc (v := (nI (a + 1 - 1))) (lv' := [(4, .int (nI (a + 1 - 1))), (2, .int (nI (S ||| (2 ^ (a + 1))))), (5, .int (nI v_25)), (0, .ref (h 0)), (1, .int (nI v)), (3, .int (nI O))]) G.1 G.2.1 dX0_leastSide_53 hl (k := 5) rfl (nI_dec (by omega)) (by decide) rfl (fun ls hl => ?_)
          refine lv_goto (tgt := 12) G.1 G.2.1 dX0_leastSide_56 (by decide) ?_
          exact ih _ _ _ _ _ _ _ _ _ _ _ _ (by omega) (lsG_in hI ha hf_25.1 c_33 hv) I ls (lv_sub hl [3, 4, 1, 5, 0] rfl)
        · refine lv_iload_n G.1 G.2.1 dX0_leastSide_36 rfl (lv_at hl 4 rfl) ?_
          refine n_iconst (a := 1) G dX0_leastSide_37 (by decide) ?_
          refine lv_iload G.1 G.2.1 dX0_leastSide_38 (lv_at hl 5 rfl) ?_
          refine n_ishl G (by omega) dX0_leastSide_40 ?_
          refine n_ior G dX0_leastSide_41 ?_
          refine lv_istore_n (lv' := [(3, .int (nI (O ||| (2 ^ (a + 1))))), (5, .int (nI v_25)), (0, .ref (h 0)), (1, .int (nI v)), (2, .int (nI S)), (4, .int (nI (a + 1)))]) G.1 G.2.1 dX0_leastSide_42 rfl hl (by decide) rfl (fun ls hl => ?_)
          refine lv_goto (tgt := 53) G.1 G.2.1 dX0_leastSide_43 (by decide) ?_
          refine lv_iinc (v := (nI (a + 1 - 1))) (lv' := [(4, .int (nI (a + 1 - 1))), (3, .int (nI (O ||| (2 ^ (a + 1))))), (5, .int (nI v_25)), (0, .ref (h 0)), (1, .int (nI v)), (2, .int (nI S))]) G.1 G.2.1 dX0_leastSide_53 hl (k := 5) rfl (nI_dec (by omega)) (by decide) rfl (fun ls hl => ?_)
          refine lv_goto (tgt := 12) G.1 G.2.1 dX0_leastSide_56 (by decide) ?_
          exact ih _ _ _ _ _ _ _ _ _ _ _ _ (by omega) (lsG_out hI ha (by rw [c_33] at hf_25; exact hf_25.1)) I ls (lv_sub hl [3, 4, 5, 1, 0] rfl)
  refine lv_aload_n G.1 G.2.1 dX0_leastSide_0 rfl (lv_at hl 0 rfl) ?_
  refine cf_mi (rest := []) G I (met_least l D dA dB h (cap := cap) (rm := rm) (F := F) (ff := ff) (ln := ln) (jn := jn) (ti := ti) (ab := ab) (st := st) hc) cw_least (by decide) rfl hl.1 (Nat.le_of_ble_eq_true rfl) rfl dX0_leastSide_1 (fun r_1 u_1 H locs hr_1 I _ _ => ?_)
  obtain ⟨rm_1, F_1, ff_1, ln_1, jn_1, ti_1, ab_1, st_1⟩ := u_1
  have I : cfI D dA dB h (cfA h) s H locs (cap, rm_1, F_1, ff_1, ln_1, jn_1, ti_1, ab_1, st_1) := I
  obtain ⟨v_1, hv_1, rfl⟩ := hr_1
  refine lv_istore_n (lv' := [(1, .int (nI v_1)), (0, .ref (h 0))]) G.1 G.2.1 dX0_leastSide_4 rfl hl (by decide) rfl (fun ls hl => ?_)
  refine n_iconst (a := 1) G dX0_leastSide_5 (by decide) ?_
  refine lv_istore_n (lv' := [(2, .int (nI 1)), (1, .int (nI v_1)), (0, .ref (h 0))]) G.1 G.2.1 dX0_leastSide_6 rfl hl (by decide) rfl (fun ls hl => ?_)
  refine n_iconst (a := 0) G dX0_leastSide_7 (by decide) ?_
  refine lv_istore_n (lv' := [(3, .int (nI 0)), (2, .int (nI 1)), (1, .int (nI v_1)), (0, .ref (h 0))]) G.1 G.2.1 dX0_leastSide_8 rfl hl (by decide) rfl (fun ls hl => ?_)
  refine n_iconst (a := 5) G dX0_leastSide_9 (by decide) ?_
  refine lv_istore (lv' := [(4, .int (nI 5)), (3, .int (nI 0)), (2, .int (nI 1)), (1, .int (nI v_1)), (0, .ref (h 0))]) G.1 G.2.1 dX0_leastSide_10 hl (by decide) rfl (fun ls hl => ?_)
  exact loop _ hv_1 5 1 0 _ _ _ _ _ _ _ _ _ _ (by omega) (lsG_0 hc.1 hv_1) I ls (lv_sub hl [4, 3, 2, 1, 0] rfl)
set_option maxHeartbeats 4000000 in
set_option maxRecDepth 100000 in
theorem met_forced (l : Launch) (D : va_G) (dA dB : ClassId) (h : Nat → Nat) {cap rm : Nat → Nat} {F : Nat} {ff : Nat → Int32} {ln jn ti ab st : Nat → Nat} (hc : CutOK cap) (a b : Int32) : Met l yX0_forced (ws_ yX0_forced cX0_forced 3 (some .int)) (rmL 4) (va_Pc [.ref (h 0), .int a, .int b] (cfU D dA dB h (cap, rm, F, ff, ln, jn, ti, ab, st))) (va_Qi (fun r (_ : CFS) => forP cap a b r) (fun u t => cfU D dA dB h (cap, u) t) (cfA h)) 0 0 (cfA h) := by
  refine cf_meti (own := RX0) (f := fun u : CFS => (cap, u)) (by decide) rfl (Nat.le_of_ble_eq_true rfl) ?_
  intro p e s m args below meth c Q ls G I hret hl
  have hl : lv_has ls 3 [(0, .ref (h 0)), (1, .int a), (2, .int b)] := hl
  refine lv_iload_n G.1 G.2.1 dX0_forced_0 rfl (lv_at hl 1 rfl) ?_
  refine lv_if_lt (tgt := 38) G.1 G.2.1 dX0_forced_1 (by decide) (fun c_1 => ?_) (fun c_1 => ?_)
  · refine lv_iconst (v := -1) G.1 G.2.1 dX0_forced_38 (by decide) ?_
    exact hret _ _ _ _ _ (rm, F, ff, ln, jn, ti, ab, st) dX0_forced_39 (forP_f (by first | exact Or.inl c_1 | exact Or.inr (Or.inl c_7) | exact Or.inr (Or.inr (Or.inl c_11)) | exact Or.inr (Or.inr (Or.inr (Int32.not_le.mpr c_17))))) I
  · refine lv_iload_n G.1 G.2.1 dX0_forced_4 rfl (lv_at hl 1 rfl) ?_
    refine n_bipush (a := 63) G dX0_forced_5 (by decide) ?_
    refine lv_icmp_gt (tgt := 38) G.1 G.2.1 dX0_forced_7 (by decide) (fun c_7 => ?_) (fun c_7 => ?_)
    · refine lv_iconst (v := -1) G.1 G.2.1 dX0_forced_38 (by decide) ?_
      exact hret _ _ _ _ _ (rm, F, ff, ln, jn, ti, ab, st) dX0_forced_39 (forP_f (by first | exact Or.inl c_1 | exact Or.inr (Or.inl c_7) | exact Or.inr (Or.inr (Or.inl c_11)) | exact Or.inr (Or.inr (Or.inr (Int32.not_le.mpr c_17))))) I
    · refine lv_iload_n G.1 G.2.1 dX0_forced_10 rfl (lv_at hl 2 rfl) ?_
      refine lv_if_lt (tgt := 38) G.1 G.2.1 dX0_forced_11 (by decide) (fun c_11 => ?_) (fun c_11 => ?_)
      · refine lv_iconst (v := -1) G.1 G.2.1 dX0_forced_38 (by decide) ?_
        exact hret _ _ _ _ _ (rm, F, ff, ln, jn, ti, ab, st) dX0_forced_39 (forP_f (by first | exact Or.inl c_1 | exact Or.inr (Or.inl c_7) | exact Or.inr (Or.inr (Or.inl c_11)) | exact Or.inr (Or.inr (Or.inr (Int32.not_le.mpr c_17))))) I
      · refine lv_iload_n G.1 G.2.1 dX0_forced_14 rfl (lv_at hl 2 rfl) ?_
        refine n_bipush (a := 63) G dX0_forced_15 (by decide) ?_
        refine lv_icmp_gt (tgt := 38) G.1 G.2.1 dX0_forced_17 (by decide) (fun c_17 => ?_) (fun c_17 => ?_)
        · refine lv_iconst (v := -1) G.1 G.2.1 dX0_forced_38 (by decide) ?_
          exact hret _ _ _ _ _ (rm, F, ff, ln, jn, ti, ab, st) dX0_forced_39 (forP_f (by first | exact Or.inl c_1 | exact Or.inr (Or.inl c_7) | exact Or.inr (Or.inr (Or.inl c_11)) | exact Or.inr (Or.inr (Or.inr (Int32.not_le.mpr c_17))))) I
        · obtain ⟨i, hi, rfl⟩ := set_of c_1 c_7
          obtain ⟨j, hj, rfl⟩ := set_of c_11 c_17
          have hij : i &&& j < 64 := and_lt64 hi
          refine lv_iload_n G.1 G.2.1 dX0_forced_20 rfl (lv_at hl 1 rfl) ?_
          refine lv_iload_n G.1 G.2.1 dX0_forced_21 rfl (lv_at hl 2 rfl) ?_
          refine n_iand G dX0_forced_22 ?_
          refine n_ifneN (tgt := 38) G (by omega) dX0_forced_23 (by decide) (fun c_23 => ?_) (fun c_23 => ?_)
          · refine lv_iconst (v := -1) G.1 G.2.1 dX0_forced_38 (by decide) ?_
            exact hret _ _ _ _ _ (rm, F, ff, ln, jn, ti, ab, st) dX0_forced_39 (forP_bad hi hj (by first | exact Or.inl c_23 | exact Or.inr (Or.inl c_29) | exact Or.inr (Or.inr c_35))) I
          · refine lv_iload_n G.1 G.2.1 dX0_forced_26 rfl (lv_at hl 1 rfl) ?_
            refine n_bipush (a := 63) G dX0_forced_27 (by decide) ?_
            refine n_icmp_eq (tgt := 38) G dX0_forced_29 (by decide) (by omega) (by omega) (fun c_29 => ?_) (fun c_29 => ?_)
            · refine lv_iconst (v := -1) G.1 G.2.1 dX0_forced_38 (by decide) ?_
              exact hret _ _ _ _ _ (rm, F, ff, ln, jn, ti, ab, st) dX0_forced_39 (forP_bad hi hj (by first | exact Or.inl c_23 | exact Or.inr (Or.inl c_29) | exact Or.inr (Or.inr c_35))) I
            · refine lv_iload_n G.1 G.2.1 dX0_forced_32 rfl (lv_at hl 2 rfl) ?_
              refine n_bipush (a := 63) G dX0_forced_33 (by decide) ?_
              refine n_icmp_ne (tgt := 40) G dX0_forced_35 (by decide) (by omega) (by omega) (fun c_35 => ?_) (fun c_35 => ?_)
              · refine lv_iload_n G.1 G.2.1 dX0_forced_40 rfl (lv_at hl 1 rfl) ?_
                refine n_ifeqN (tgt := 55) G (by omega) dX0_forced_41 (by decide) (fun c_41 => ?_) (fun c_41 => ?_)
                · refine lv_iload_n G.1 G.2.1 dX0_forced_55 rfl (lv_at hl 1 rfl) ?_
                  refine n_ifneN (tgt := 70) G (by omega) dX0_forced_56 (by decide) (fun c_56 => ?_) (fun c_56 => ?_)
                  · exact absurd c_56 (by omega)
                  · refine lv_iload_n G.1 G.2.1 dX0_forced_59 rfl (lv_at hl 2 rfl) ?_
                    refine n_ifneN (tgt := 70) G (by omega) dX0_forced_60 (by decide) (fun c_60 => ?_) (fun c_60 => ?_)
                    · have hor : i ||| j = j := by rw [c_41]; exact Nat.zero_or j
                      refine lv_aload_n G.1 G.2.1 dX0_forced_70 rfl (lv_at hl 0 rfl) ?_
                      refine lv_iload_n G.1 G.2.1 dX0_forced_71 rfl (lv_at hl 1 rfl) ?_
                      refine lv_iload_n G.1 G.2.1 dX0_forced_72 rfl (lv_at hl 2 rfl) ?_
                      refine n_ior G dX0_forced_73 ?_
                      refine cf_mi (rest := []) G I (met_leastAgainst l D dA dB h (cap := cap) (rm := rm) (F := F) (ff := ff) (ln := ln) (jn := jn) (ti := ti) (ab := ab) (st := st) hc (i ||| j) (by omega) (by omega) (by omega)) cw_leastAgainst (by decide) rfl hl.1 (Nat.le_of_ble_eq_true rfl) rfl dX0_forced_74 (fun r_74 u_74 H locs hr_74 I _ _ => ?_)
                      obtain ⟨rm_74, F_74, ff_74, ln_74, jn_74, ti_74, ab_74, st_74⟩ := u_74
                      have I : cfI D dA dB h (cfA h) s H locs (cap, rm_74, F_74, ff_74, ln_74, jn_74, ti_74, ab_74, st_74) := I
                      obtain ⟨v_74, hv_74, rfl⟩ := hr_74
                      rw [hor] at hv_74
                      exact hret _ _ _ _ _ (rm_74, F_74, ff_74, ln_74, jn_74, ti_74, ab_74, st_74) dX0_forced_77 (forP_min hi hj (by rw [c_41]; exact isMin_compl hc.1 hv_74)) I
                    · refine lv_aload_n G.1 G.2.1 dX0_forced_63 rfl (lv_at hl 0 rfl) ?_
                      refine cf_mi (rest := []) G I (met_least l D dA dB h (cap := cap) (rm := rm) (F := F) (ff := ff) (ln := ln) (jn := jn) (ti := ti) (ab := ab) (st := st) hc) cw_least (by decide) rfl hl.1 (Nat.le_of_ble_eq_true rfl) rfl dX0_forced_64 (fun r_64 u_64 H locs hr_64 I _ _ => ?_)
                      obtain ⟨rm_64, F_64, ff_64, ln_64, jn_64, ti_64, ab_64, st_64⟩ := u_64
                      have I : cfI D dA dB h (cfA h) s H locs (cap, rm_64, F_64, ff_64, ln_64, jn_64, ti_64, ab_64, st_64) := I
                      obtain ⟨v_64, hv_64, rfl⟩ := hr_64
                      refine lv_goto (tgt := 77) G.1 G.2.1 dX0_forced_67 (by decide) ?_
                      exact hret _ _ _ _ _ (rm_64, F_64, ff_64, ln_64, jn_64, ti_64, ab_64, st_64) dX0_forced_77 (forP_min hi hj (by rw [c_41, c_60]; exact hv_64)) I
                · refine lv_iload_n G.1 G.2.1 dX0_forced_44 rfl (lv_at hl 2 rfl) ?_
                  refine n_ifeqN (tgt := 55) G (by omega) dX0_forced_45 (by decide) (fun c_45 => ?_) (fun c_45 => ?_)
                  · refine lv_iload_n G.1 G.2.1 dX0_forced_55 rfl (lv_at hl 1 rfl) ?_
                    refine n_ifneN (tgt := 70) G (by omega) dX0_forced_56 (by decide) (fun c_56 => ?_) (fun c_56 => ?_)
                    · have hor : i ||| j = i := by rw [c_45]; exact Nat.or_zero i
                      refine lv_aload_n G.1 G.2.1 dX0_forced_70 rfl (lv_at hl 0 rfl) ?_
                      refine lv_iload_n G.1 G.2.1 dX0_forced_71 rfl (lv_at hl 1 rfl) ?_
                      refine lv_iload_n G.1 G.2.1 dX0_forced_72 rfl (lv_at hl 2 rfl) ?_
                      refine n_ior G dX0_forced_73 ?_
                      refine cf_mi (rest := []) G I (met_leastAgainst l D dA dB h (cap := cap) (rm := rm) (F := F) (ff := ff) (ln := ln) (jn := jn) (ti := ti) (ab := ab) (st := st) hc (i ||| j) (by omega) (by omega) (by omega)) cw_leastAgainst (by decide) rfl hl.1 (Nat.le_of_ble_eq_true rfl) rfl dX0_forced_74 (fun r_74 u_74 H locs hr_74 I _ _ => ?_)
                      obtain ⟨rm_74, F_74, ff_74, ln_74, jn_74, ti_74, ab_74, st_74⟩ := u_74
                      have I : cfI D dA dB h (cfA h) s H locs (cap, rm_74, F_74, ff_74, ln_74, jn_74, ti_74, ab_74, st_74) := I
                      obtain ⟨v_74, hv_74, rfl⟩ := hr_74
                      rw [hor] at hv_74
                      exact hret _ _ _ _ _ (rm_74, F_74, ff_74, ln_74, jn_74, ti_74, ab_74, st_74) dX0_forced_77 (forP_min hi hj (by rw [c_45]; exact hv_74)) I
                    · exact absurd c_56 (by omega)
                  · refine lv_aload_n G.1 G.2.1 dX0_forced_48 rfl (lv_at hl 0 rfl) ?_
                    refine lv_iload_n G.1 G.2.1 dX0_forced_49 rfl (lv_at hl 1 rfl) ?_
                    refine lv_iload_n G.1 G.2.1 dX0_forced_50 rfl (lv_at hl 2 rfl) ?_
                    refine cf_mi (rest := []) G I (met_flow l D dA dB h (cap := cap) (rm := rm) (F := F) (ff := ff) (ln := ln) (jn := jn) (ti := ti) (ab := ab) (st := st) hc i j hi hj c_41 c_45 c_23) cw_flow (by decide) rfl hl.1 (Nat.le_of_ble_eq_true rfl) rfl dX0_forced_51 (fun r_51 u_51 H locs hr_51 I _ _ => ?_)
                    obtain ⟨rm_51, F_51, ff_51, ln_51⟩ := u_51
                    have I : cfI D dA dB h (cfA h) s H locs (cap, rm_51, F_51, ff_51, ln_51, jn, ti, ab, st) := I
                    obtain ⟨v_51, rfl, hf_51⟩ := hr_51
                    exact hret _ _ _ _ _ (rm_51, F_51, ff_51, ln_51, jn, ti, ab, st) dX0_forced_54 (forP_min hi hj hf_51.1) I
              · refine lv_iconst (v := -1) G.1 G.2.1 dX0_forced_38 (by decide) ?_
                exact hret _ _ _ _ _ (rm, F, ff, ln, jn, ti, ab, st) dX0_forced_39 (forP_bad hi hj (by first | exact Or.inl c_23 | exact Or.inr (Or.inl c_29) | exact Or.inr (Or.inr c_35))) I
set_option maxHeartbeats 4000000 in
set_option maxRecDepth 100000 in
theorem met_loss (l : Launch) (D : va_G) (dA dB : ClassId) (h : Nat → Nat) {cap rm : Nat → Nat} {F : Nat} {ff : Nat → Int32} {ln jn ti ab st : Nat → Nat} (hc : CutOK cap) (a b : Int32) : Met l yX0_loss (ws_ yX0_loss cX0_loss 6 (some .int)) (rmL 3) (va_Pc [.ref (h 0), .int a, .int b] (cfU D dA dB h (cap, rm, F, ff, ln, jn, ti, ab, st))) (va_Qi (fun r (_ : CFS) => losP cap a b r) (fun u t => cfU D dA dB h (cap, u) t) (cfA h)) 0 0 (cfA h) := by
  refine cf_meti (own := RX0) (f := fun u : CFS => (cap, u)) (by decide) rfl (Nat.le_of_ble_eq_true rfl) ?_
  intro p e s m args below meth c Q ls G I hret hl
  have hl : lv_has ls 6 [(0, .ref (h 0)), (1, .int a), (2, .int b)] := hl
  refine lv_iload_n G.1 G.2.1 dX0_loss_0 rfl (lv_at hl 1 rfl) ?_
  refine lv_iload_n G.1 G.2.1 dX0_loss_1 rfl (lv_at hl 2 rfl) ?_
  refine c_isPair G (by decide) hl.1 (Nat.le_of_ble_eq_true rfl) dX0_loss_2 ?_
  refine n_ifne (tgt := 10) G dX0_loss_5 (by decide) (fun c_5 => ?_) (fun c_5 => ?_)
  · obtain ⟨i, j, hi, hj, hne, rfl, rfl⟩ := prB_of c_5
    refine lv_aload_n G.1 G.2.1 dX0_loss_10 rfl (lv_at hl 0 rfl) ?_
    refine g_cap G I dX0_loss_11 ?_
    refine lv_iload_n G.1 G.2.1 dX0_loss_14 rfl (lv_at hl 1 rfl) ?_
    refine n_bipush (a := 6) G dX0_loss_15 (by decide) ?_
    refine n_imul G dX0_loss_17 ?_
    refine lv_iload_n G.1 G.2.1 dX0_loss_18 rfl (lv_at hl 2 rfl) ?_
    refine n_iadd G dX0_loss_19 ?_
    refine r_cap G I (by omega) dX0_loss_20 ?_
    refine lv_istore_n (lv' := [(3, .int (nI (cap ((i * 6) + j)))), (0, .ref (h 0)), (1, .int (nI i)), (2, .int (nI j))]) G.1 G.2.1 dX0_loss_21 rfl hl (by decide) rfl (fun ls hl => ?_)
    refine lv_aload_n G.1 G.2.1 dX0_loss_22 rfl (lv_at hl 1 rfl) ?_
    refine cf_mi (rest := []) G I (met_least l D dA dB h (cap := cap) (rm := rm) (F := F) (ff := ff) (ln := ln) (jn := jn) (ti := ti) (ab := ab) (st := st) hc) cw_least (by decide) rfl hl.1 (Nat.le_of_ble_eq_true rfl) rfl dX0_loss_23 (fun r_23 u_23 H locs hr_23 I _ _ => ?_)
    obtain ⟨rm_23, F_23, ff_23, ln_23, jn_23, ti_23, ab_23, st_23⟩ := u_23
    have I : cfI D dA dB h (cfA h) s H locs (cap, rm_23, F_23, ff_23, ln_23, jn_23, ti_23, ab_23, st_23) := I
    obtain ⟨v_23, hv_23, rfl⟩ := hr_23
    refine lv_istore (lv' := [(4, .int (nI v_23)), (3, .int (nI (cap ((i * 6) + j)))), (0, .ref (h 0)), (1, .int (nI i)), (2, .int (nI j))]) G.1 G.2.1 dX0_loss_26 hl (by decide) rfl (fun ls hl => ?_)
    refine lv_aload_n G.1 G.2.1 dX0_loss_28 rfl (lv_at hl 2 rfl) ?_
    refine lv_iload_n G.1 G.2.1 dX0_loss_29 rfl (lv_at hl 3 rfl) ?_
    refine lv_iload_n G.1 G.2.1 dX0_loss_30 rfl (lv_at hl 4 rfl) ?_
    refine n_iconst (a := 0) G dX0_loss_31 (by decide) ?_
    refine cf_mv (rest := []) G I (met_put l D dA dB h (cap := cap) (rm := rm_23) (F := F_23) (ff := ff_23) (ln := ln_23) (jn := jn_23) (ti := ti_23) (ab := ab_23) (st := st_23) i j 0 (by omega) (by omega)) cw_put (by decide) rfl hl.1 (Nat.le_of_ble_eq_true rfl) rfl dX0_loss_32 (fun u_32 H locs hr_32 I _ _ => ?_)
    have I : cfI D dA dB h (cfA h) s H locs ((putc cap i j 0), rm_23, F_23, ff_23, ln_23, jn_23, ti_23, ab_23, st_23) := I
    have hc2 : CutOK (putc cap i j 0) := putc_ok hc hi hj (by omega)
    refine lv_aload_n G.1 G.2.1 dX0_loss_35 rfl (lv_at hl 2 rfl) ?_
    refine cf_mi (rest := []) G I (met_least l D dA dB h (cap := (putc cap i j 0)) (rm := rm_23) (F := F_23) (ff := ff_23) (ln := ln_23) (jn := jn_23) (ti := ti_23) (ab := ab_23) (st := st_23) hc2) cw_least (by decide) rfl hl.1 (Nat.le_of_ble_eq_true rfl) rfl dX0_loss_36 (fun r_36 u_36 H locs hr_36 I _ _ => ?_)
    obtain ⟨rm_36, F_36, ff_36, ln_36, jn_36, ti_36, ab_36, st_36⟩ := u_36
    have I : cfI D dA dB h (cfA h) s H locs ((putc cap i j 0), rm_36, F_36, ff_36, ln_36, jn_36, ti_36, ab_36, st_36) := I
    obtain ⟨v_36, hv_36, rfl⟩ := hr_36
    refine lv_istore (lv' := [(5, .int (nI v_36)), (4, .int (nI v_23)), (3, .int (nI (cap ((i * 6) + j)))), (0, .ref (h 0)), (1, .int (nI i)), (2, .int (nI j))]) G.1 G.2.1 dX0_loss_39 hl (by decide) rfl (fun ls hl => ?_)
    refine lv_aload_n G.1 G.2.1 dX0_loss_41 rfl (lv_at hl 3 rfl) ?_
    refine lv_iload_n G.1 G.2.1 dX0_loss_42 rfl (lv_at hl 4 rfl) ?_
    refine lv_iload_n G.1 G.2.1 dX0_loss_43 rfl (lv_at hl 5 rfl) ?_
    refine lv_iload_n G.1 G.2.1 dX0_loss_44 rfl (lv_at hl 2 rfl) ?_
    refine cf_mv (rest := []) G I (met_put l D dA dB h (cap := (putc cap i j 0)) (rm := rm_36) (F := F_36) (ff := ff_36) (ln := ln_36) (jn := jn_36) (ti := ti_36) (ab := ab_36) (st := st_36) i j (cap ((i * 6) + j)) (by omega) (by omega)) cw_put (by decide) rfl hl.1 (Nat.le_of_ble_eq_true rfl) rfl dX0_loss_45 (fun u_45 H locs hr_45 I _ _ => ?_)
    have I : cfI D dA dB h (cfA h) s H locs ((putc (putc cap i j 0) i j (cap ((i * 6) + j))), rm_36, F_36, ff_36, ln_36, jn_36, ti_36, ab_36, st_36) := I
    refine lv_iload G.1 G.2.1 dX0_loss_48 (lv_at hl 1 rfl) ?_
    refine lv_iload G.1 G.2.1 dX0_loss_50 (lv_at hl 0 rfl) ?_
    refine lv_isub G.1 G.2.1 dX0_loss_52 ?_
    have eb : putc (putc cap i j 0) i j (cap (i * 6 + j)) = cap := putc_back hc.1 hi hj
    rw [eb] at I
    exact hret _ _ _ _ _ (rm_36, F_36, ff_36, ln_36, jn_36, ti_36, ab_36, st_36) dX0_loss_53 (Or.inl ⟨i, j, v_23, v_36, hi, hj, hne, rfl, rfl, hv_23, hv_36, rfl⟩) I
  · refine lv_iconst (v := -1) G.1 G.2.1 dX0_loss_8 (by decide) ?_
    exact hret _ _ _ _ _ (rm, F, ff, ln, jn, ti, ab, st) dX0_loss_9 (Or.inr ⟨c_5, rfl⟩) I
set_option maxHeartbeats 4000000 in
set_option maxRecDepth 100000 in
theorem met_tight (l : Launch) (D : va_G) (dA dB : ClassId) (h : Nat → Nat) {cap rm : Nat → Nat} {F : Nat} {ff : Nat → Int32} {ln jn ti ab st : Nat → Nat} (hc : CutOK cap) (h30 : ∀ k, k < 36 → cap k ≤ 30) (a b y z : Int32) : Met l yX0_tight (ws_ yX0_tight cX0_tight 8 (some .boolean)) (rmL 4) (va_Pc [.ref (h 0), .int a, .int b, .int y, .int z] (cfU D dA dB h (cap, rm, F, ff, ln, jn, ti, ab, st))) (va_Qi (fun r (_ : CFS) => tigP cap a b y z r) (fun u t => cfU D dA dB h (cap, u) t) (cfA h)) 0 0 (cfA h) := by
  refine cf_metz (own := RX0) (f := fun u : CFS => (cap, u)) (by decide) rfl (Nat.le_of_ble_eq_true rfl) ?_
  intro p e s m args below meth c Q ls G I hret hl
  have hl : lv_has ls 8 [(0, .ref (h 0)), (1, .int a), (2, .int b), (3, .int y), (4, .int z)] := hl
  refine lv_iload_n G.1 G.2.1 dX0_tight_0 rfl (lv_at hl 1 rfl) ?_
  refine lv_iload_n G.1 G.2.1 dX0_tight_1 rfl (lv_at hl 2 rfl) ?_
  refine c_isPair G (by decide) hl.1 (Nat.le_of_ble_eq_true rfl) dX0_tight_2 ?_
  refine n_ifeq (tgt := 17) G dX0_tight_5 (by decide) (fun c_5 => ?_) (fun c_5 => ?_)
  · refine n_iconst (a := 0) G dX0_tight_17 (by decide) ?_
    exact hret _ _ _ _ _ (rm, F, ff, ln, jn, ti, ab, st) dX0_tight_18 (Or.inl rfl) (Or.inr ⟨by first | rw [c_5]; rfl | rw [c_14, Bool.and_false], rfl⟩) I
  · refine lv_iload_n G.1 G.2.1 dX0_tight_8 rfl (lv_at hl 3 rfl) ?_
    refine lv_iload G.1 G.2.1 dX0_tight_9 (lv_at hl 4 rfl) ?_
    refine c_isPair G (by decide) hl.1 (Nat.le_of_ble_eq_true rfl) dX0_tight_11 ?_
    refine n_ifne (tgt := 19) G dX0_tight_14 (by decide) (fun c_14 => ?_) (fun c_14 => ?_)
    · obtain ⟨i, j, hi, hj, hne, rfl, rfl⟩ := prB_of c_5
      obtain ⟨x, t, hx, ht, hxt, rfl, rfl⟩ := prB_of c_14
      refine lv_aload_n G.1 G.2.1 dX0_tight_19 rfl (lv_at hl 0 rfl) ?_
      refine g_cap G I dX0_tight_20 ?_
      refine lv_iload_n G.1 G.2.1 dX0_tight_23 rfl (lv_at hl 3 rfl) ?_
      refine n_bipush (a := 6) G dX0_tight_24 (by decide) ?_
      refine n_imul G dX0_tight_26 ?_
      refine lv_iload G.1 G.2.1 dX0_tight_27 (lv_at hl 4 rfl) ?_
      refine n_iadd G dX0_tight_29 ?_
      refine r_cap G I (by omega) dX0_tight_30 ?_
      refine lv_istore (lv' := [(5, .int (nI (cap ((x * 6) + t)))), (0, .ref (h 0)), (1, .int (nI i)), (2, .int (nI j)), (3, .int (nI x)), (4, .int (nI t))]) G.1 G.2.1 dX0_tight_31 hl (by decide) rfl (fun ls hl => ?_)
      refine lv_aload_n G.1 G.2.1 dX0_tight_33 rfl (lv_at hl 1 rfl) ?_
      refine lv_iload_n G.1 G.2.1 dX0_tight_34 rfl (lv_at hl 2 rfl) ?_
      refine lv_iload_n G.1 G.2.1 dX0_tight_35 rfl (lv_at hl 3 rfl) ?_
      refine cf_mi (rest := []) G I (met_between l D dA dB h (cap := cap) (rm := rm) (F := F) (ff := ff) (ln := ln) (jn := jn) (ti := ti) (ab := ab) (st := st) hc (nI i) (nI j)) cw_between (by decide) rfl hl.1 (Nat.le_of_ble_eq_true rfl) rfl dX0_tight_36 (fun r_36 u_36 H locs hr_36 I _ _ => ?_)
      obtain ⟨rm_36, F_36, ff_36, ln_36, jn_36, ti_36, ab_36, st_36⟩ := u_36
      have I : cfI D dA dB h (cfA h) s H locs (cap, rm_36, F_36, ff_36, ln_36, jn_36, ti_36, ab_36, st_36) := I
      obtain rfl := betP_lam hi hj hne hr_36
      refine lv_istore (lv' := [(6, .int (nI (lam cap i j))), (5, .int (nI (cap ((x * 6) + t)))), (0, .ref (h 0)), (1, .int (nI i)), (2, .int (nI j)), (3, .int (nI x)), (4, .int (nI t))]) G.1 G.2.1 dX0_tight_39 hl (by decide) rfl (fun ls hl => ?_)
      refine lv_aload_n G.1 G.2.1 dX0_tight_41 rfl (lv_at hl 2 rfl) ?_
      refine lv_iload_n G.1 G.2.1 dX0_tight_42 rfl (lv_at hl 5 rfl) ?_
      refine lv_iload G.1 G.2.1 dX0_tight_43 (lv_at hl 6 rfl) ?_
      refine lv_iload G.1 G.2.1 dX0_tight_45 (lv_at hl 1 rfl) ?_
      refine n_iconst (a := 1) G dX0_tight_47 (by decide) ?_
      refine n_iadd G dX0_tight_48 ?_
      refine cf_mv (rest := []) G I (met_put l D dA dB h (cap := cap) (rm := rm_36) (F := F_36) (ff := ff_36) (ln := ln_36) (jn := jn_36) (ti := ti_36) (ab := ab_36) (st := st_36) x t ((cap ((x * 6) + t)) + 1) (by omega) (by omega)) cw_put (by decide) rfl hl.1 (Nat.le_of_ble_eq_true rfl) rfl dX0_tight_49 (fun u_49 H locs hr_49 I _ _ => ?_)
      have I : cfI D dA dB h (cfA h) s H locs ((putc cap x t ((cap ((x * 6) + t)) + 1)), rm_36, F_36, ff_36, ln_36, jn_36, ti_36, ab_36, st_36) := I
      have hc2 : CutOK (putc cap x t (cap (x * 6 + t) + 1)) := putc_ok hc hx ht (by have := h30 (x * 6 + t) (by omega); omega)
      refine lv_aload_n G.1 G.2.1 dX0_tight_52 rfl (lv_at hl 2 rfl) ?_
      refine lv_iload_n G.1 G.2.1 dX0_tight_53 rfl (lv_at hl 3 rfl) ?_
      refine lv_iload_n G.1 G.2.1 dX0_tight_54 rfl (lv_at hl 4 rfl) ?_
      refine cf_mi (rest := []) G I (met_between l D dA dB h (cap := (putc cap x t ((cap ((x * 6) + t)) + 1))) (rm := rm_36) (F := F_36) (ff := ff_36) (ln := ln_36) (jn := jn_36) (ti := ti_36) (ab := ab_36) (st := st_36) hc2 (nI i) (nI j)) cw_between (by decide) rfl hl.1 (Nat.le_of_ble_eq_true rfl) rfl dX0_tight_55 (fun r_55 u_55 H locs hr_55 I _ _ => ?_)
      obtain ⟨rm_55, F_55, ff_55, ln_55, jn_55, ti_55, ab_55, st_55⟩ := u_55
      have I : cfI D dA dB h (cfA h) s H locs ((putc cap x t ((cap ((x * 6) + t)) + 1)), rm_55, F_55, ff_55, ln_55, jn_55, ti_55, ab_55, st_55) := I
      obtain rfl := betP_lam hi hj hne hr_55
      refine lv_istore (lv' := [(7, .int (nI (lam (putc cap x t ((cap ((x * 6) + t)) + 1)) i j))), (6, .int (nI (lam cap i j))), (5, .int (nI (cap ((x * 6) + t)))), (0, .ref (h 0)), (1, .int (nI i)), (2, .int (nI j)), (3, .int (nI x)), (4, .int (nI t))]) G.1 G.2.1 dX0_tight_58 hl (by decide) rfl (fun ls hl => ?_)
      refine lv_aload_n G.1 G.2.1 dX0_tight_60 rfl (lv_at hl 3 rfl) ?_
      refine lv_iload_n G.1 G.2.1 dX0_tight_61 rfl (lv_at hl 6 rfl) ?_
      refine lv_iload G.1 G.2.1 dX0_tight_62 (lv_at hl 7 rfl) ?_
      refine lv_iload G.1 G.2.1 dX0_tight_64 (lv_at hl 2 rfl) ?_
      refine cf_mv (rest := []) G I (met_put l D dA dB h (cap := (putc cap x t ((cap ((x * 6) + t)) + 1))) (rm := rm_55) (F := F_55) (ff := ff_55) (ln := ln_55) (jn := jn_55) (ti := ti_55) (ab := ab_55) (st := st_55) x t (cap ((x * 6) + t)) (by omega) (by omega)) cw_put (by decide) rfl hl.1 (Nat.le_of_ble_eq_true rfl) rfl dX0_tight_66 (fun u_66 H locs hr_66 I _ _ => ?_)
      have I : cfI D dA dB h (cfA h) s H locs ((putc (putc cap x t ((cap ((x * 6) + t)) + 1)) x t (cap ((x * 6) + t))), rm_55, F_55, ff_55, ln_55, jn_55, ti_55, ab_55, st_55) := I
      refine lv_iload G.1 G.2.1 dX0_tight_69 (lv_at hl 0 rfl) ?_
      refine lv_iload G.1 G.2.1 dX0_tight_71 (lv_at hl 1 rfl) ?_
      refine n_icmp_le (tgt := 80) G dX0_tight_73 (by decide) (by have := lam_le hc2 hi hj hne; omega) (by have := lam_le hc hi hj hne; omega) (fun c_73 => ?_) (fun c_73 => ?_)
      · refine n_iconst (a := 0) G dX0_tight_80 (by decide) ?_
        have eb : putc (putc cap x t (cap (x * 6 + t) + 1)) x t (cap (x * 6 + t)) = cap := putc_back hc.1 hx ht
        rw [eb] at I
        exact hret _ _ _ _ _ (rm_55, F_55, ff_55, ln_55, jn_55, ti_55, ab_55, st_55) dX0_tight_81 (Or.inl rfl) (Or.inl ⟨i, j, x, t, _, _, hi, hj, hne, hx, ht, hxt, rfl, rfl, rfl, rfl, lam_min hi hj hne, lam_min hi hj hne, bq0 (decide_eq_false (Nat.not_lt.mpr c_73))⟩) I
      · refine n_iconst (a := 1) G dX0_tight_76 (by decide) ?_
        refine lv_goto (tgt := 81) G.1 G.2.1 dX0_tight_77 (by decide) ?_
        have eb : putc (putc cap x t (cap (x * 6 + t) + 1)) x t (cap (x * 6 + t)) = cap := putc_back hc.1 hx ht
        rw [eb] at I
        exact hret _ _ _ _ _ (rm_55, F_55, ff_55, ln_55, jn_55, ti_55, ab_55, st_55) dX0_tight_81 (Or.inr rfl) (Or.inl ⟨i, j, x, t, _, _, hi, hj, hne, hx, ht, hxt, rfl, rfl, rfl, rfl, lam_min hi hj hne, lam_min hi hj hne, bq1 (decide_eq_true c_73)⟩) I
    · refine n_iconst (a := 0) G dX0_tight_17 (by decide) ?_
      exact hret _ _ _ _ _ (rm, F, ff, ln, jn, ti, ab, st) dX0_tight_18 (Or.inl rfl) (Or.inr ⟨by first | rw [c_5]; rfl | rw [c_14, Bool.and_false], rfl⟩) I
end
section
/-! the tree of cuts: plain numbers -/
theorem lam_cut {c : Nat → Nat} {i j : Nat} {P : Nat → Bool} (hs : Sym (mx c)) (hi : i < 6) (hj : j < 6) (h : P i ≠ P j) : lam c i j ≤ cst (mx c) P := by
  have hne : i ≠ j := fun z => h (by rw [z])
  cases h1 : P i with
  | true =>
    have h2 : P j = false := by
      cases h3 : P j with
      | false => rfl
      | true => rw [h1, h3] at h; exact absurd rfl h
    exact (lam_min hi hj hne).2 P ((okP_ij hi hj).mpr ⟨h1, h2⟩)
  | false =>
    have h2 : P j = true := by
      cases h3 : P j with
      | true => rfl
      | false => rw [h1, h3] at h; exact absurd rfl h
    have := (lam_min (c := c) hi hj hne).2 (fun a => !P a) ((okP_ij hi hj).mpr ⟨by simp [h1], by simp [h2]⟩)
    rw [cst_compl hs] at this
    exact this
theorem lam_att {c : Nat → Nat} {i j : Nat} (hi : i < 6) (hj : j < 6) (hne : i ≠ j) : ∃ P : Nat → Bool, P i = true ∧ P j = false ∧ cst (mx c) P = lam c i j := by
  obtain ⟨P, hP, e⟩ := (lam_min (c := c) hi hj hne).1
  obtain ⟨h1, h2⟩ := (okP_ij hi hj).mp hP
  exact ⟨P, h1, h2, e⟩
theorem lam_sym {c : Nat → Nat} {i j : Nat} (hs : Sym (mx c)) (hi : i < 6) (hj : j < 6) (hne : i ≠ j) : lam c i j = lam c j i := by
  obtain ⟨P, h1, h2, e⟩ := lam_att (c := c) hi hj hne
  obtain ⟨R, g1, g2, e'⟩ := lam_att (c := c) hj hi (fun z => hne z.symm)
  have a := lam_cut hs hj hi (P := P) (by rw [h1, h2]; decide)
  have b := lam_cut hs hi hj (P := R) (by rw [g1, g2]; decide)
  omega
theorem lam_ult {c : Nat → Nat} {i j k : Nat} (hs : Sym (mx c)) (hi : i < 6) (hj : j < 6) (hk : k < 6) (hik : i ≠ k) : lam c i j ≤ lam c i k ∨ lam c j k ≤ lam c i k := by
  obtain ⟨P, h1, h2, e⟩ := lam_att (c := c) hi hk hik
  rw [← e]
  cases h3 : P j with
  | true => exact Or.inr (lam_cut hs hj hk (by rw [h3, h2]; decide))
  | false => exact Or.inl (lam_cut hs hi hj (by rw [h1, h3]; decide))
noncomputable def lx (c : Nat → Nat) (i j : Nat) : Nat := if i = j then 1048576 else lam c i j
theorem lx_s (c : Nat → Nat) (i : Nat) : lx c i i = 1048576 := if_pos rfl
theorem lx_n {c : Nat → Nat} {i j : Nat} (h : i ≠ j) : lx c i j = lam c i j := if_neg h
theorem lx_sym {c : Nat → Nat} {i j : Nat} (hs : Sym (mx c)) (hi : i < 6) (hj : j < 6) : lx c i j = lx c j i := by
  by_cases e : i = j
  · rw [e]
  · rw [lx_n e, lx_n (fun z => e z.symm), lam_sym hs hi hj e]
theorem lx_le {c : Nat → Nat} {i j : Nat} (hc : CutOK c) (hi : i < 6) (hj : j < 6) : lx c i j ≤ 1048576 := by
  by_cases e : i = j
  · rw [e, lx_s]; exact Nat.le_refl _
  · rw [lx_n e]
    have := lam_le hc hi hj e
    omega
def grI (c : Nat → Nat) (i : Nat) (ab st : Nat → Nat) : Prop :=
  (∀ j, 1 ≤ j → j < 6 → ab j < i ∧ ab j < j) ∧ (∀ x, 1 ≤ x → x < i → st x = lam c x (ab x) ∧ ∀ v, v < x → lx c x v = min (st x) (lx c (ab x) v)) ∧
  (∀ j, i ≤ j → j < 6 → ∀ v, v < i → v ≠ ab j → lam c j v ≤ lam c j (ab j)) ∧ (∀ j, i ≤ j → j < 6 → ∀ k, i ≤ k → k < 6 → ab j ≠ ab k → lam c j k ≤ lam c j (ab j))
theorem grI_1 {c ab st : Nat → Nat} (h : ∀ j, j < 6 → ab j = 0) : grI c 1 ab st := by
  refine ⟨fun j h1 h2 => by rw [h j h2]; omega, fun x h1 h2 => absurd h2 (by omega), fun j h1 h2 v hv hne => ?_, fun j h1 h2 k h3 h4 hne => ?_⟩
  · rw [h j h2] at hne; omega
  · rw [h j h2, h k h4] at hne; exact absurd rfl hne
theorem grI_step {c ab ab' st : Nat → Nat} {i w F : Nat} (hc : CutOK c) (h : grI c i ab st) (hi1 : 1 ≤ i) (hi : i < 6) (hf : floP c (2 ^ i) (2 ^ ab i) w F) (hab : ∀ j, j < 6 → ab' j = if i < j ∧ F.testBit j = true ∧ ab j = ab i then i else ab j) : grI c (i + 1) ab' (va_up st i w) := by
  obtain ⟨g1, g2, g3, g4⟩ := h
  have hs := hc.1
  obtain ⟨ht1, ht2⟩ := g1 i hi1 hi
  have hnt : i ≠ ab i := by omega
  have ht6 : ab i < 6 := by omega
  have hw : w = lam c i (ab i) := lam_eq hi ht6 hnt hf.1
  obtain ⟨hFi, hFt⟩ := (okP_ij hi ht6).mp hf.2.2.1
  have hFc : cst (mx c) F.testBit = lam c i (ab i) := by rw [hf.2.2.2.1]; exact hw
  generalize htdef : ab i = t at *
  have hold : ∀ j, j < 6 → j ≤ i → ab' j = ab j := fun j hj h1 => by rw [hab j hj, if_neg (by omega)]
  -- the one above comes no farther
  have up : ∀ j, i < j → j < 6 → lam c j (ab j) ≤ lam c j (ab' j) := by
    intro j h1 h2
    rw [hab j h2]
    by_cases hcnd : i < j ∧ F.testBit j = true ∧ ab j = t
    · rw [if_pos hcnd]
      obtain ⟨_, hFj, hjt⟩ := hcnd
      rw [hjt]
      have a1 : lam c j t ≤ lam c i t := by
        rw [← hFc]
        exact lam_cut hs h2 ht6 (by rw [hFj, hFt]; decide)
      rcases lam_ult (c := c) hs h2 ht6 hi (by omega : j ≠ i) with z | z
      · exact z
      · rw [lam_sym hs ht6 hi (fun z => hnt z.symm)] at z
        omega
    · rw [if_neg hcnd]; exact Nat.le_refl _
  refine ⟨fun j h1 h2 => ?_, fun x h1 h2 => ?_, fun j h1 h2 v hv hne => ?_, fun j h1 h2 k h3 h4 hne => ?_⟩
  · obtain ⟨q1, q2⟩ := g1 j h1 h2
    rw [hab j h2]
    split <;> omega
  · rcases lt_split h2 with q | rfl
    · have hx6 : x < 6 := by omega
      rw [hold x hx6 (by omega), up_n (by omega)]
      exact g2 x h1 q
    · rw [hold x hi (Nat.le_refl _), htdef, up_s]
      refine ⟨hw, fun v hv => ?_⟩
      rw [lx_n (by omega), hw]
      by_cases e : v = t
      · rw [e, lx_s]
        have := lam_le hc hi ht6 hnt
        omega
      · rw [lx_n (fun z => e z.symm)]
        have hv6 : v < 6 := by omega
        have m1 := g3 x (Nat.le_refl _) hi v hv (by rw [htdef]; exact e)
        rw [htdef] at m1
        have u1 := lam_ult (c := c) hs hi ht6 hv6 (by omega : x ≠ v)
        have u2 := lam_ult (c := c) hs ht6 hi hv6 (fun z => e z.symm : t ≠ v)
        rw [lam_sym hs ht6 hi (fun z => hnt z.symm)] at u2
        omega
  · have hup := up j (by omega) h2
    rcases lt_split hv with q | rfl
    · by_cases e : v = ab j
      · rw [e]; exact hup
      · have := g3 j (by omega) h2 v q e
        omega
    · -- v is the place itself
      by_cases e : ab j = t
      · have hFj : F.testBit j = false := by
          cases z : F.testBit j with
          | false => rfl
          | true =>
            rw [hab j h2, if_pos ⟨by omega, z, e⟩] at hne
            exact absurd rfl hne
        have e' : ab' j = t := by rw [hab j h2, if_neg (by rw [hFj]; simp)]; exact e
        rw [e']
        have a1 : lam c j v ≤ lam c v t := by
          rw [← hFc]
          exact lam_cut hs h2 hi (by rw [hFj, hFi]; decide)
        have hjt : j ≠ t := by omega
        rcases lam_ult (c := c) hs h2 hi ht6 hjt with z | z
        · exact z
        · omega
      · have := g4 j (by omega) h2 v (Nat.le_refl _) hi (by rw [htdef]; exact e)
        omega
  · have hup := up j (by omega) h2
    by_cases e : ab j = ab k
    · -- both under the same one, and one of them is taken over
      have hjk : j ≠ k := fun z => hne (by rw [z])
      have hjt : ab j = t := by
        apply Classical.byContradiction
        intro z
        rw [hab j h2, hab k h4, if_neg (fun q => z q.2.2), if_neg (fun q => z (e.trans q.2.2))] at hne
        exact hne e
      have hFne : F.testBit j ≠ F.testBit k := by
        intro z
        refine hne ?_
        rw [hab j h2, hab k h4, z, ← e]
        by_cases y : F.testBit k = true
        · rw [if_pos ⟨by omega, y, hjt⟩, if_pos ⟨by omega, y, hjt⟩]
        · rw [if_neg (fun q => y q.2.1), if_neg (fun q => y q.2.1)]
      have hle : lam c j k ≤ lam c i t := by
        rw [← hFc]
        exact lam_cut hs h2 h4 hFne
      apply Classical.byContradiction
      intro hno
      have hlt : lam c j (ab' j) < lam c j k := by omega
      have hjp : j ≠ ab' j := by
        rw [hab j h2]
        split <;> omega
      have hp6 : ab' j < 6 := by
        rw [hab j h2]
        split <;> omega
      obtain ⟨Y, y1, y2, y3⟩ := lam_att (c := c) h2 hp6 hjp
      have yk : Y k = true := by
        cases z : Y k with
        | true => rfl
        | false =>
          have := lam_cut hs h2 h4 (P := Y) (by rw [y1, z]; decide)
          omega
      have yit : Y i = Y t := by
        apply Classical.byContradiction
        intro z
        have := lam_cut hs hi ht6 (P := Y) z
        omega
      have hy : Y i = false ∧ Y t = false := by
        by_cases z : F.testBit j = true
        · have e1 : ab' j = i := by rw [hab j h2, if_pos ⟨by omega, z, hjt⟩]
          rw [e1] at y2
          exact ⟨y2, by rw [← yit]; exact y2⟩
        · have e1 : ab' j = t := by rw [hab j h2, if_neg (fun q => z q.2.1)]; exact hjt
          rw [e1] at y2
          exact ⟨by rw [yit]; exact y2, y2⟩
      have p0 := cst_posi hs F.testBit Y
      have p1 := lam_cut hs hi ht6 (P := fun a => F.testBit a && !Y a) (by simp [hFi, hFt, hy.1])
      have p2 := lam_cut hs h2 h4 (P := fun a => Y a && !F.testBit a) (by
        simp only [y1, yk, Bool.true_and]
        intro z
        exact hFne (by simpa using z))
      omega
    · have := g4 j (by omega) h2 k (by omega) h4 e
      omega
/-- the inner loop of grow -/
def giI (ab : Nat → Nat) (i F b : Nat) (ab' : Nat → Nat) : Prop := ∀ j, j < 6 → ab' j = if i < j ∧ j < b ∧ F.testBit j = true ∧ ab j = ab i then i else ab j
theorem gi_0 (ab : Nat → Nat) (i F : Nat) : giI ab i F (i + 1) ab := fun j _ => (if_neg (by omega)).symm
theorem gi_b {ab ab' : Nat → Nat} {i F b : Nat} (h : giI ab i F b ab') (hb : b < 6) : ab' b = ab b := by rw [h b hb, if_neg (by omega)]
theorem gi_in {ab ab' : Nat → Nat} {i F b : Nat} (h : giI ab i F b ab') (hb : b < 6) (hib : i < b) (hF : F.testBit b = true) (he : ab' b = ab i) : giI ab i F (b + 1) (va_up ab' b i) := by
  intro j hj
  by_cases e : j = b
  · rw [e, up_s, if_pos ⟨hib, by omega, hF, by rw [← gi_b h hb]; exact he⟩]
  · rw [up_n e, h j hj]
    by_cases z : i < j ∧ j < b ∧ F.testBit j = true ∧ ab j = ab i
    · rw [if_pos z, if_pos ⟨z.1, by omega, z.2.2⟩]
    · rw [if_neg z, if_neg (fun q => z ⟨q.1, by omega, q.2.2⟩)]
theorem gi_out {ab ab' : Nat → Nat} {i F b : Nat} (h : giI ab i F b ab') (hb : b < 6) (hn : F.testBit b = false ∨ ab' b ≠ ab i) : giI ab i F (b + 1) ab' := by
  intro j hj
  by_cases e : j = b
  · rw [e, gi_b h hb, if_neg]
    rintro ⟨_, _, q1, q2⟩
    rcases hn with z | z
    · rw [z] at q1; cases q1
    · exact z (by rw [gi_b h hb]; exact q2)
  · rw [h j hj]
    by_cases z : i < j ∧ j < b ∧ F.testBit j = true ∧ ab j = ab i
    · rw [if_pos z, if_pos ⟨z.1, by omega, z.2.2⟩]
    · rw [if_neg z, if_neg (fun q => z ⟨q.1, by omega, q.2.2⟩)]
theorem gi_end {ab ab' : Nat → Nat} {i F b : Nat} (h : giI ab i F b ab') (hb : 6 ≤ b) : ∀ j, j < 6 → ab' j = if i < j ∧ F.testBit j = true ∧ ab j = ab i then i else ab j := by
  intro j hj
  rw [h j hj]
  by_cases z : i < j ∧ F.testBit j = true ∧ ab j = ab i
  · rw [if_pos z, if_pos ⟨z.1, by omega, z.2⟩]
  · rw [if_neg z, if_neg (fun q => z ⟨q.1, q.2.2⟩)]
def treeOK (c ab st : Nat → Nat) : Prop := ∀ x, 1 ≤ x → x < 6 → ab x < x ∧ st x ≤ 1116 ∧ ∀ v, v < x → lx c x v = min (st x) (lx c (ab x) v)
theorem grI_tree {c ab st : Nat → Nat} (hc : CutOK c) (h : grI c 6 ab st) : treeOK c ab st := by
  intro x h1 h2
  obtain ⟨g1, g2, _, _⟩ := h
  obtain ⟨q1, q2⟩ := g2 x h1 h2
  have q3 := (g1 x h1 h2).2
  refine ⟨q3, ?_, q2⟩
  rw [q1]
  exact lam_le hc h2 (by omega) (by omega)
/-- going up the tree -/
def otI (c : Nat → Nat) (a b x y least : Nat) : Prop := least ≤ 1048576 ∧ x < 6 ∧ y < 6 ∧ min least (lx c x y) = lx c a b
theorem otI_0 {c : Nat → Nat} {a b : Nat} (hc : CutOK c) (ha : a < 6) (hb : b < 6) : otI c a b a b 1048576 := ⟨Nat.le_refl _, ha, hb, by have := lx_le hc ha hb; omega⟩
theorem otI_x {c ab st : Nat → Nat} {a b x y least : Nat} (ht : treeOK c ab st) (h : otI c a b x y least) (hxy : y < x) : otI c a b (ab x) y (if st x < least then st x else least) := by
  obtain ⟨h1, h2, h3, h4⟩ := h
  obtain ⟨t1, t2, t3⟩ := ht x (by omega) h2
  have t4 := t3 y hxy
  refine ⟨by split <;> omega, by omega, h3, ?_⟩
  rw [t4] at h4
  rw [← h4]
  split <;> omega
theorem otI_y {c ab st : Nat → Nat} {a b x y least : Nat} (hc : CutOK c) (ht : treeOK c ab st) (h : otI c a b x y least) (hxy : x < y) : otI c a b x (ab y) (if st y < least then st y else least) := by
  obtain ⟨h1, h2, h3, h4⟩ := h
  obtain ⟨t1, t2, t3⟩ := ht y (by omega) h3
  have t4 := t3 x hxy
  refine ⟨by split <;> omega, h2, by omega, ?_⟩
  rw [lx_sym hc.1 h2 h3, t4] at h4
  rw [lx_sym hc.1 h2 (by omega), ← h4]
  split <;> omega
theorem otI_end {c : Nat → Nat} {a b x least : Nat} (h : otI c a b x x least) : least = lx c a b := by
  obtain ⟨h1, h2, h3, h4⟩ := h
  rw [lx_s] at h4
  omega
/-! counting the pairs -/
theorem sm36 (f : Nat → Nat → Nat) : sm 36 (fun k => f (k / 6) (k % 6)) = sm 6 (fun a => sm 6 (fun b => f a b)) := by
  have row : ∀ a, sm (a * 6 + 6) (fun k => f (k / 6) (k % 6)) = sm (a * 6) (fun k => f (k / 6) (k % 6)) + sm 6 (fun b => f a b) := by
    intro a
    have e : ∀ b, b < 6 → f ((a * 6 + b) / 6) ((a * 6 + b) % 6) = f a b := fun b hb => by
      rw [show (a * 6 + b) / 6 = a by omega, show (a * 6 + b) % 6 = b by omega]
    have e0 := e 0 (by omega)
    have e1 := e 1 (by omega)
    have e2 := e 2 (by omega)
    have e3 := e 3 (by omega)
    have e4 := e 4 (by omega)
    have e5 := e 5 (by omega)
    show sm (a * 6) (fun k => f (k / 6) (k % 6)) + f ((a * 6 + 0) / 6) ((a * 6 + 0) % 6) + f ((a * 6 + 1) / 6) ((a * 6 + 1) % 6) + f ((a * 6 + 2) / 6) ((a * 6 + 2) % 6) + f ((a * 6 + 3) / 6) ((a * 6 + 3) % 6) + f ((a * 6 + 4) / 6) ((a * 6 + 4) % 6) + f ((a * 6 + 5) / 6) ((a * 6 + 5) % 6) = sm (a * 6) (fun k => f (k / 6) (k % 6)) + (0 + f a 0 + f a 1 + f a 2 + f a 3 + f a 4 + f a 5)
    rw [e0, e1, e2, e3, e4, e5]
    omega
  have h : ∀ a, sm (a * 6) (fun k => f (k / 6) (k % 6)) = sm a (fun a => sm 6 (fun b => f a b)) := by
    intro a
    induction a with
    | zero => rfl
    | succ a ih => rw [show (a + 1) * 6 = a * 6 + 6 by omega, row, ih]; rfl
  exact h 6
noncomputable def pg (c : Nat → Nat) (z : Int32) (a b : Nat) : Nat := if a < b ∧ ¬ nI (lam c a b) < z then 1 else 0
noncomputable def palA (c : Nat → Nat) (z : Int32) (a : Nat) : Nat := sm a (fun a => sm 6 (fun b => pg c z a b))
theorem palA_6 (c : Nat → Nat) (z : Int32) : palA c z 6 = palN c z 36 := (sm36 (fun a b => pg c z a b)).symm
theorem palA_s (c : Nat → Nat) (z : Int32) (a : Nat) : palA c z (a + 1) = palA c z a + sm 6 (fun b => pg c z a b) := rfl
theorem pg_start (c : Nat → Nat) (z : Int32) (a : Nat) : sm (a + 1) (fun b => pg c z a b) = 0 := sm_zero (fun b hb => if_neg (by omega))
theorem pg_1 {c : Nat → Nat} {z : Int32} {a b : Nat} (hab : a < b) (h : ¬ nI (lx c a b) < z) : sm (b + 1) (fun b => pg c z a b) = sm b (fun b => pg c z a b) + 1 := by
  show sm b (fun b => pg c z a b) + pg c z a b = _
  rw [lx_n (by omega)] at h
  unfold pg
  rw [if_pos ⟨hab, h⟩]
theorem pg_0 {c : Nat → Nat} {z : Int32} {a b : Nat} (hab : a < b) (h : nI (lx c a b) < z) : sm (b + 1) (fun b => pg c z a b) = sm b (fun b => pg c z a b) + 0 := by
  show sm b (fun b => pg c z a b) + pg c z a b = _
  rw [lx_n (by omega)] at h
  have e : pg c z a b = 0 := if_neg (fun q => q.2 h)
  rw [e]
theorem bet_lam {c : Nat → Nat} {i j : Nat} (hi : i < 6) (hj : j < 6) (hne : i ≠ j) : betP c (nI i) (nI j) (nI (lam c i j)) := Or.inl ⟨i, j, _, hi, hj, hne, rfl, rfl, lam_min hi hj hne, rfl⟩
theorem gx_skip1 {c : Nat → Nat} {i b M : Nat} {z : Int32} (h : gI c (nI i) z b M) (hb : b < 6) (e : b = i) : gI c (nI i) z (b + 1) (M ||| 0) := by
  rw [Nat.or_zero]
  exact gI_skip1 h hb (by rw [e]; exact prB_f3 rfl)
theorem gx_skip2 {c : Nat → Nat} {i b M : Nat} {z : Int32} (h : gI c (nI i) z b M) (hi : i < 6) (hb : b < 6) (e : b ≠ i) (hz : nI (lx c i b) < z) : gI c (nI i) z (b + 1) (M ||| 0) := by
  rw [Nat.or_zero]
  rw [lx_n (fun q => e q.symm)] at hz
  exact gI_skip2 h hb (prB_nI hi hb (fun q => e q.symm)) (bet_lam hi hb (fun q => e q.symm)) hz
theorem gx_in {c : Nat → Nat} {i b M : Nat} {z : Int32} (h : gI c (nI i) z b M) (hi : i < 6) (hb : b < 6) (e : b ≠ i) (hz : ¬ nI (lx c i b) < z) : gI c (nI i) z (b + 1) (M ||| 2 ^ b) := by
  rw [lx_n (fun q => e q.symm)] at hz
  exact gI_in h hb (prB_nI hi hb (fun q => e q.symm)) (bet_lam hi hb (fun q => e q.symm)) hz
end
section
set_option maxRecDepth 100000
theorem cw_grow : callWords RX0 83 RX0 yX0_grow cX0_grow 4 none 0 := ⟨lw_V q134 q136 qs7 q14 q137, by decide +kernel⟩
theorem cw_onTree : callWords RX0 86 RX0 yX0_onTree cX0_onTree 7 (some .int) 2 := ⟨lw_V q138 q140 qs8 q14 q141, by decide +kernel⟩
set_option maxHeartbeats 4000000 in
set_option maxRecDepth 100000 in
theorem met_grow (l : Launch) (D : va_G) (dA dB : ClassId) (h : Nat → Nat) {cap rm : Nat → Nat} {F : Nat} {ff : Nat → Int32} {ln jn ti ab st : Nat → Nat} (hc : CutOK cap) : Met l yX0_grow (ws_ yX0_grow cX0_grow 4 none) (rmL 3) (va_Pc [.ref (h 0)] (cfU D dA dB h (cap, rm, F, ff, ln, jn, ti, ab, st))) (va_Qv (fun u : CFS => treeOK cap u.2.2.2.2.2.2.1 u.2.2.2.2.2.2.2) (fun u t => cfU D dA dB h (cap, u) t) (cfA h)) 0 0 (cfA h) := by
  refine cf_metv (own := RX0) (f := fun u : CFS => (cap, u)) (by decide) rfl (Nat.le_of_ble_eq_true rfl) ?_
  intro p e s m args below meth c Q ls G I hret hl
  have hl : lv_has ls 4 [(0, .ref (h 0))] := hl
  have tree : ∀ (n i : Nat) (rm : Nat → Nat) (F : Nat) (ff : Nat → Int32) (ln ab st : Nat → Nat) (H : Heap) (locs : List Loc), i ≤ 6 → 1 ≤ i → 7 ≤ i + n → grI cap i ab st → cfI D dA dB h (cfA h) s H locs (cap, rm, F, ff, ln, jn, ti, ab, st) → ∀ (ls : Array Slot), lv_has ls 4 [(0, .ref (h 0)), (1, .int (nI i))] → W p l e (rmL 3) s m args below meth c H locs 0 0 Q (F0 m 31 ls []) := by
    intro n
    induction n with
    | zero =>
      intro i rm F ff ln ab st H locs h1 h2 h3
      exact absurd h3 (by omega)
    | succ n ih =>
      intro i rm F ff ln ab st H locs hi hi1 hn hI I ls hl
      refine lv_iload_n G.1 G.2.1 dX0_grow_31 rfl (lv_at hl 1 rfl) ?_
      refine n_bipush (a := 6) G dX0_grow_32 (by decide) ?_
      refine n_icmp_ge (tgt := 111) G dX0_grow_34 (by decide) (by omega) (by omega) (fun c_34 => ?_) (fun c_34 => ?_)
      · have e6 : i = 6 := by omega
        rw [e6] at hI
        exact hret _ _ _ _ (rm, F, ff, ln, jn, ti, ab, st) dX0_grow_111 (grI_tree hc hI) I
      · have hi6 : i < 6 := c_34
        have hab := hI.1 i hi1 hi6
        refine lv_aload_n G.1 G.2.1 dX0_grow_37 rfl (lv_at hl 0 rfl) ?_
        refine g_ab G I dX0_grow_38 ?_
        refine lv_iload_n G.1 G.2.1 dX0_grow_41 rfl (lv_at hl 1 rfl) ?_
        refine r_ab G I (by omega) dX0_grow_42 ?_
        refine lv_istore_n (lv' := [(2, .int (nI (ab i))), (0, .ref (h 0)), (1, .int (nI i))]) G.1 G.2.1 dX0_grow_43 rfl hl (by decide) rfl (fun ls hl => ?_)
        refine lv_aload_n G.1 G.2.1 dX0_grow_44 rfl (lv_at hl 1 rfl) ?_
        refine g_st G I dX0_grow_45 ?_
        refine lv_iload_n G.1 G.2.1 dX0_grow_48 rfl (lv_at hl 2 rfl) ?_
        refine lv_aload_n G.1 G.2.1 dX0_grow_49 rfl (lv_at hl 1 rfl) ?_
        refine n_iconst (a := 1) G dX0_grow_50 (by decide) ?_
        refine lv_iload_n G.1 G.2.1 dX0_grow_51 rfl (lv_at hl 2 rfl) ?_
        refine n_ishl G (by omega) dX0_grow_52 ?_
        refine n_iconst (a := 1) G dX0_grow_53 (by decide) ?_
        refine lv_iload_n G.1 G.2.1 dX0_grow_54 rfl (lv_at hl 0 rfl) ?_
        refine n_ishl G (by omega) dX0_grow_55 ?_
        refine cf_mi (rest := [.int (nI i), .ref (h 8)]) G I (met_flow l D dA dB h (cap := cap) (rm := rm) (F := F) (ff := ff) (ln := ln) (jn := jn) (ti := ti) (ab := ab) (st := st) hc (2 ^ i) (2 ^ (ab i)) (pow_lt64 hi6) (pow_lt64 (by omega)) (pow_ne0 _) (pow_ne0 _) (pow_dis hi6 (by omega))) cw_flow (by decide) rfl hl.1 (Nat.le_of_ble_eq_true rfl) rfl dX0_grow_56 (fun r_56 u_56 H locs hr_56 I _ _ => ?_)
        obtain ⟨rm_56, F_56, ff_56, ln_56⟩ := u_56
        have I : cfI D dA dB h (cfA h) s H locs (cap, rm_56, F_56, ff_56, ln_56, jn, ti, ab, st) := I
        obtain ⟨v_56, rfl, hf_56⟩ := hr_56
        refine w_st G I (by omega) dX0_grow_59 (fun H locs I => ?_)
        refine lv_iload_n G.1 G.2.1 dX0_grow_60 rfl (lv_at hl 2 rfl) ?_
        refine n_iconst (a := 1) G dX0_grow_61 (by decide) ?_
        refine n_iadd G dX0_grow_62 ?_
        refine lv_istore_n (lv' := [(3, .int (nI (i + 1))), (2, .int (nI (ab i))), (0, .ref (h 0)), (1, .int (nI i))]) G.1 G.2.1 dX0_grow_63 rfl hl (by decide) rfl (fun ls hl => ?_)
        have hF64 : F_56 < 64 := hf_56.2.1
        have inner : ∀ (n' b : Nat) (ab' : Nat → Nat) (H : Heap) (locs : List Loc), b ≤ 6 → i < b → 7 ≤ b + n' → giI ab i F_56 b ab' → cfI D dA dB h (cfA h) s H locs (cap, rm_56, F_56, ff_56, ln_56, jn, ti, ab', (va_up st i v_56)) → ∀ (ls : Array Slot), lv_has ls 4 [(0, .ref (h 0)), (1, .int (nI i)), (2, .int (nI (ab i))), (3, .int (nI b))] → W p l e (rmL 3) s m args below meth c H locs 0 0 Q (F0 m 64 ls []) := by
          intro n'
          induction n' with
          | zero =>
            intro b ab' H locs h1 h2 h3
            exact absurd h3 (by omega)
          | succ n' ih' =>
            intro b ab' H locs hb hib hn' hJ I ls hl
            refine lv_iload_n G.1 G.2.1 dX0_grow_64 rfl (lv_at hl 3 rfl) ?_
            refine n_bipush (a := 6) G dX0_grow_65 (by decide) ?_
            refine n_icmp_ge (tgt := 105) G dX0_grow_67 (by decide) (by omega) (by omega) (fun c_67 => ?_) (fun c_67 => ?_)
            · refine n_iinc (b := 1) (lv' := [(1, .int (nI (i + 1))), (0, .ref (h 0)), (2, .int (nI (ab i))), (3, .int (nI b))]) G dX0_grow_105 hl (q := 1) rfl (by decide) (by decide) rfl (fun ls hl => ?_)
              refine lv_goto (tgt := 31) G.1 G.2.1 dX0_grow_108 (by decide) ?_
              exact ih (i + 1) _ _ _ _ _ _ _ _ (by omega) (by omega) (by omega) (grI_step hc hI hi1 hi6 hf_56 (gi_end hJ (by omega))) I ls (lv_sub hl [1, 0] rfl)
            · have hb6 : b < 6 := c_67
              have hbb : ab' b < 6 := by rw [gi_b hJ hb6]; have := hI.1 b (by omega) hb6; omega
              refine lv_aload_n G.1 G.2.1 dX0_grow_70 rfl (lv_at hl 0 rfl) ?_
              refine g_F G I dX0_grow_71 ?_
              refine lv_iload_n G.1 G.2.1 dX0_grow_74 rfl (lv_at hl 3 rfl) ?_
              refine c_in G (by omega) (by omega) (by decide) hl.1 (Nat.le_of_ble_eq_true rfl) dX0_grow_75 ?_
              refine n_ifeq (tgt := 99) G dX0_grow_78 (by decide) (fun c_78 => ?_) (fun c_78 => ?_)
              · refine n_iinc (b := 1) (lv' := [(3, .int (nI (b + 1))), (0, .ref (h 0)), (1, .int (nI i)), (2, .int (nI (ab i)))]) G dX0_grow_99 hl (q := 3) rfl (by decide) (by decide) rfl (fun ls hl => ?_)
                refine lv_goto (tgt := 64) G.1 G.2.1 dX0_grow_102 (by decide) ?_
                exact ih' (b + 1) _ _ _ (by omega) (by omega) (by omega) (gi_out hJ hb6 (by first | exact Or.inl c_78 | exact Or.inr c_88)) I ls (lv_sub hl [1, 2, 3, 0] rfl)
              · refine lv_aload_n G.1 G.2.1 dX0_grow_81 rfl (lv_at hl 0 rfl) ?_
                refine g_ab G I dX0_grow_82 ?_
                refine lv_iload_n G.1 G.2.1 dX0_grow_85 rfl (lv_at hl 3 rfl) ?_
                refine r_ab G I (by omega) dX0_grow_86 ?_
                refine lv_iload_n G.1 G.2.1 dX0_grow_87 rfl (lv_at hl 2 rfl) ?_
                refine n_icmp_ne (tgt := 99) G dX0_grow_88 (by decide) (by omega) (by omega) (fun c_88 => ?_) (fun c_88 => ?_)
                · refine n_iinc (b := 1) (lv' := [(3, .int (nI (b + 1))), (0, .ref (h 0)), (1, .int (nI i)), (2, .int (nI (ab i)))]) G dX0_grow_99 hl (q := 3) rfl (by decide) (by decide) rfl (fun ls hl => ?_)
                  refine lv_goto (tgt := 64) G.1 G.2.1 dX0_grow_102 (by decide) ?_
                  exact ih' (b + 1) _ _ _ (by omega) (by omega) (by omega) (gi_out hJ hb6 (by first | exact Or.inl c_78 | exact Or.inr c_88)) I ls (lv_sub hl [1, 2, 3, 0] rfl)
                · refine lv_aload_n G.1 G.2.1 dX0_grow_91 rfl (lv_at hl 0 rfl) ?_
                  refine g_ab G I dX0_grow_92 ?_
                  refine lv_iload_n G.1 G.2.1 dX0_grow_95 rfl (lv_at hl 3 rfl) ?_
                  refine lv_iload_n G.1 G.2.1 dX0_grow_96 rfl (lv_at hl 1 rfl) ?_
                  refine n_i2b G (by omega) dX0_grow_97 ?_
                  refine w_ab G I (by omega) (by omega) dX0_grow_98 (fun H locs I => ?_)
                  refine n_iinc (b := 1) (lv' := [(3, .int (nI (b + 1))), (0, .ref (h 0)), (1, .int (nI i)), (2, .int (nI (ab i)))]) G dX0_grow_99 hl (q := 3) rfl (by decide) (by decide) rfl (fun ls hl => ?_)
                  refine lv_goto (tgt := 64) G.1 G.2.1 dX0_grow_102 (by decide) ?_
                  exact ih' (b + 1) _ _ _ (by omega) (by omega) (by omega) (gi_in hJ hb6 hib c_78 c_88) I ls (lv_sub hl [1, 2, 3, 0] rfl)
        exact inner 7 (i + 1) ab _ _ (by omega) (by omega) (by omega) (gi_0 ab i F_56) I ls (lv_sub hl [2, 3, 1, 0] rfl)
  have clear : ∀ (n a : Nat) (ab st : Nat → Nat) (H : Heap) (locs : List Loc), a ≤ 6 → 7 ≤ a + n → (∀ j, j < a → ab j = 0) → cfI D dA dB h (cfA h) s H locs (cap, rm, F, ff, ln, jn, ti, ab, st) → ∀ (ls : Array Slot), lv_has ls 4 [(0, .ref (h 0)), (1, .int (nI a))] → W p l e (rmL 3) s m args below meth c H locs 0 0 Q (F0 m 2 ls []) := by
    intro n
    induction n with
    | zero =>
      intro a ab st H locs h1 h2
      exact absurd h2 (by omega)
    | succ n ih =>
      intro a ab st H locs ha hn hI I ls hl
      refine lv_iload_n G.1 G.2.1 dX0_grow_2 rfl (lv_at hl 1 rfl) ?_
      refine n_bipush (a := 6) G dX0_grow_3 (by decide) ?_
      refine n_icmp_ge (tgt := 29) G dX0_grow_5 (by decide) (by omega) (by omega) (fun c_5 => ?_) (fun c_5 => ?_)
      · refine n_iconst (a := 1) G dX0_grow_29 (by decide) ?_
        refine lv_istore_n (lv' := [(1, .int (nI 1)), (0, .ref (h 0))]) G.1 G.2.1 dX0_grow_30 rfl hl (by decide) rfl (fun ls hl => ?_)
        exact tree 6 1 _ _ _ _ _ _ _ _ (by omega) (by omega) (by omega) (grI_1 (fun j hj => hI j (by omega))) I ls (lv_sub hl [1, 0] rfl)
      · refine lv_aload_n G.1 G.2.1 dX0_grow_8 rfl (lv_at hl 0 rfl) ?_
        refine g_ab G I dX0_grow_9 ?_
        refine lv_iload_n G.1 G.2.1 dX0_grow_12 rfl (lv_at hl 1 rfl) ?_
        refine n_iconst (a := 0) G dX0_grow_13 (by decide) ?_
        refine w_ab G I (by omega) (by omega) dX0_grow_14 (fun H locs I => ?_)
        refine lv_aload_n G.1 G.2.1 dX0_grow_15 rfl (lv_at hl 0 rfl) ?_
        refine g_st G I dX0_grow_16 ?_
        refine lv_iload_n G.1 G.2.1 dX0_grow_19 rfl (lv_at hl 1 rfl) ?_
        refine n_ldc G dX0_grow_20 ?_
        refine w_st G I (by omega) dX0_grow_22 (fun H locs I => ?_)
        refine n_iinc (b := 1) (lv' := [(1, .int (nI (a + 1))), (0, .ref (h 0))]) G dX0_grow_23 hl (q := 1) rfl (by decide) (by decide) rfl (fun ls hl => ?_)
        refine lv_goto (tgt := 2) G.1 G.2.1 dX0_grow_26 (by decide) ?_
        exact ih (a + 1) _ _ _ _ (by omega) (by omega) (fun j hj => by rcases lt_split hj with q | rfl; rw [up_n (by omega)]; exact hI j q; exact up_s _ _ _) I ls (lv_sub hl [1, 0] rfl)
  refine n_iconst (a := 0) G dX0_grow_0 (by decide) ?_
  refine lv_istore_n (lv' := [(1, .int (nI 0)), (0, .ref (h 0))]) G.1 G.2.1 dX0_grow_1 rfl hl (by decide) rfl (fun ls hl => ?_)
  exact clear 7 0 _ _ _ _ (by omega) (by omega) (fun j hj => absurd hj (by omega)) I ls (lv_sub hl [1, 0] rfl)
set_option maxHeartbeats 4000000 in
set_option maxRecDepth 100000 in
theorem met_onTree (l : Launch) (D : va_G) (dA dB : ClassId) (h : Nat → Nat) {cap rm : Nat → Nat} {F : Nat} {ff : Nat → Int32} {ln jn ti ab st : Nat → Nat} (hc : CutOK cap) (ht : treeOK cap ab st) (a b : Nat) (ha : a < 6) (hb : b < 6) : Met l yX0_onTree (ws_ yX0_onTree cX0_onTree 7 (some .int)) (rmL 0) (va_Pc [.ref (h 0), .int (nI a), .int (nI b)] (cfU D dA dB h (cap, rm, F, ff, ln, jn, ti, ab, st))) (vp_Si (fun r => r = nI (lx cap a b))) 0 0 (fun _ => False) := by
  refine ro_meti (own := RX0) (by decide) rfl (Nat.le_of_ble_eq_true rfl) ?_
  intro p e s m args below meth c Q ls G hU hret hl
  have I : cfI D dA dB h (fun _ => True) s s.heap [] (cap, rm, F, ff, ln, jn, ti, ab, st) := ⟨hU.1, hU.2.1, hU.2.2, va_S.rf⟩
  have hl : lv_has ls 7 [(0, .ref (h 0)), (1, .int (nI a)), (2, .int (nI b))] := hl
  have loop : ∀ (n k x y v : Nat), 13 ≤ k + n → k + x + y ≤ 10 → otI cap a b x y v → ∀ (ls : Array Slot), lv_has ls 7 [(0, .ref (h 0)), (1, .int (nI a)), (2, .int (nI b)), (3, .int (nI x)), (4, .int (nI y)), (5, .int (nI v)), (6, .int (nI k))] → W p l e (rmL 0) s m args below meth c s.heap [] 0 0 Q (F0 m 12 ls []) := by
    intro n
    induction n with
    | zero =>
      intro k x y v h1 h2
      exact absurd h1 (by omega)
    | succ n ih =>
      intro k x y v hn hk hI ls hl
      have hv := hI.1
      have hx := hI.2.1
      have hy := hI.2.2.1
      refine lv_iload G.1 G.2.1 dX0_onTree_12 (lv_at hl 6 rfl) ?_
      refine n_bipush (a := 12) G dX0_onTree_14 (by decide) ?_
      refine n_icmp_ge (tgt := 106) G dX0_onTree_16 (by decide) (by omega) (by omega) (fun c_16 => ?_) (fun c_16 => ?_)
      · exact absurd c_16 (by omega)
      · refine lv_iload_n G.1 G.2.1 dX0_onTree_19 rfl (lv_at hl 3 rfl) ?_
        refine lv_iload G.1 G.2.1 dX0_onTree_20 (lv_at hl 4 rfl) ?_
        refine n_icmp_eq (tgt := 106) G dX0_onTree_22 (by decide) (by omega) (by omega) (fun c_22 => ?_) (fun c_22 => ?_)
        · refine lv_iload G.1 G.2.1 dX0_onTree_106 (lv_at hl 5 rfl) ?_
          rw [c_22] at hI
          exact hret _ _ _ dX0_onTree_108 (by rw [otI_end hI])
        · refine lv_iload_n G.1 G.2.1 dX0_onTree_25 rfl (lv_at hl 3 rfl) ?_
          refine lv_iload G.1 G.2.1 dX0_onTree_26 (lv_at hl 4 rfl) ?_
          refine n_icmp_le (tgt := 65) G dX0_onTree_28 (by decide) (by omega) (by omega) (fun c_28 => ?_) (fun c_28 => ?_)
          · have hty := ht y (by omega) hy
            have h1 := hty.1
            have h2 := hty.2.1
            refine lv_aload_n G.1 G.2.1 dX0_onTree_65 rfl (lv_at hl 0 rfl) ?_
            refine g_st G I dX0_onTree_66 ?_
            refine lv_iload G.1 G.2.1 dX0_onTree_69 (lv_at hl 4 rfl) ?_
            refine r_st G I (by omega) dX0_onTree_71 ?_
            refine lv_iload G.1 G.2.1 dX0_onTree_72 (lv_at hl 5 rfl) ?_
            refine n_icmp_ge (tgt := 87) G dX0_onTree_74 (by decide) (by omega) (by omega) (fun c_74 => ?_) (fun c_74 => ?_)
            · refine lv_iload G.1 G.2.1 dX0_onTree_87 (lv_at hl 5 rfl) ?_
              refine lv_istore (lv' := [(5, .int (nI v)), (0, .ref (h 0)), (1, .int (nI a)), (2, .int (nI b)), (3, .int (nI x)), (4, .int (nI y)), (6, .int (nI k))]) G.1 G.2.1 dX0_onTree_89 hl (by decide) rfl (fun ls hl => ?_)
              refine lv_aload_n G.1 G.2.1 dX0_onTree_91 rfl (lv_at hl 1 rfl) ?_
              refine g_ab G I dX0_onTree_92 ?_
              refine lv_iload G.1 G.2.1 dX0_onTree_95 (lv_at hl 5 rfl) ?_
              refine r_ab G I (by omega) dX0_onTree_97 ?_
              refine lv_istore (lv' := [(4, .int (nI (ab y))), (5, .int (nI v)), (0, .ref (h 0)), (1, .int (nI a)), (2, .int (nI b)), (3, .int (nI x)), (6, .int (nI k))]) G.1 G.2.1 dX0_onTree_98 hl (by decide) rfl (fun ls hl => ?_)
              refine n_iinc (b := 1) (lv' := [(6, .int (nI (k + 1))), (4, .int (nI (ab y))), (5, .int (nI v)), (0, .ref (h 0)), (1, .int (nI a)), (2, .int (nI b)), (3, .int (nI x))]) G dX0_onTree_100 hl (q := 6) rfl (by decide) (by decide) rfl (fun ls hl => ?_)
              refine lv_goto (tgt := 12) G.1 G.2.1 dX0_onTree_103 (by decide) ?_
              have h5 := otI_y hc ht hI (by omega)
              rw [if_neg (Nat.not_lt.mpr c_74)] at h5
              exact ih (k + 1) _ _ _ (by omega) (by omega) h5 ls (lv_sub hl [3, 4, 5, 6, 1, 2, 0] rfl)
            · refine lv_aload_n G.1 G.2.1 dX0_onTree_77 rfl (lv_at hl 0 rfl) ?_
              refine g_st G I dX0_onTree_78 ?_
              refine lv_iload G.1 G.2.1 dX0_onTree_81 (lv_at hl 4 rfl) ?_
              refine r_st G I (by omega) dX0_onTree_83 ?_
              refine lv_goto (tgt := 89) G.1 G.2.1 dX0_onTree_84 (by decide) ?_
              refine lv_istore (lv' := [(5, .int (nI (st y))), (0, .ref (h 0)), (1, .int (nI a)), (2, .int (nI b)), (3, .int (nI x)), (4, .int (nI y)), (6, .int (nI k))]) G.1 G.2.1 dX0_onTree_89 hl (by decide) rfl (fun ls hl => ?_)
              refine lv_aload_n G.1 G.2.1 dX0_onTree_91 rfl (lv_at hl 1 rfl) ?_
              refine g_ab G I dX0_onTree_92 ?_
              refine lv_iload G.1 G.2.1 dX0_onTree_95 (lv_at hl 5 rfl) ?_
              refine r_ab G I (by omega) dX0_onTree_97 ?_
              refine lv_istore (lv' := [(4, .int (nI (ab y))), (5, .int (nI (st y))), (0, .ref (h 0)), (1, .int (nI a)), (2, .int (nI b)), (3, .int (nI x)), (6, .int (nI k))]) G.1 G.2.1 dX0_onTree_98 hl (by decide) rfl (fun ls hl => ?_)
              refine n_iinc (b := 1) (lv' := [(6, .int (nI (k + 1))), (4, .int (nI (ab y))), (5, .int (nI (st y))), (0, .ref (h 0)), (1, .int (nI a)), (2, .int (nI b)), (3, .int (nI x))]) G dX0_onTree_100 hl (q := 6) rfl (by decide) (by decide) rfl (fun ls hl => ?_)
              refine lv_goto (tgt := 12) G.1 G.2.1 dX0_onTree_103 (by decide) ?_
              have h5 := otI_y hc ht hI (by omega)
              rw [if_pos c_74] at h5
              exact ih (k + 1) _ _ _ (by omega) (by omega) h5 ls (lv_sub hl [3, 4, 5, 6, 1, 2, 0] rfl)
          · have htx := ht x (by omega) hx
            have h1 := htx.1
            have h2 := htx.2.1
            refine lv_aload_n G.1 G.2.1 dX0_onTree_31 rfl (lv_at hl 0 rfl) ?_
            refine g_st G I dX0_onTree_32 ?_
            refine lv_iload_n G.1 G.2.1 dX0_onTree_35 rfl (lv_at hl 3 rfl) ?_
            refine r_st G I (by omega) dX0_onTree_36 ?_
            refine lv_iload G.1 G.2.1 dX0_onTree_37 (lv_at hl 5 rfl) ?_
            refine n_icmp_ge (tgt := 51) G dX0_onTree_39 (by decide) (by omega) (by omega) (fun c_39 => ?_) (fun c_39 => ?_)
            · refine lv_iload G.1 G.2.1 dX0_onTree_51 (lv_at hl 5 rfl) ?_
              refine lv_istore (lv' := [(5, .int (nI v)), (0, .ref (h 0)), (1, .int (nI a)), (2, .int (nI b)), (3, .int (nI x)), (4, .int (nI y)), (6, .int (nI k))]) G.1 G.2.1 dX0_onTree_53 hl (by decide) rfl (fun ls hl => ?_)
              refine lv_aload_n G.1 G.2.1 dX0_onTree_55 rfl (lv_at hl 1 rfl) ?_
              refine g_ab G I dX0_onTree_56 ?_
              refine lv_iload_n G.1 G.2.1 dX0_onTree_59 rfl (lv_at hl 4 rfl) ?_
              refine r_ab G I (by omega) dX0_onTree_60 ?_
              refine lv_istore_n (lv' := [(3, .int (nI (ab x))), (5, .int (nI v)), (0, .ref (h 0)), (1, .int (nI a)), (2, .int (nI b)), (4, .int (nI y)), (6, .int (nI k))]) G.1 G.2.1 dX0_onTree_61 rfl hl (by decide) rfl (fun ls hl => ?_)
              refine lv_goto (tgt := 100) G.1 G.2.1 dX0_onTree_62 (by decide) ?_
              refine n_iinc (b := 1) (lv' := [(6, .int (nI (k + 1))), (3, .int (nI (ab x))), (5, .int (nI v)), (0, .ref (h 0)), (1, .int (nI a)), (2, .int (nI b)), (4, .int (nI y))]) G dX0_onTree_100 hl (q := 6) rfl (by decide) (by decide) rfl (fun ls hl => ?_)
              refine lv_goto (tgt := 12) G.1 G.2.1 dX0_onTree_103 (by decide) ?_
              have h5 := otI_x ht hI c_28
              rw [if_neg (Nat.not_lt.mpr c_39)] at h5
              exact ih (k + 1) _ _ _ (by omega) (by omega) h5 ls (lv_sub hl [3, 4, 5, 1, 6, 2, 0] rfl)
            · refine lv_aload_n G.1 G.2.1 dX0_onTree_42 rfl (lv_at hl 0 rfl) ?_
              refine g_st G I dX0_onTree_43 ?_
              refine lv_iload_n G.1 G.2.1 dX0_onTree_46 rfl (lv_at hl 3 rfl) ?_
              refine r_st G I (by omega) dX0_onTree_47 ?_
              refine lv_goto (tgt := 53) G.1 G.2.1 dX0_onTree_48 (by decide) ?_
              refine lv_istore (lv' := [(5, .int (nI (st x))), (0, .ref (h 0)), (1, .int (nI a)), (2, .int (nI b)), (3, .int (nI x)), (4, .int (nI y)), (6, .int (nI k))]) G.1 G.2.1 dX0_onTree_53 hl (by decide) rfl (fun ls hl => ?_)
              refine lv_aload_n G.1 G.2.1 dX0_onTree_55 rfl (lv_at hl 1 rfl) ?_
              refine g_ab G I dX0_onTree_56 ?_
              refine lv_iload_n G.1 G.2.1 dX0_onTree_59 rfl (lv_at hl 4 rfl) ?_
              refine r_ab G I (by omega) dX0_onTree_60 ?_
              refine lv_istore_n (lv' := [(3, .int (nI (ab x))), (5, .int (nI (st x))), (0, .ref (h 0)), (1, .int (nI a)), (2, .int (nI b)), (4, .int (nI y)), (6, .int (nI k))]) G.1 G.2.1 dX0_onTree_61 rfl hl (by decide) rfl (fun ls hl => ?_)
              refine lv_goto (tgt := 100) G.1 G.2.1 dX0_onTree_62 (by decide) ?_
              refine n_iinc (b := 1) (lv' := [(6, .int (nI (k + 1))), (3, .int (nI (ab x))), (5, .int (nI (st x))), (0, .ref (h 0)), (1, .int (nI a)), (2, .int (nI b)), (4, .int (nI y))]) G dX0_onTree_100 hl (q := 6) rfl (by decide) (by decide) rfl (fun ls hl => ?_)
              refine lv_goto (tgt := 12) G.1 G.2.1 dX0_onTree_103 (by decide) ?_
              have h5 := otI_x ht hI c_28
              rw [if_pos c_39] at h5
              exact ih (k + 1) _ _ _ (by omega) (by omega) h5 ls (lv_sub hl [3, 4, 5, 1, 6, 2, 0] rfl)
  refine lv_iload_n G.1 G.2.1 dX0_onTree_0 rfl (lv_at hl 1 rfl) ?_
  refine lv_istore_n (lv' := [(3, .int (nI a)), (0, .ref (h 0)), (1, .int (nI a)), (2, .int (nI b))]) G.1 G.2.1 dX0_onTree_1 rfl hl (by decide) rfl (fun ls hl => ?_)
  refine lv_iload_n G.1 G.2.1 dX0_onTree_2 rfl (lv_at hl 3 rfl) ?_
  refine lv_istore (lv' := [(4, .int (nI b)), (3, .int (nI a)), (0, .ref (h 0)), (1, .int (nI a)), (2, .int (nI b))]) G.1 G.2.1 dX0_onTree_3 hl (by decide) rfl (fun ls hl => ?_)
  refine n_ldc G dX0_onTree_5 ?_
  refine lv_istore (lv' := [(5, .int (nI 1048576)), (4, .int (nI b)), (3, .int (nI a)), (0, .ref (h 0)), (1, .int (nI a)), (2, .int (nI b))]) G.1 G.2.1 dX0_onTree_7 hl (by decide) rfl (fun ls hl => ?_)
  refine n_iconst (a := 0) G dX0_onTree_9 (by decide) ?_
  refine lv_istore (lv' := [(6, .int (nI 0)), (5, .int (nI 1048576)), (4, .int (nI b)), (3, .int (nI a)), (0, .ref (h 0)), (1, .int (nI a)), (2, .int (nI b))]) G.1 G.2.1 dX0_onTree_10 hl (by decide) rfl (fun ls hl => ?_)
  exact loop 13 0 a b 1048576 (by omega) (by omega) (otI_0 hc ha hb) ls (lv_sub hl [4, 5, 6, 3, 2, 1, 0] rfl)
set_option maxHeartbeats 4000000 in
set_option maxRecDepth 100000 in
theorem met_pairs (l : Launch) (D : va_G) (dA dB : ClassId) (h : Nat → Nat) {cap rm : Nat → Nat} {F : Nat} {ff : Nat → Int32} {ln jn ti ab st : Nat → Nat} (hc : CutOK cap) (z : Int32) : Met l yX0_pairsAtLeast (ws_ yX0_pairsAtLeast cX0_pairsAtLeast 6 (some .int)) (rmL 4) (va_Pc [.ref (h 0), .int z] (cfU D dA dB h (cap, rm, F, ff, ln, jn, ti, ab, st))) (va_Qi (fun r (_ : CFS) => palP cap z r) (fun u t => cfU D dA dB h (cap, u) t) (cfA h)) 0 0 (cfA h) := by
  refine cf_meti (own := RX0) (f := fun u : CFS => (cap, u)) (by decide) rfl (Nat.le_of_ble_eq_true rfl) ?_
  intro p e s m args below meth c Q ls G I hret hl
  have hl : lv_has ls 6 [(0, .ref (h 0)), (1, .int z)] := hl
  refine lv_aload_n G.1 G.2.1 dX0_pairsAtLeast_0 rfl (lv_at hl 0 rfl) ?_
  refine cf_mv (rest := []) G I (met_grow l D dA dB h (cap := cap) (rm := rm) (F := F) (ff := ff) (ln := ln) (jn := jn) (ti := ti) (ab := ab) (st := st) hc) cw_grow (by decide) rfl hl.1 (Nat.le_of_ble_eq_true rfl) rfl dX0_pairsAtLeast_1 (fun u_1 H locs hr_1 I _ _ => ?_)
  obtain ⟨rm_1, F_1, ff_1, ln_1, jn_1, ti_1, ab_1, st_1⟩ := u_1
  have I : cfI D dA dB h (cfA h) s H locs (cap, rm_1, F_1, ff_1, ln_1, jn_1, ti_1, ab_1, st_1) := I
  have ht : treeOK cap ab_1 st_1 := hr_1
  refine n_iconst (a := 0) G dX0_pairsAtLeast_4 (by decide) ?_
  refine lv_istore_n (lv' := [(2, .int (nI 0)), (0, .ref (h 0)), (1, .int z)]) G.1 G.2.1 dX0_pairsAtLeast_5 rfl hl (by decide) rfl (fun ls hl => ?_)
  refine n_iconst (a := 0) G dX0_pairsAtLeast_6 (by decide) ?_
  refine lv_istore_n (lv' := [(3, .int (nI 0)), (2, .int (nI 0)), (0, .ref (h 0)), (1, .int z)]) G.1 G.2.1 dX0_pairsAtLeast_7 rfl hl (by decide) rfl (fun ls hl => ?_)
  have loop : ∀ (n a : Nat), a ≤ 6 → 7 ≤ a + n → ∀ (ls : Array Slot), lv_has ls 6 [(0, .ref (h 0)), (1, .int z), (2, .int (nI (palA cap z a))), (3, .int (nI a))] → W p l e (rmL 4) s m args below meth c H locs 0 0 Q (F0 m 8 ls []) := by
    intro n
    induction n with
    | zero =>
      intro a h1 h2
      exact absurd h2 (by omega)
    | succ n ih =>
      intro a ha hn ls hl
      refine lv_iload_n G.1 G.2.1 dX0_pairsAtLeast_8 rfl (lv_at hl 3 rfl) ?_
      refine n_bipush (a := 6) G dX0_pairsAtLeast_9 (by decide) ?_
      refine n_icmp_ge (tgt := 61) G dX0_pairsAtLeast_11 (by decide) (by omega) (by omega) (fun c_11 => ?_) (fun c_11 => ?_)
      · refine lv_iload_n G.1 G.2.1 dX0_pairsAtLeast_61 rfl (lv_at hl 2 rfl) ?_
        have e6 : a = 6 := by omega
        rw [e6, palA_6]
        exact hret _ _ _ _ _ (rm_1, F_1, ff_1, ln_1, jn_1, ti_1, ab_1, st_1) dX0_pairsAtLeast_62 rfl I
      · refine lv_iload_n G.1 G.2.1 dX0_pairsAtLeast_14 rfl (lv_at hl 3 rfl) ?_
        refine n_iconst (a := 1) G dX0_pairsAtLeast_15 (by decide) ?_
        refine n_iadd G dX0_pairsAtLeast_16 ?_
        refine lv_istore (lv' := [(4, .int (nI (a + 1))), (0, .ref (h 0)), (1, .int z), (2, .int (nI (palA cap z a))), (3, .int (nI a))]) G.1 G.2.1 dX0_pairsAtLeast_17 hl (by decide) rfl (fun ls hl => ?_)
        have inner : ∀ (n' b : Nat), b ≤ 6 → a < b → 7 ≤ b + n' → ∀ (ls : Array Slot), lv_has ls 6 [(0, .ref (h 0)), (1, .int z), (2, .int (nI (palA cap z a + sm b (fun b => pg cap z a b)))), (3, .int (nI a)), (4, .int (nI b))] → W p l e (rmL 4) s m args below meth c H locs 0 0 Q (F0 m 19 ls []) := by
          intro n'
          induction n' with
          | zero =>
            intro b h1 h2 h3
            exact absurd h3 (by omega)
          | succ n' ih' =>
            intro b hb hab hn' ls hl
            refine lv_iload G.1 G.2.1 dX0_pairsAtLeast_19 (lv_at hl 4 rfl) ?_
            refine n_bipush (a := 6) G dX0_pairsAtLeast_21 (by decide) ?_
            refine n_icmp_ge (tgt := 55) G dX0_pairsAtLeast_23 (by decide) (by omega) (by omega) (fun c_23 => ?_) (fun c_23 => ?_)
            · refine n_iinc (b := 1) (lv' := [(3, .int (nI (a + 1))), (0, .ref (h 0)), (1, .int z), (2, .int (nI (palA cap z a + sm b (fun b => pg cap z a b)))), (4, .int (nI b))]) G dX0_pairsAtLeast_55 hl (q := 3) rfl (by decide) (by decide) rfl (fun ls hl => ?_)
              refine lv_goto (tgt := 8) G.1 G.2.1 dX0_pairsAtLeast_58 (by decide) ?_
              have e6 : b = 6 := by omega
              rw [e6] at hl
              refine ih (a + 1) (by omega) (by omega) ls ?_
              rw [palA_s]
              exact (lv_sub hl [1, 2, 3, 0] rfl)
            · refine lv_aload_n G.1 G.2.1 dX0_pairsAtLeast_26 rfl (lv_at hl 0 rfl) ?_
              refine lv_iload_n G.1 G.2.1 dX0_pairsAtLeast_27 rfl (lv_at hl 3 rfl) ?_
              refine lv_iload G.1 G.2.1 dX0_pairsAtLeast_28 (lv_at hl 4 rfl) ?_
              refine cf_ro (rest := []) G I (met_onTree l D dA dB h (cap := cap) (rm := rm_1) (F := F_1) (ff := ff_1) (ln := ln_1) (jn := jn_1) (ti := ti_1) (ab := ab_1) (st := st_1) hc ht a b (by omega) (by omega)) cw_onTree (by decide) rfl hl.1 (Nat.le_of_ble_eq_true rfl) rfl dX0_pairsAtLeast_30 (fun r_30 hr_30 => ?_)
              subst hr_30
              refine lv_istore (lv' := [(5, .int (nI (lx cap a b))), (0, .ref (h 0)), (1, .int z), (2, .int (nI (palA cap z a + sm b (fun b => pg cap z a b)))), (3, .int (nI a)), (4, .int (nI b))]) G.1 G.2.1 dX0_pairsAtLeast_33 hl (by decide) rfl (fun ls hl => ?_)
              refine lv_iload_n G.1 G.2.1 dX0_pairsAtLeast_35 rfl (lv_at hl 3 rfl) ?_
              refine lv_iload G.1 G.2.1 dX0_pairsAtLeast_36 (lv_at hl 0 rfl) ?_
              refine lv_iload_n G.1 G.2.1 dX0_pairsAtLeast_38 rfl (lv_at hl 2 rfl) ?_
              refine lv_icmp_lt (tgt := 46) G.1 G.2.1 dX0_pairsAtLeast_39 (by decide) (fun c_39 => ?_) (fun c_39 => ?_)
              · refine n_iconst (a := 0) G dX0_pairsAtLeast_46 (by decide) ?_
                refine n_iadd G dX0_pairsAtLeast_47 ?_
                refine lv_istore_n (lv' := [(2, .int (nI ((palA cap z a + sm b (fun b => pg cap z a b)) + 0))), (5, .int (nI (lx cap a b))), (0, .ref (h 0)), (1, .int z), (3, .int (nI a)), (4, .int (nI b))]) G.1 G.2.1 dX0_pairsAtLeast_48 rfl hl (by decide) rfl (fun ls hl => ?_)
                refine n_iinc (b := 1) (lv' := [(4, .int (nI (b + 1))), (2, .int (nI ((palA cap z a + sm b (fun b => pg cap z a b)) + 0))), (5, .int (nI (lx cap a b))), (0, .ref (h 0)), (1, .int z), (3, .int (nI a))]) G dX0_pairsAtLeast_49 hl (q := 5) rfl (by decide) (by decide) rfl (fun ls hl => ?_)
                refine lv_goto (tgt := 19) G.1 G.2.1 dX0_pairsAtLeast_52 (by decide) ?_
                refine ih' (b + 1) (by omega) (by omega) (by omega) ls ?_
                rw [pg_0 hab c_39, ← Nat.add_assoc]
                exact (lv_sub hl [3, 4, 1, 5, 0] rfl)
              · refine n_iconst (a := 1) G dX0_pairsAtLeast_42 (by decide) ?_
                refine lv_goto (tgt := 47) G.1 G.2.1 dX0_pairsAtLeast_43 (by decide) ?_
                refine n_iadd G dX0_pairsAtLeast_47 ?_
                refine lv_istore_n (lv' := [(2, .int (nI ((palA cap z a + sm b (fun b => pg cap z a b)) + 1))), (5, .int (nI (lx cap a b))), (0, .ref (h 0)), (1, .int z), (3, .int (nI a)), (4, .int (nI b))]) G.1 G.2.1 dX0_pairsAtLeast_48 rfl hl (by decide) rfl (fun ls hl => ?_)
                refine n_iinc (b := 1) (lv' := [(4, .int (nI (b + 1))), (2, .int (nI ((palA cap z a + sm b (fun b => pg cap z a b)) + 1))), (5, .int (nI (lx cap a b))), (0, .ref (h 0)), (1, .int z), (3, .int (nI a))]) G dX0_pairsAtLeast_49 hl (q := 5) rfl (by decide) (by decide) rfl (fun ls hl => ?_)
                refine lv_goto (tgt := 19) G.1 G.2.1 dX0_pairsAtLeast_52 (by decide) ?_
                refine ih' (b + 1) (by omega) (by omega) (by omega) ls ?_
                rw [pg_1 hab c_39, ← Nat.add_assoc]
                exact (lv_sub hl [3, 4, 1, 5, 0] rfl)
        refine inner 7 (a + 1) (by omega) (by omega) (by omega) ls ?_
        rw [pg_start, Nat.add_zero]
        exact (lv_sub hl [1, 2, 3, 4, 0] rfl)
  exact loop 7 0 (by omega) (by omega) ls (lv_sub hl [2, 3, 1, 0] rfl)
set_option maxHeartbeats 4000000 in
set_option maxRecDepth 100000 in
theorem met_group (l : Launch) (D : va_G) (dA dB : ClassId) (h : Nat → Nat) {cap rm : Nat → Nat} {F : Nat} {ff : Nat → Int32} {ln jn ti ab st : Nat → Nat} (hc : CutOK cap) (a z : Int32) : Met l yX0_group (ws_ yX0_group cX0_group 6 (some .int)) (rmL 4) (va_Pc [.ref (h 0), .int a, .int z] (cfU D dA dB h (cap, rm, F, ff, ln, jn, ti, ab, st))) (va_Qi (fun r (_ : CFS) => grpP cap a z r) (fun u t => cfU D dA dB h (cap, u) t) (cfA h)) 0 0 (cfA h) := by
  refine cf_meti (own := RX0) (f := fun u : CFS => (cap, u)) (by decide) rfl (Nat.le_of_ble_eq_true rfl) ?_
  intro p e s m args below meth c Q ls G I hret hl
  have hl : lv_has ls 6 [(0, .ref (h 0)), (1, .int a), (2, .int z)] := hl
  refine lv_iload_n G.1 G.2.1 dX0_group_0 rfl (lv_at hl 1 rfl) ?_
  refine c_isPlace G (by decide) hl.1 (Nat.le_of_ble_eq_true rfl) dX0_group_1 ?_
  refine n_ifne (tgt := 9) G dX0_group_4 (by decide) (fun c_4 => ?_) (fun c_4 => ?_)
  · obtain ⟨i, hi, rfl⟩ := plc_of c_4
    refine lv_aload_n G.1 G.2.1 dX0_group_9 rfl (lv_at hl 0 rfl) ?_
    refine cf_mv (rest := []) G I (met_grow l D dA dB h (cap := cap) (rm := rm) (F := F) (ff := ff) (ln := ln) (jn := jn) (ti := ti) (ab := ab) (st := st) hc) cw_grow (by decide) rfl hl.1 (Nat.le_of_ble_eq_true rfl) rfl dX0_group_10 (fun u_10 H locs hr_10 I _ _ => ?_)
    obtain ⟨rm_10, F_10, ff_10, ln_10, jn_10, ti_10, ab_10, st_10⟩ := u_10
    have I : cfI D dA dB h (cfA h) s H locs (cap, rm_10, F_10, ff_10, ln_10, jn_10, ti_10, ab_10, st_10) := I
    have ht : treeOK cap ab_10 st_10 := hr_10
    refine n_iconst (a := 1) G dX0_group_13 (by decide) ?_
    refine lv_iload_n G.1 G.2.1 dX0_group_14 rfl (lv_at hl 1 rfl) ?_
    refine n_ishl G (by omega) dX0_group_15 ?_
    refine lv_istore_n (lv' := [(3, .int (nI (2 ^ i))), (0, .ref (h 0)), (1, .int (nI i)), (2, .int z)]) G.1 G.2.1 dX0_group_16 rfl hl (by decide) rfl (fun ls hl => ?_)
    refine n_iconst (a := 0) G dX0_group_17 (by decide) ?_
    refine lv_istore (lv' := [(4, .int (nI 0)), (3, .int (nI (2 ^ i))), (0, .ref (h 0)), (1, .int (nI i)), (2, .int z)]) G.1 G.2.1 dX0_group_18 hl (by decide) rfl (fun ls hl => ?_)
    have loop : ∀ (n b M : Nat), b ≤ 6 → 7 ≤ b + n → gI cap (nI i) z b M → ∀ (ls : Array Slot), lv_has ls 6 [(0, .ref (h 0)), (1, .int (nI i)), (2, .int z), (3, .int (nI M)), (4, .int (nI b))] → W p l e (rmL 4) s m args below meth c H locs 0 0 Q (F0 m 20 ls []) := by
      intro n
      induction n with
      | zero =>
        intro b M h1 h2
        exact absurd h2 (by omega)
      | succ n ih =>
        intro b M hb hn hI ls hl
        refine lv_iload G.1 G.2.1 dX0_group_20 (lv_at hl 4 rfl) ?_
        refine n_bipush (a := 6) G dX0_group_22 (by decide) ?_
        refine n_icmp_ge (tgt := 65) G dX0_group_24 (by decide) (by omega) (by omega) (fun c_24 => ?_) (fun c_24 => ?_)
        · refine lv_iload_n G.1 G.2.1 dX0_group_65 rfl (lv_at hl 3 rfl) ?_
          exact hret _ _ _ _ _ (rm_10, F_10, ff_10, ln_10, jn_10, ti_10, ab_10, st_10) dX0_group_66 (gI_end hI (by omega)) I
        · refine lv_aload_n G.1 G.2.1 dX0_group_27 rfl (lv_at hl 0 rfl) ?_
          refine lv_iload_n G.1 G.2.1 dX0_group_28 rfl (lv_at hl 1 rfl) ?_
          refine lv_iload G.1 G.2.1 dX0_group_29 (lv_at hl 4 rfl) ?_
          refine cf_ro (rest := []) G I (met_onTree l D dA dB h (cap := cap) (rm := rm_10) (F := F_10) (ff := ff_10) (ln := ln_10) (jn := jn_10) (ti := ti_10) (ab := ab_10) (st := st_10) hc ht i b (by omega) (by omega)) cw_onTree (by decide) rfl hl.1 (Nat.le_of_ble_eq_true rfl) rfl dX0_group_31 (fun r_31 hr_31 => ?_)
          subst hr_31
          refine lv_istore (lv' := [(5, .int (nI (lx cap i b))), (0, .ref (h 0)), (1, .int (nI i)), (2, .int z), (3, .int (nI M)), (4, .int (nI b))]) G.1 G.2.1 dX0_group_34 hl (by decide) rfl (fun ls hl => ?_)
          refine lv_iload_n G.1 G.2.1 dX0_group_36 rfl (lv_at hl 4 rfl) ?_
          refine lv_iload G.1 G.2.1 dX0_group_37 (lv_at hl 5 rfl) ?_
          refine lv_iload_n G.1 G.2.1 dX0_group_39 rfl (lv_at hl 2 rfl) ?_
          refine n_icmp_eq (tgt := 56) G dX0_group_40 (by decide) (by omega) (by omega) (fun c_40 => ?_) (fun c_40 => ?_)
          · refine n_iconst (a := 0) G dX0_group_56 (by decide) ?_
            refine n_ior G dX0_group_57 ?_
            refine lv_istore_n (lv' := [(3, .int (nI (M ||| 0))), (5, .int (nI (lx cap i b))), (0, .ref (h 0)), (1, .int (nI i)), (2, .int z), (4, .int (nI b))]) G.1 G.2.1 dX0_group_58 rfl hl (by decide) rfl (fun ls hl => ?_)
            refine n_iinc (b := 1) (lv' := [(4, .int (nI (b + 1))), (3, .int (nI (M ||| 0))), (5, .int (nI (lx cap i b))), (0, .ref (h 0)), (1, .int (nI i)), (2, .int z)]) G dX0_group_59 hl (q := 5) rfl (by decide) (by decide) rfl (fun ls hl => ?_)
            refine lv_goto (tgt := 20) G.1 G.2.1 dX0_group_62 (by decide) ?_
            exact ih (b + 1) _ (by omega) (by omega) (by first | exact gx_skip1 hI (by omega) c_40 | exact gx_skip2 hI hi (by omega) c_40 c_46) ls (lv_sub hl [3, 4, 5, 1, 0] rfl)
          · refine lv_iload G.1 G.2.1 dX0_group_43 (lv_at hl 0 rfl) ?_
            refine lv_iload_n G.1 G.2.1 dX0_group_45 rfl (lv_at hl 3 rfl) ?_
            refine lv_icmp_lt (tgt := 56) G.1 G.2.1 dX0_group_46 (by decide) (fun c_46 => ?_) (fun c_46 => ?_)
            · refine n_iconst (a := 0) G dX0_group_56 (by decide) ?_
              refine n_ior G dX0_group_57 ?_
              refine lv_istore_n (lv' := [(3, .int (nI (M ||| 0))), (5, .int (nI (lx cap i b))), (0, .ref (h 0)), (1, .int (nI i)), (2, .int z), (4, .int (nI b))]) G.1 G.2.1 dX0_group_58 rfl hl (by decide) rfl (fun ls hl => ?_)
              refine n_iinc (b := 1) (lv' := [(4, .int (nI (b + 1))), (3, .int (nI (M ||| 0))), (5, .int (nI (lx cap i b))), (0, .ref (h 0)), (1, .int (nI i)), (2, .int z)]) G dX0_group_59 hl (q := 5) rfl (by decide) (by decide) rfl (fun ls hl => ?_)
              refine lv_goto (tgt := 20) G.1 G.2.1 dX0_group_62 (by decide) ?_
              exact ih (b + 1) _ (by omega) (by omega) (by first | exact gx_skip1 hI (by omega) c_40 | exact gx_skip2 hI hi (by omega) c_40 c_46) ls (lv_sub hl [3, 4, 5, 1, 0] rfl)
            · refine n_iconst (a := 1) G dX0_group_49 (by decide) ?_
              refine lv_iload G.1 G.2.1 dX0_group_50 (lv_at hl 5 rfl) ?_
              refine n_ishl G (by omega) dX0_group_52 ?_
              refine lv_goto (tgt := 57) G.1 G.2.1 dX0_group_53 (by decide) ?_
              refine n_ior G dX0_group_57 ?_
              refine lv_istore_n (lv' := [(3, .int (nI (M ||| (2 ^ b)))), (5, .int (nI (lx cap i b))), (0, .ref (h 0)), (1, .int (nI i)), (2, .int z), (4, .int (nI b))]) G.1 G.2.1 dX0_group_58 rfl hl (by decide) rfl (fun ls hl => ?_)
              refine n_iinc (b := 1) (lv' := [(4, .int (nI (b + 1))), (3, .int (nI (M ||| (2 ^ b)))), (5, .int (nI (lx cap i b))), (0, .ref (h 0)), (1, .int (nI i)), (2, .int z)]) G dX0_group_59 hl (q := 5) rfl (by decide) (by decide) rfl (fun ls hl => ?_)
              refine lv_goto (tgt := 20) G.1 G.2.1 dX0_group_62 (by decide) ?_
              exact ih (b + 1) _ (by omega) (by omega) (gx_in hI hi (by omega) c_40 c_46) ls (lv_sub hl [3, 4, 5, 1, 0] rfl)
    exact loop 7 0 _ (by omega) (by omega) (gI_0 hi) ls (lv_sub hl [2, 3, 4, 1, 0] rfl)
  · refine n_iconst (a := 0) G dX0_group_7 (by decide) ?_
    exact hret _ _ _ _ _ (rm, F, ff, ln, jn, ti, ab, st) dX0_group_8 (Or.inr ⟨c_4, rfl⟩) I
end
section
set_option maxRecDepth 100000
theorem ra_uniq {D : va_G} {cl : List vw_C} {tys : List (ClassId × FieldType)} {s : State} (hK : va_K D cl tys s) {i j : Nat} {c1 c2 : ClassId} (h1 : tys[i]? = some (c1, .int)) (h2 : tys[j]? = some (c2, .int)) : c1 = c2 := by
  have a : s.vm.findClass ("[" ++ FieldType.int.toString) = some c1 := (hK.2 i _ h1).2
  have b : s.vm.findClass ("[" ++ FieldType.int.toString) = some c2 := (hK.2 j _ h2).2
  rw [a] at b
  exact Option.some.inj b
theorem ra_uniqB {D : va_G} {cl : List vw_C} {tys : List (ClassId × FieldType)} {s : State} (hK : va_K D cl tys s) {i j : Nat} {c1 c2 : ClassId} (h1 : tys[i]? = some (c1, .byte)) (h2 : tys[j]? = some (c2, .byte)) : c1 = c2 := by
  have a : s.vm.findClass ("[" ++ FieldType.byte.toString) = some c1 := (hK.2 i _ h1).2
  have b : s.vm.findClass ("[" ++ FieldType.byte.toString) = some c2 := (hK.2 j _ h2).2
  rw [a] at b
  exact Option.some.inj b
/-- a new CutFinder's arrays -/
def cf0 : CF := (fun _ => 0, fun _ => 0, 0, fun _ => 0, fun _ => 0, fun _ => 0, fun _ => 0, fun _ => 0, fun _ => 0)
abbrev cfNew (q : Nat) : va_W := [(q, .inr (0, [.null, .null, .int 0, .null, .null, .null, .null, .null, .null]))]
abbrev mdNew (q : Nat) : va_W := [(q, .inr (1, [.null]))]
abbrev rmI (c n : Nat) : Room := { frames := 1, cells := c, slots := n, locals := 12 }
set_option maxHeartbeats 4000000 in
set_option maxRecDepth 100000 in
theorem met_init (l : Launch) (D : va_G) (q0 sz : Nat) : Met l yX0_init (ws_ yX0_init cX0_init 1 none) (rmI 8 140) (va_Pc [.ref q0] (fun U => U.heap.size = sz ∧ va_P D vwCl (cfNew q0) U.heap ∧ va_K D vwCl [] U ∧ va_D (fun _ => True) (cfNew q0))) (va_Qv (fun _ : Unit => True) (fun _ t => ∃ (h : Nat → Nat) (dA dB : ClassId), h 0 = q0 ∧ va_K D vwCl (tysAB dA dB) t ∧ va_P D vwCl (cfW h dA dB cf0) t.heap ∧ va_D (va_A (cfNew q0) sz) (cfW h dA dB cf0)) (va_A (cfNew q0) sz)) 8 140 (va_A (cfNew q0) sz) := by
  refine Met.ofW (cc := cX0_init) (maxL := 1) (ret := none) (by decide) rfl ?_
  intro p e s m args below meth c s₁ B hml hv
  obtain ⟨rfl, hsz, hP, hK, hD0⟩ := hv
  have hx := B.exec
  have hb := B.bytes
  have hr := B.returns
  have hts := atoms_spec (ws := ws_ yX0_init cX0_init 1 none) B.pre
  have hts : ∀ w ∈ lw_all, w.before _ s = true := fun w h => hts w (List.mem_cons_of_mem _ h)
  have hown : s.vm.findClass RX0 = some m.cls := findClass_of_methodNamed B.named
  have hlocks := B.notSynchronized
  have hin : meth.name = "<init>" := (name_of_methodNamed B.named B.method).1
  subst hsz
  have hD := hD0.self (sz := s.heap.size)
  generalize hAe : va_A (cfNew q0) s.heap.size = A at hD ⊢
  have hA : ∀ q : Nat, s.heap.size ≤ q → A q := fun q h => by rw [← hAe]; exact Or.inr h
  have hS : va_S A s.heap s.heap [] := va_S.rf
  have hl := lv_entry ([.ref q0]) (n := 1) (Nat.le_of_ble_eq_true rfl)
  rw [lg_entry_eq]
  generalize (lg_sl ([.ref q0]) ++ List.replicate (1 - (lg_sl ([.ref q0])).length) Slot.unset).toArray = ls at hl ⊢
  have hl : lv_has ls 1 [(0, .ref q0)] := hl
  refine lv_aload_n hx hb dX0_init_0 rfl (lv_at hl 0 rfl) ?_
  refine W.objInit hx hb hown (hts _ q21) (hts _ q22) (hts _ q23) rfl (by rw [hml]; exact hl.1) rfl dX0_init_1 (Nat.le_of_ble_eq_true rfl) (Nat.le_of_ble_eq_true rfl) ?_
  refine W.eq (g2 := F0 m 4 ls []) rfl ?_
  refine lv_aload_n hx hb dX0_init_4 rfl (lv_at hl 0 rfl) ?_
  refine lv_bipush (v := 36) hx hb dX0_init_5 (by decide) ?_
  refine va_newa (atype := .int) (ty := .int) (N' := 36) (a0 := (36, .inl (fun _ => 0))) hx hb (hts _ q52) rfl hK hP hD hS hA (fun _ => rfl) (by decide) (by decide) (by decide) (Nat.le_of_ble_eq_true rfl) (Nat.le_of_ble_eq_true rfl) dX0_init_7 (fun q1 c1 H hK hP hD hS => ?_)
  refine W.widen (k := 1) (n := 36) (Nat.le_of_ble_eq_true rfl) (Nat.le_of_ble_eq_true rfl) ?_
  have hP : va_P D vwCl [(q0, .inr (0, [.null, .null, .int 0, .null, .null, .null, .null, .null, .null])), (q1, .inl (c1, 36, .inl (fun _ => 0)))] H := hP
  have hD : va_D A [(q0, .inr (0, [.null, .null, .int 0, .null, .null, .null, .null, .null, .null])), (q1, .inl (c1, 36, .inl (fun _ => 0)))] := hD
  refine va_putF (D := D) (ci := 0) (v := .ref q1) (ty := .array .int) (C := RX0) (T := TX0) (N := 9) hx hb hts in_X0 tyX0 tyX0_ok nmX0 hown hK hP hD hS 0 rfl rfl 0 (by decide) (hts _ q24) (fun _ h9 => h9) rfl hin rfl (by decide +kernel) rfl rfl (Nat.le_of_ble_eq_true rfl) dX0_init_9 (fun H locs hP hD hS => ?_)
  have hP : va_P D vwCl [(q0, .inr (0, [.ref q1, .null, .int 0, .null, .null, .null, .null, .null, .null])), (q1, .inl (c1, 36, .inl (fun _ => 0)))] H := hP
  have hD : va_D A [(q0, .inr (0, [.ref q1, .null, .int 0, .null, .null, .null, .null, .null, .null])), (q1, .inl (c1, 36, .inl (fun _ => 0)))] := hD
  refine lv_aload_n hx hb dX0_init_12 rfl (lv_at hl 0 rfl) ?_
  refine lv_bipush (v := 36) hx hb dX0_init_13 (by decide) ?_
  refine va_newa (atype := .int) (ty := .int) (N' := 36) (a0 := (36, .inl (fun _ => 0))) hx hb (hts _ q52) rfl hK hP hD hS hA (fun _ => rfl) (by decide) (by decide) (by decide) (Nat.le_of_ble_eq_true rfl) (Nat.le_of_ble_eq_true rfl) dX0_init_15 (fun q2 c2 H hK hP hD hS => ?_)
  refine W.widen (k := 2) (n := 72) (Nat.le_of_ble_eq_true rfl) (Nat.le_of_ble_eq_true rfl) ?_
  have hP : va_P D vwCl [(q0, .inr (0, [.ref q1, .null, .int 0, .null, .null, .null, .null, .null, .null])), (q1, .inl (c1, 36, .inl (fun _ => 0))), (q2, .inl (c2, 36, .inl (fun _ => 0)))] H := hP
  have hD : va_D A [(q0, .inr (0, [.ref q1, .null, .int 0, .null, .null, .null, .null, .null, .null])), (q1, .inl (c1, 36, .inl (fun _ => 0))), (q2, .inl (c2, 36, .inl (fun _ => 0)))] := hD
  refine va_putF (D := D) (ci := 0) (v := .ref q2) (ty := .array .int) (C := RX0) (T := TX0) (N := 9) hx hb hts in_X0 tyX0 tyX0_ok nmX0 hown hK hP hD hS 0 rfl rfl 1 (by decide) (hts _ q25) (fun _ h9 => h9) rfl hin rfl (by decide +kernel) rfl rfl (Nat.le_of_ble_eq_true rfl) dX0_init_17 (fun H locs hP hD hS => ?_)
  have hP : va_P D vwCl [(q0, .inr (0, [.ref q1, .ref q2, .int 0, .null, .null, .null, .null, .null, .null])), (q1, .inl (c1, 36, .inl (fun _ => 0))), (q2, .inl (c2, 36, .inl (fun _ => 0)))] H := hP
  have hD : va_D A [(q0, .inr (0, [.ref q1, .ref q2, .int 0, .null, .null, .null, .null, .null, .null])), (q1, .inl (c1, 36, .inl (fun _ => 0))), (q2, .inl (c2, 36, .inl (fun _ => 0)))] := hD
  refine lv_aload_n hx hb dX0_init_20 rfl (lv_at hl 0 rfl) ?_
  refine lv_bipush (v := 6) hx hb dX0_init_21 (by decide) ?_
  refine va_newa (atype := .byte) (ty := .byte) (N' := 6) (a0 := (6, .inl (fun _ => 0))) hx hb (hts _ q53) rfl hK hP hD hS hA (fun _ => rfl) (by decide) (by decide) (by decide) (Nat.le_of_ble_eq_true rfl) (Nat.le_of_ble_eq_true rfl) dX0_init_23 (fun q3 c3 H hK hP hD hS => ?_)
  refine W.widen (k := 3) (n := 78) (Nat.le_of_ble_eq_true rfl) (Nat.le_of_ble_eq_true rfl) ?_
  have hP : va_P D vwCl [(q0, .inr (0, [.ref q1, .ref q2, .int 0, .null, .null, .null, .null, .null, .null])), (q1, .inl (c1, 36, .inl (fun _ => 0))), (q2, .inl (c2, 36, .inl (fun _ => 0))), (q3, .inl (c3, 6, .inl (fun _ => 0)))] H := hP
  have hD : va_D A [(q0, .inr (0, [.ref q1, .ref q2, .int 0, .null, .null, .null, .null, .null, .null])), (q1, .inl (c1, 36, .inl (fun _ => 0))), (q2, .inl (c2, 36, .inl (fun _ => 0))), (q3, .inl (c3, 6, .inl (fun _ => 0)))] := hD
  refine va_putF (D := D) (ci := 0) (v := .ref q3) (ty := .array .byte) (C := RX0) (T := TX0) (N := 9) hx hb hts in_X0 tyX0 tyX0_ok nmX0 hown hK hP hD hS 0 rfl rfl 3 (by decide) (hts _ q27) (fun _ h9 => h9) rfl hin rfl (by decide +kernel) rfl rfl (Nat.le_of_ble_eq_true rfl) dX0_init_25 (fun H locs hP hD hS => ?_)
  have hP : va_P D vwCl [(q0, .inr (0, [.ref q1, .ref q2, .int 0, .ref q3, .null, .null, .null, .null, .null])), (q1, .inl (c1, 36, .inl (fun _ => 0))), (q2, .inl (c2, 36, .inl (fun _ => 0))), (q3, .inl (c3, 6, .inl (fun _ => 0)))] H := hP
  have hD : va_D A [(q0, .inr (0, [.ref q1, .ref q2, .int 0, .ref q3, .null, .null, .null, .null, .null])), (q1, .inl (c1, 36, .inl (fun _ => 0))), (q2, .inl (c2, 36, .inl (fun _ => 0))), (q3, .inl (c3, 6, .inl (fun _ => 0)))] := hD
  refine lv_aload_n hx hb dX0_init_28 rfl (lv_at hl 0 rfl) ?_
  refine lv_bipush (v := 8) hx hb dX0_init_29 (by decide) ?_
  refine va_newa (atype := .byte) (ty := .byte) (N' := 8) (a0 := (8, .inl (fun _ => 0))) hx hb (hts _ q53) rfl hK hP hD hS hA (fun _ => rfl) (by decide) (by decide) (by decide) (Nat.le_of_ble_eq_true rfl) (Nat.le_of_ble_eq_true rfl) dX0_init_31 (fun q4 c4 H hK hP hD hS => ?_)
  refine W.widen (k := 4) (n := 86) (Nat.le_of_ble_eq_true rfl) (Nat.le_of_ble_eq_true rfl) ?_
  have hP : va_P D vwCl [(q0, .inr (0, [.ref q1, .ref q2, .int 0, .ref q3, .null, .null, .null, .null, .null])), (q1, .inl (c1, 36, .inl (fun _ => 0))), (q2, .inl (c2, 36, .inl (fun _ => 0))), (q3, .inl (c3, 6, .inl (fun _ => 0))), (q4, .inl (c4, 8, .inl (fun _ => 0)))] H := hP
  have hD : va_D A [(q0, .inr (0, [.ref q1, .ref q2, .int 0, .ref q3, .null, .null, .null, .null, .null])), (q1, .inl (c1, 36, .inl (fun _ => 0))), (q2, .inl (c2, 36, .inl (fun _ => 0))), (q3, .inl (c3, 6, .inl (fun _ => 0))), (q4, .inl (c4, 8, .inl (fun _ => 0)))] := hD
  refine va_putF (D := D) (ci := 0) (v := .ref q4) (ty := .array .byte) (C := RX0) (T := TX0) (N := 9) hx hb hts in_X0 tyX0 tyX0_ok nmX0 hown hK hP hD hS 0 rfl rfl 4 (by decide) (hts _ q28) (fun _ h9 => h9) rfl hin rfl (by decide +kernel) rfl rfl (Nat.le_of_ble_eq_true rfl) dX0_init_33 (fun H locs hP hD hS => ?_)
  have hP : va_P D vwCl [(q0, .inr (0, [.ref q1, .ref q2, .int 0, .ref q3, .ref q4, .null, .null, .null, .null])), (q1, .inl (c1, 36, .inl (fun _ => 0))), (q2, .inl (c2, 36, .inl (fun _ => 0))), (q3, .inl (c3, 6, .inl (fun _ => 0))), (q4, .inl (c4, 8, .inl (fun _ => 0)))] H := hP
  have hD : va_D A [(q0, .inr (0, [.ref q1, .ref q2, .int 0, .ref q3, .ref q4, .null, .null, .null, .null])), (q1, .inl (c1, 36, .inl (fun _ => 0))), (q2, .inl (c2, 36, .inl (fun _ => 0))), (q3, .inl (c3, 6, .inl (fun _ => 0))), (q4, .inl (c4, 8, .inl (fun _ => 0)))] := hD
  refine lv_aload_n hx hb dX0_init_36 rfl (lv_at hl 0 rfl) ?_
  refine lv_bipush (v := 36) hx hb dX0_init_37 (by decide) ?_
  refine va_newa (atype := .int) (ty := .int) (N' := 36) (a0 := (36, .inl (fun _ => 0))) hx hb (hts _ q52) rfl hK hP hD hS hA (fun _ => rfl) (by decide) (by decide) (by decide) (Nat.le_of_ble_eq_true rfl) (Nat.le_of_ble_eq_true rfl) dX0_init_39 (fun q5 c5 H hK hP hD hS => ?_)
  refine W.widen (k := 5) (n := 122) (Nat.le_of_ble_eq_true rfl) (Nat.le_of_ble_eq_true rfl) ?_
  have hP : va_P D vwCl [(q0, .inr (0, [.ref q1, .ref q2, .int 0, .ref q3, .ref q4, .null, .null, .null, .null])), (q1, .inl (c1, 36, .inl (fun _ => 0))), (q2, .inl (c2, 36, .inl (fun _ => 0))), (q3, .inl (c3, 6, .inl (fun _ => 0))), (q4, .inl (c4, 8, .inl (fun _ => 0))), (q5, .inl (c5, 36, .inl (fun _ => 0)))] H := hP
  have hD : va_D A [(q0, .inr (0, [.ref q1, .ref q2, .int 0, .ref q3, .ref q4, .null, .null, .null, .null])), (q1, .inl (c1, 36, .inl (fun _ => 0))), (q2, .inl (c2, 36, .inl (fun _ => 0))), (q3, .inl (c3, 6, .inl (fun _ => 0))), (q4, .inl (c4, 8, .inl (fun _ => 0))), (q5, .inl (c5, 36, .inl (fun _ => 0)))] := hD
  refine va_putF (D := D) (ci := 0) (v := .ref q5) (ty := .array .int) (C := RX0) (T := TX0) (N := 9) hx hb hts in_X0 tyX0 tyX0_ok nmX0 hown hK hP hD hS 0 rfl rfl 5 (by decide) (hts _ q29) (fun _ h9 => h9) rfl hin rfl (by decide +kernel) rfl rfl (Nat.le_of_ble_eq_true rfl) dX0_init_41 (fun H locs hP hD hS => ?_)
  have hP : va_P D vwCl [(q0, .inr (0, [.ref q1, .ref q2, .int 0, .ref q3, .ref q4, .ref q5, .null, .null, .null])), (q1, .inl (c1, 36, .inl (fun _ => 0))), (q2, .inl (c2, 36, .inl (fun _ => 0))), (q3, .inl (c3, 6, .inl (fun _ => 0))), (q4, .inl (c4, 8, .inl (fun _ => 0))), (q5, .inl (c5, 36, .inl (fun _ => 0)))] H := hP
  have hD : va_D A [(q0, .inr (0, [.ref q1, .ref q2, .int 0, .ref q3, .ref q4, .ref q5, .null, .null, .null])), (q1, .inl (c1, 36, .inl (fun _ => 0))), (q2, .inl (c2, 36, .inl (fun _ => 0))), (q3, .inl (c3, 6, .inl (fun _ => 0))), (q4, .inl (c4, 8, .inl (fun _ => 0))), (q5, .inl (c5, 36, .inl (fun _ => 0)))] := hD
  refine lv_aload_n hx hb dX0_init_44 rfl (lv_at hl 0 rfl) ?_
  refine lv_bipush (v := 6) hx hb dX0_init_45 (by decide) ?_
  refine va_newa (atype := .int) (ty := .int) (N' := 6) (a0 := (6, .inl (fun _ => 0))) hx hb (hts _ q52) rfl hK hP hD hS hA (fun _ => rfl) (by decide) (by decide) (by decide) (Nat.le_of_ble_eq_true rfl) (Nat.le_of_ble_eq_true rfl) dX0_init_47 (fun q6 c6 H hK hP hD hS => ?_)
  refine W.widen (k := 6) (n := 128) (Nat.le_of_ble_eq_true rfl) (Nat.le_of_ble_eq_true rfl) ?_
  have hP : va_P D vwCl [(q0, .inr (0, [.ref q1, .ref q2, .int 0, .ref q3, .ref q4, .ref q5, .null, .null, .null])), (q1, .inl (c1, 36, .inl (fun _ => 0))), (q2, .inl (c2, 36, .inl (fun _ => 0))), (q3, .inl (c3, 6, .inl (fun _ => 0))), (q4, .inl (c4, 8, .inl (fun _ => 0))), (q5, .inl (c5, 36, .inl (fun _ => 0))), (q6, .inl (c6, 6, .inl (fun _ => 0)))] H := hP
  have hD : va_D A [(q0, .inr (0, [.ref q1, .ref q2, .int 0, .ref q3, .ref q4, .ref q5, .null, .null, .null])), (q1, .inl (c1, 36, .inl (fun _ => 0))), (q2, .inl (c2, 36, .inl (fun _ => 0))), (q3, .inl (c3, 6, .inl (fun _ => 0))), (q4, .inl (c4, 8, .inl (fun _ => 0))), (q5, .inl (c5, 36, .inl (fun _ => 0))), (q6, .inl (c6, 6, .inl (fun _ => 0)))] := hD
  refine va_putF (D := D) (ci := 0) (v := .ref q6) (ty := .array .int) (C := RX0) (T := TX0) (N := 9) hx hb hts in_X0 tyX0 tyX0_ok nmX0 hown hK hP hD hS 0 rfl rfl 6 (by decide) (hts _ q30) (fun _ h9 => h9) rfl hin rfl (by decide +kernel) rfl rfl (Nat.le_of_ble_eq_true rfl) dX0_init_49 (fun H locs hP hD hS => ?_)
  have hP : va_P D vwCl [(q0, .inr (0, [.ref q1, .ref q2, .int 0, .ref q3, .ref q4, .ref q5, .ref q6, .null, .null])), (q1, .inl (c1, 36, .inl (fun _ => 0))), (q2, .inl (c2, 36, .inl (fun _ => 0))), (q3, .inl (c3, 6, .inl (fun _ => 0))), (q4, .inl (c4, 8, .inl (fun _ => 0))), (q5, .inl (c5, 36, .inl (fun _ => 0))), (q6, .inl (c6, 6, .inl (fun _ => 0)))] H := hP
  have hD : va_D A [(q0, .inr (0, [.ref q1, .ref q2, .int 0, .ref q3, .ref q4, .ref q5, .ref q6, .null, .null])), (q1, .inl (c1, 36, .inl (fun _ => 0))), (q2, .inl (c2, 36, .inl (fun _ => 0))), (q3, .inl (c3, 6, .inl (fun _ => 0))), (q4, .inl (c4, 8, .inl (fun _ => 0))), (q5, .inl (c5, 36, .inl (fun _ => 0))), (q6, .inl (c6, 6, .inl (fun _ => 0)))] := hD
  refine lv_aload_n hx hb dX0_init_52 rfl (lv_at hl 0 rfl) ?_
  refine lv_bipush (v := 6) hx hb dX0_init_53 (by decide) ?_
  refine va_newa (atype := .byte) (ty := .byte) (N' := 6) (a0 := (6, .inl (fun _ => 0))) hx hb (hts _ q53) rfl hK hP hD hS hA (fun _ => rfl) (by decide) (by decide) (by decide) (Nat.le_of_ble_eq_true rfl) (Nat.le_of_ble_eq_true rfl) dX0_init_55 (fun q7 c7 H hK hP hD hS => ?_)
  refine W.widen (k := 7) (n := 134) (Nat.le_of_ble_eq_true rfl) (Nat.le_of_ble_eq_true rfl) ?_
  have hP : va_P D vwCl [(q0, .inr (0, [.ref q1, .ref q2, .int 0, .ref q3, .ref q4, .ref q5, .ref q6, .null, .null])), (q1, .inl (c1, 36, .inl (fun _ => 0))), (q2, .inl (c2, 36, .inl (fun _ => 0))), (q3, .inl (c3, 6, .inl (fun _ => 0))), (q4, .inl (c4, 8, .inl (fun _ => 0))), (q5, .inl (c5, 36, .inl (fun _ => 0))), (q6, .inl (c6, 6, .inl (fun _ => 0))), (q7, .inl (c7, 6, .inl (fun _ => 0)))] H := hP
  have hD : va_D A [(q0, .inr (0, [.ref q1, .ref q2, .int 0, .ref q3, .ref q4, .ref q5, .ref q6, .null, .null])), (q1, .inl (c1, 36, .inl (fun _ => 0))), (q2, .inl (c2, 36, .inl (fun _ => 0))), (q3, .inl (c3, 6, .inl (fun _ => 0))), (q4, .inl (c4, 8, .inl (fun _ => 0))), (q5, .inl (c5, 36, .inl (fun _ => 0))), (q6, .inl (c6, 6, .inl (fun _ => 0))), (q7, .inl (c7, 6, .inl (fun _ => 0)))] := hD
  refine va_putF (D := D) (ci := 0) (v := .ref q7) (ty := .array .byte) (C := RX0) (T := TX0) (N := 9) hx hb hts in_X0 tyX0 tyX0_ok nmX0 hown hK hP hD hS 0 rfl rfl 7 (by decide) (hts _ q31) (fun _ h9 => h9) rfl hin rfl (by decide +kernel) rfl rfl (Nat.le_of_ble_eq_true rfl) dX0_init_57 (fun H locs hP hD hS => ?_)
  have hP : va_P D vwCl [(q0, .inr (0, [.ref q1, .ref q2, .int 0, .ref q3, .ref q4, .ref q5, .ref q6, .ref q7, .null])), (q1, .inl (c1, 36, .inl (fun _ => 0))), (q2, .inl (c2, 36, .inl (fun _ => 0))), (q3, .inl (c3, 6, .inl (fun _ => 0))), (q4, .inl (c4, 8, .inl (fun _ => 0))), (q5, .inl (c5, 36, .inl (fun _ => 0))), (q6, .inl (c6, 6, .inl (fun _ => 0))), (q7, .inl (c7, 6, .inl (fun _ => 0)))] H := hP
  have hD : va_D A [(q0, .inr (0, [.ref q1, .ref q2, .int 0, .ref q3, .ref q4, .ref q5, .ref q6, .ref q7, .null])), (q1, .inl (c1, 36, .inl (fun _ => 0))), (q2, .inl (c2, 36, .inl (fun _ => 0))), (q3, .inl (c3, 6, .inl (fun _ => 0))), (q4, .inl (c4, 8, .inl (fun _ => 0))), (q5, .inl (c5, 36, .inl (fun _ => 0))), (q6, .inl (c6, 6, .inl (fun _ => 0))), (q7, .inl (c7, 6, .inl (fun _ => 0)))] := hD
  refine lv_aload_n hx hb dX0_init_60 rfl (lv_at hl 0 rfl) ?_
  refine lv_bipush (v := 6) hx hb dX0_init_61 (by decide) ?_
  refine va_newa (atype := .int) (ty := .int) (N' := 6) (a0 := (6, .inl (fun _ => 0))) hx hb (hts _ q52) rfl hK hP hD hS hA (fun _ => rfl) (by decide) (by decide) (by decide) (Nat.le_of_ble_eq_true rfl) (Nat.le_of_ble_eq_true rfl) dX0_init_63 (fun q8 c8 H hK hP hD hS => ?_)
  refine W.widen (k := 8) (n := 140) (Nat.le_of_ble_eq_true rfl) (Nat.le_of_ble_eq_true rfl) ?_
  have hP : va_P D vwCl [(q0, .inr (0, [.ref q1, .ref q2, .int 0, .ref q3, .ref q4, .ref q5, .ref q6, .ref q7, .null])), (q1, .inl (c1, 36, .inl (fun _ => 0))), (q2, .inl (c2, 36, .inl (fun _ => 0))), (q3, .inl (c3, 6, .inl (fun _ => 0))), (q4, .inl (c4, 8, .inl (fun _ => 0))), (q5, .inl (c5, 36, .inl (fun _ => 0))), (q6, .inl (c6, 6, .inl (fun _ => 0))), (q7, .inl (c7, 6, .inl (fun _ => 0))), (q8, .inl (c8, 6, .inl (fun _ => 0)))] H := hP
  have hD : va_D A [(q0, .inr (0, [.ref q1, .ref q2, .int 0, .ref q3, .ref q4, .ref q5, .ref q6, .ref q7, .null])), (q1, .inl (c1, 36, .inl (fun _ => 0))), (q2, .inl (c2, 36, .inl (fun _ => 0))), (q3, .inl (c3, 6, .inl (fun _ => 0))), (q4, .inl (c4, 8, .inl (fun _ => 0))), (q5, .inl (c5, 36, .inl (fun _ => 0))), (q6, .inl (c6, 6, .inl (fun _ => 0))), (q7, .inl (c7, 6, .inl (fun _ => 0))), (q8, .inl (c8, 6, .inl (fun _ => 0)))] := hD
  refine va_putF (D := D) (ci := 0) (v := .ref q8) (ty := .array .int) (C := RX0) (T := TX0) (N := 9) hx hb hts in_X0 tyX0 tyX0_ok nmX0 hown hK hP hD hS 0 rfl rfl 8 (by decide) (hts _ q32) (fun _ h9 => h9) rfl hin rfl (by decide +kernel) rfl rfl (Nat.le_of_ble_eq_true rfl) dX0_init_65 (fun H locs hP hD hS => ?_)
  have hP : va_P D vwCl [(q0, .inr (0, [.ref q1, .ref q2, .int 0, .ref q3, .ref q4, .ref q5, .ref q6, .ref q7, .ref q8])), (q1, .inl (c1, 36, .inl (fun _ => 0))), (q2, .inl (c2, 36, .inl (fun _ => 0))), (q3, .inl (c3, 6, .inl (fun _ => 0))), (q4, .inl (c4, 8, .inl (fun _ => 0))), (q5, .inl (c5, 36, .inl (fun _ => 0))), (q6, .inl (c6, 6, .inl (fun _ => 0))), (q7, .inl (c7, 6, .inl (fun _ => 0))), (q8, .inl (c8, 6, .inl (fun _ => 0)))] H := hP
  have hD : va_D A [(q0, .inr (0, [.ref q1, .ref q2, .int 0, .ref q3, .ref q4, .ref q5, .ref q6, .ref q7, .ref q8])), (q1, .inl (c1, 36, .inl (fun _ => 0))), (q2, .inl (c2, 36, .inl (fun _ => 0))), (q3, .inl (c3, 6, .inl (fun _ => 0))), (q4, .inl (c4, 8, .inl (fun _ => 0))), (q5, .inl (c5, 36, .inl (fun _ => 0))), (q6, .inl (c6, 6, .inl (fun _ => 0))), (q7, .inl (c7, 6, .inl (fun _ => 0))), (q8, .inl (c8, 6, .inl (fun _ => 0)))] := hD
  have hK : va_K D vwCl [(c1, .int), (c2, .int), (c3, .byte), (c4, .byte), (c5, .int), (c6, .int), (c7, .byte), (c8, .int)] s := hK
  obtain rfl : c1 = c2 := ra_uniq hK (i := 0) (j := 1) rfl rfl
  obtain rfl : c1 = c5 := ra_uniq hK (i := 0) (j := 4) rfl rfl
  obtain rfl : c1 = c6 := ra_uniq hK (i := 0) (j := 5) rfl rfl
  obtain rfl : c1 = c8 := ra_uniq hK (i := 0) (j := 7) rfl rfl
  obtain rfl : c3 = c4 := ra_uniqB hK (i := 2) (j := 3) rfl rfl
  obtain rfl : c3 = c7 := ra_uniqB hK (i := 2) (j := 6) rfl rfl
  have hP9 : va_P D vwCl (cfW (fun k => if k = 0 then q0 else if k = 1 then q1 else if k = 2 then q2 else if k = 3 then q3 else if k = 4 then q4 else if k = 5 then q5 else if k = 6 then q6 else if k = 7 then q7 else q8) c1 c3 cf0) _ := hP
  have hD9 : va_D A (cfW (fun k => if k = 0 then q0 else if k = 1 then q1 else if k = 2 then q2 else if k = 3 then q3 else if k = 4 then q4 else if k = 5 then q5 else if k = 6 then q6 else if k = 7 then q7 else q8) c1 c3 cf0) := hD
  have hK9 := hK.sub (tys' := tysAB c1 c3) [0, 2] rfl
  exact W.vret hx hb hr (fun t ht hW => ⟨⟨(), rfl, trivial, fun k => if k = 0 then q0 else if k = 1 then q1 else if k = 2 then q2 else if k = 3 then q3 else if k = 4 then q4 else if k = 5 then q5 else if k = 6 then q6 else if k = 7 then q7 else q8, c1, c3, rfl, va_K.moved hW.alike hK9, by rw [ht]; exact hP9, hD9⟩, hS.F ht⟩) hS.2.2 dX0_init_68
set_option maxHeartbeats 4000000 in
set_option maxRecDepth 100000 in
theorem met_minit (l : Launch) (D : va_G) (q0 sz : Nat) : Met l yX1_init (ws_ yX1_init cX1_init 1 none) (rmI 1 36) (va_Pc [.ref q0] (fun U => U.heap.size = sz ∧ va_P D vwCl (mdNew q0) U.heap ∧ va_K D vwCl [] U ∧ va_D (fun _ => True) (mdNew q0))) (va_Qv (fun _ : Unit => True) (fun _ t => ∃ (g : Nat → Nat) (dA : ClassId), g 0 = q0 ∧ va_K D vwCl [(dA, .int)] t ∧ va_P D vwCl (mdW g dA (fun _ => 0)) t.heap ∧ va_D (va_A (mdNew q0) sz) (mdW g dA (fun _ => 0))) (va_A (mdNew q0) sz)) 1 36 (va_A (mdNew q0) sz) := by
  refine Met.ofW (cc := cX1_init) (maxL := 1) (ret := none) (by decide) rfl ?_
  intro p e s m args below meth c s₁ B hml hv
  obtain ⟨rfl, hsz, hP, hK, hD0⟩ := hv
  have hx := B.exec
  have hb := B.bytes
  have hr := B.returns
  have hts := atoms_spec (ws := ws_ yX1_init cX1_init 1 none) B.pre
  have hts : ∀ w ∈ lw_all, w.before _ s = true := fun w h => hts w (List.mem_cons_of_mem _ h)
  have hown : s.vm.findClass RX1 = some m.cls := findClass_of_methodNamed B.named
  have hlocks := B.notSynchronized
  have hin : meth.name = "<init>" := (name_of_methodNamed B.named B.method).1
  subst hsz
  have hD := hD0.self (sz := s.heap.size)
  generalize hAe : va_A (mdNew q0) s.heap.size = A at hD ⊢
  have hA : ∀ q : Nat, s.heap.size ≤ q → A q := fun q h => by rw [← hAe]; exact Or.inr h
  have hS : va_S A s.heap s.heap [] := va_S.rf
  have hl := lv_entry ([.ref q0]) (n := 1) (Nat.le_of_ble_eq_true rfl)
  rw [lg_entry_eq]
  generalize (lg_sl ([.ref q0]) ++ List.replicate (1 - (lg_sl ([.ref q0])).length) Slot.unset).toArray = ls at hl ⊢
  have hl : lv_has ls 1 [(0, .ref q0)] := hl
  refine lv_aload_n hx hb dX1_init_0 rfl (lv_at hl 0 rfl) ?_
  refine W.objInit hx hb hown (hts _ q160) (hts _ q22) (hts _ q23) rfl (by rw [hml]; exact hl.1) rfl dX1_init_1 (Nat.le_of_ble_eq_true rfl) (Nat.le_of_ble_eq_true rfl) ?_
  refine W.eq (g2 := F0 m 4 ls []) rfl ?_
  refine lv_aload_n hx hb dX1_init_4 rfl (lv_at hl 0 rfl) ?_
  refine lv_bipush (v := 36) hx hb dX1_init_5 (by decide) ?_
  refine va_newa (atype := .int) (ty := .int) (N' := 36) (a0 := (36, .inl (fun _ => 0))) hx hb (hts _ q52) rfl hK hP hD hS hA (fun _ => rfl) (by decide) (by decide) (by decide) (Nat.le_of_ble_eq_true rfl) (Nat.le_of_ble_eq_true rfl) dX1_init_7 (fun q1 c1 H hK hP hD hS => ?_)
  refine W.widen (k := 1) (n := 36) (Nat.le_of_ble_eq_true rfl) (Nat.le_of_ble_eq_true rfl) ?_
  have hP : va_P D vwCl [(q0, .inr (1, [.null])), (q1, .inl (c1, 36, .inl (fun _ => 0)))] H := hP
  have hD : va_D A [(q0, .inr (1, [.null])), (q1, .inl (c1, 36, .inl (fun _ => 0)))] := hD
  refine va_put (D := D) (ci := 1) (v := .ref q1) (ty := .array .int) (C := RX1) (T := TX1) (N := 1) hx hb hts in_X1 tyX1 tyX1_ok nmX1 hown hK hP hD hS 0 rfl rfl 0 (by decide) (hts _ q161) (fun _ h9 => h9) rfl (by decide +kernel) rfl rfl (Nat.le_of_ble_eq_true rfl) dX1_init_9 (fun H locs hP hD hS => ?_)
  have hP : va_P D vwCl [(q0, .inr (1, [.ref q1])), (q1, .inl (c1, 36, .inl (fun _ => 0)))] H := hP
  have hD : va_D A [(q0, .inr (1, [.ref q1])), (q1, .inl (c1, 36, .inl (fun _ => 0)))] := hD
  have hK : va_K D vwCl [(c1, .int)] s := hK
  have hP9 : va_P D vwCl (mdW (fun k => if k = 0 then q0 else q1) c1 (fun _ => 0)) _ := hP
  have hD9 : va_D A (mdW (fun k => if k = 0 then q0 else q1) c1 (fun _ => 0)) := hD
  exact W.vret hx hb hr (fun t ht hW => ⟨⟨(), rfl, trivial, fun k => if k = 0 then q0 else q1, c1, rfl, va_K.moved hW.alike hK, by rw [ht]; exact hP9, hD9⟩, hS.F ht⟩) hS.2.2 dX1_init_12
end
section
set_option maxRecDepth 100000
/-! THE CLAIM OUT OF ONE WALK OF THE LAW'S BODY. Your part is whole_start (and what it stands on); all else here is the same for every law, but numbers. -/
def R_law : String := "CutFinderLaw"
def lw_P (b : Addr) (xs : List Int32) (args : Array Value) (s : State) : Prop := args = #[.ref b] ∧ s.IntsAt b xs ∧ xs.length ≤ 320 ∧ (Jvm.Cond.and given_1 narrow_1).before args s = true
def lw_Q (_ : Array Value) (s : State) (o : Outcome) (t : State) : Prop := o = .returned (some (.int 1)) ∧ Framed s o t [] 600000 7290000
def lw_Z (below : List Frame) (a : Array Value) (s : State) : State → Prop := fun t => ∃ o, t.status = .running ∧ Ended t below o ∧ lw_Q a s o t
/-- the law's own end, with 1 on the stack, nothing written that was there before, its room as the claim has it -/
theorem lw_ret {p : Program} {l : Launch} {e : Env} {s : State} {m : MethodId} {below : List Frame} {meth : Method} {c : Code} {b : Nat} (hx : p.tables.exec = Jvm.exec) (hb : c.code = code) (hr : meth.sig.returnType = ret) (hlocks : meth.locks = false) {pc : Nat} {H : Heap} {ls : Array Slot} (hdg : decode code pc = .ok (.ireturn, 1)) : W p l e room_1 s m #[Value.ref b] below meth c H [] 600000 7290000 (lw_Z below #[Value.ref b] s) (F0 m pc ls [.int 1]) := by
  intro T hT X
  obtain ⟨fs, hret, hrun, hended, hW, hframe⟩ := X.leave (v := some (.int 1)) (hlocks := hlocks) (fun h => by rw [hr] at h; cases h)
  have hmeth' : T.vm.method? m = some meth := X.method'
  refine ⟨T.setFrames fs, ?_, .returned (some (.int 1)), hrun, hended, rfl, ⟨_, rfl⟩, hW, hframe⟩
  jvm_step X.here [X.here.top, hx, hb, hdg, hmeth', hr, ret, narrow_b1]
  (try refine ⟨rfl, ?_⟩); (try refine ⟨rfl, ?_⟩)
  first | (intro acts; rw [hret _ acts rfl rfl rfl]) | rw [hret _ _ rfl rfl rfl]
  exact Steps.refl _
/-- what holds at the law's entry: the machine, the code, the tables' words (any of lw_tbl by 'hts w (by decide +kernel)'), the script of L ints xs at the cell b, what the Statement gives of the start (any of its parts by flat_of_before) -/
def lw_At (p : Program) (s : State) (m : MethodId) (meth : Method) (c : Code) (b L : Nat) (xs : Nat → Int32) : Prop :=
  p.tables.exec = Jvm.exec ∧ c.code = code ∧ meth.sig.returnType = ret ∧ c.maxLocals = 4 ∧ s.vm.findClass R_law = some m.cls ∧ (∀ w ∈ lw_tbl, w.before #[Value.ref b] s = true) ∧ va_X b L xs s s.heap ∧ b < s.heap.size ∧ meth.locks = false ∧ (Jvm.Cond.and given_1 narrow_1).before #[Value.ref b] s = true
end
section
set_option maxRecDepth 100000
theorem cwl_X0_set : callWords R_law 13 RX0 yX0_set cX0_set 4 (some .boolean) 3 := ⟨lw_V q54 q55 q56 q14 q57, by decide +kernel⟩
theorem cwl_X1_set : callWords R_law 17 RX1 yX1_set cX1_set 4 (some .boolean) 3 := ⟨lw_V q165 q166 q167 q15 q168, by decide +kernel⟩
theorem cwl_X0_capacity : callWords R_law 18 RX0 yX0_capacity cX0_capacity 3 (some .int) 2 := ⟨lw_V q68 q69 q70 q14 q71, by decide +kernel⟩
theorem cwl_X1_capacity : callWords R_law 22 RX1 yX1_capacity cX1_capacity 3 (some .int) 2 := ⟨lw_V q177 q178 q179 q15 q180, by decide +kernel⟩
theorem cwl_X0_cost : callWords R_law 23 RX0 yX0_cost cX0_cost 5 (some .int) 1 := ⟨lw_V q72 q73 q74 q14 q75, by decide +kernel⟩
theorem cwl_X1_cost : callWords R_law 27 RX1 yX1_cost cX1_cost 2 (some .int) 1 := ⟨lw_V q181 q182 q183 q15 q184, by decide +kernel⟩
theorem cwl_X0_least : callWords R_law 28 RX0 yX0_least cX0_least 8 (some .int) 0 := ⟨lw_V q79 q80 q81 q14 q82, by decide +kernel⟩
theorem cwl_X1_least : callWords R_law 32 RX1 yX1_least cX1_least 1 (some .int) 0 := ⟨lw_V q189 q190 q191 q15 q192, by decide +kernel⟩
theorem cwl_X0_leastSide : callWords R_law 33 RX0 yX0_leastSide cX0_leastSide 6 (some .int) 0 := ⟨lw_V q92 q93 q94 q14 q95, by decide +kernel⟩
theorem cwl_X1_leastSide : callWords R_law 36 RX1 yX1_leastSide cX1_leastSide 3 (some .int) 0 := ⟨lw_V q197 q198 q199 q15 q200, by decide +kernel⟩
theorem cwl_X0_between : callWords R_law 37 RX0 yX0_between cX0_between 3 (some .int) 2 := ⟨lw_V q109 q110 q111 q14 q112, by decide +kernel⟩
theorem cwl_X1_between : callWords R_law 40 RX1 yX1_between cX1_between 3 (some .int) 2 := ⟨lw_V q201 q202 q203 q15 q204, by decide +kernel⟩
theorem cwl_X0_core : callWords R_law 41 RX0 yX0_core cX0_core 3 (some .int) 2 := ⟨lw_V q113 q114 q115 q14 q116, by decide +kernel⟩
theorem cwl_X1_core : callWords R_law 44 RX1 yX1_core cX1_core 6 (some .int) 2 := ⟨lw_V q205 q206 q207 q15 q208, by decide +kernel⟩
theorem cwl_X0_reach : callWords R_law 45 RX0 yX0_reach cX0_reach 3 (some .int) 2 := ⟨lw_V q117 q118 q119 q14 q120, by decide +kernel⟩
theorem cwl_X1_reach : callWords R_law 48 RX1 yX1_reach cX1_reach 6 (some .int) 2 := ⟨lw_V q210 q211 q212 q15 q213, by decide +kernel⟩
theorem cwl_X0_forced : callWords R_law 49 RX0 yX0_forced cX0_forced 3 (some .int) 2 := ⟨lw_V q122 q123 q124 q14 q125, by decide +kernel⟩
theorem cwl_X1_forced : callWords R_law 52 RX1 yX1_forced cX1_forced 3 (some .int) 2 := ⟨lw_V q214 q215 q216 q15 q217, by decide +kernel⟩
theorem cwl_X0_pairsAtLeast : callWords R_law 53 RX0 yX0_pairsAtLeast cX0_pairsAtLeast 6 (some .int) 1 := ⟨lw_V q130 q131 q132 q14 q133, by decide +kernel⟩
theorem cwl_X1_pairsAtLeast : callWords R_law 56 RX1 yX1_pairsAtLeast cX1_pairsAtLeast 4 (some .int) 1 := ⟨lw_V q218 q219 q220 q15 q221, by decide +kernel⟩
theorem cwl_X0_group : callWords R_law 57 RX0 yX0_group cX0_group 6 (some .int) 2 := ⟨lw_V q142 q143 q144 q14 q145, by decide +kernel⟩
theorem cwl_X1_group : callWords R_law 60 RX1 yX1_group cX1_group 5 (some .int) 2 := ⟨lw_V q222 q223 q224 q15 q225, by decide +kernel⟩
theorem cwl_X0_loss : callWords R_law 61 RX0 yX0_loss cX0_loss 6 (some .int) 2 := ⟨lw_V q146 q147 q148 q14 q149, by decide +kernel⟩
theorem cwl_X1_loss : callWords R_law 64 RX1 yX1_loss cX1_loss 6 (some .int) 2 := ⟨lw_V q226 q227 q228 q15 q229, by decide +kernel⟩
theorem cwl_X0_tight : callWords R_law 65 RX0 yX0_tight cX0_tight 8 (some .boolean) 4 := ⟨lw_V q150 q151 q152 q14 q153, by decide +kernel⟩
theorem cwl_X1_tight : callWords R_law 69 RX1 yX1_tight cX1_tight 8 (some .boolean) 4 := ⟨lw_V q231 q232 q233 q15 q234, by decide +kernel⟩
theorem md_keep {D : va_G} {dA dB : ClassId} {h g : Nat → Nat} {A : Nat → Prop} {s : State} {H H1 : Heap} {locs locs1 : List Loc} {cap : Nat → Nat} (J : mdI D dA dB g A s H locs cap) (hap : ∀ k, k < 9 → h k ≠ g 0 ∧ h k ≠ g 1) (hk : ∀ q : Nat, q < H.size → ¬ cfA h q → H1[q]? = H[q]?) (hS : va_S A s.heap H1 locs1) : mdI D dA dB g A s H1 locs1 cap := by
  refine ⟨J.1, J.2.1.kept (fun k q hq => hk q.1 (J.2.1 k q hq).lt ?_), J.2.2.1, hS⟩
  rintro ⟨j, hj, e⟩
  rcases mdW_in hq with ⟨_, z⟩ | ⟨_, z⟩
  · exact (hap j hj).1 (by rw [← e, z])
  · exact (hap j hj).2 (by rw [← e, z])
theorem cf_keep {D : va_G} {dA dB : ClassId} {h g : Nat → Nat} {A : Nat → Prop} {s : State} {H H1 : Heap} {locs locs1 : List Loc} {x : CF} (I : cfI D dA dB h A s H locs x) (hap : ∀ k, k < 9 → h k ≠ g 0 ∧ h k ≠ g 1) (hk : ∀ q : Nat, q < H.size → ¬ mdA g q → H1[q]? = H[q]?) (hS : va_S A s.heap H1 locs1) : cfI D dA dB h A s H1 locs1 x := by
  refine ⟨I.1, I.2.1.kept (fun k q hq => hk q.1 (I.2.1 k q hq).lt ?_), I.2.2.1, hS⟩
  obtain ⟨hk9, z⟩ := cfW_in hq
  rintro (e | e)
  · exact (hap k hk9).1 (by rw [← z, e])
  · exact (hap k hk9).2 (by rw [← z, e])
theorem lawcond {i L : Nat} (hi : i ≤ L) (hL : L ≤ 320) (h : ¬ nI L - nI 5 < nI i) : i + 5 ≤ L := by
  rw [Int32.lt_iff_toInt_lt, pk_sub_toInt (by omega) (by omega), nI_toInt (by omega)] at h
  omega
/-- cells that are the law's own: all that are new -/
abbrev newA (s : State) : Nat → Prop := fun q => s.heap.size ≤ q
section LAWC
variable {p : Program} {l : Launch} {e : Env} {s : State} {m : MethodId} {below : List Frame} {meth : Method} {c : Code} {H : Heap} {locs : List Loc} {Q : State → Prop}
variable {b L i : Nat} {xs : Nat → Int32} {D : va_G} {dA dB : ClassId} {h g : Nat → Nat} {cap rm : Nat → Nat} {F : Nat} {ff : Nat → Int32} {ln jn ti ab st : Nat → Nat} {ls : Array Slot}
theorem s_ld {R : Room} {args : Array Value} {cells slots : Nat} {cc : ByteArray} {own : String} {nL pc : Nat} {rest : List Value} {A : Nat → Prop} (G : CallFix p m c cc nL s args lw_all own) (hX : va_X b L xs s s.heap) (hbl : b < s.heap.size) (hbA : ¬ A b) (hS : va_S A s.heap H locs) {k : Nat} (hk : k < L) (hL : L ≤ 320) (hdg : decode cc pc = .ok (.iaload, 1)) (kk : W p l e R s m args below meth c H locs cells slots Q (F0 m (pc + 1) ls (.int (xs k) :: rest))) : W p l e R s m args below meth c H locs cells slots Q (F0 m pc ls (.int (nI k) :: .ref b :: rest)) := by
  refine va_sld G.1 G.2.1 hX hbl hbA hS (vp_in_nI hk (by omega)) hdg ?_
  rw [nI_clamp (by omega)]
  exact kk
set_option maxHeartbeats 4000000 in
set_option maxRecDepth 100000 in
theorem lc_set (hL : L ≤ 320) (hX : va_X b L xs s s.heap) (hbl : b < s.heap.size) (G : CallFix p m c code 4 s #[Value.ref b] lw_all R_law) (hap : ∀ k, k < 9 → h k ≠ g 0 ∧ h k ≠ g 1) (hi : i + 5 ≤ L) (hc : CutOK cap) (h30 : ∀ k, k < 36 → cap k ≤ 30) (I : cfI D dA dB h (newA s) s H locs (cap, rm, F, ff, ln, jn, ti, ab, st)) (J : mdI D dA dB g (newA s) s H locs cap) (hl : lv_has ls 4 [(0, .ref b), (1, .ref (h 0)), (2, .ref (g 0)), (3, .int (nI i))]) (K : ∀ (cap rm : Nat → Nat) (F : Nat) (ff : Nat → Int32) (ln jn ti ab st : Nat → Nat) (H : Heap) (locs : List Loc), CutOK cap → (∀ k, k < 36 → cap k ≤ 30) → cfI D dA dB h (newA s) s H locs (cap, rm, F, ff, ln, jn, ti, ab, st) → mdI D dA dB g (newA s) s H locs cap → W p l e room_1 s m #[Value.ref b] below meth c H locs 11 186 Q (F0 m 499 ls [])) : W p l e room_1 s m #[Value.ref b] below meth c H locs 11 186 Q (F0 m 100 ls []) := by
  have hbA : ¬ newA s b := Nat.not_le.mpr hbl
  refine lv_aload_n G.1 G.2.1 dL_law_100 rfl (lv_at hl 1 rfl) ?_
  refine lv_aload_n G.1 G.2.1 dL_law_101 rfl (lv_at hl 0 rfl) ?_
  refine lv_iload_n G.1 G.2.1 dL_law_102 rfl (lv_at hl 3 rfl) ?_
  refine n_iconst (a := 1) G dL_law_103 (by decide) ?_
  refine n_iadd G dL_law_104 ?_
  refine s_ld G hX hbl hbA I.2.2.2 (by omega) hL dL_law_105 ?_
  refine lv_aload_n G.1 G.2.1 dL_law_106 rfl (lv_at hl 0 rfl) ?_
  refine lv_iload_n G.1 G.2.1 dL_law_107 rfl (lv_at hl 3 rfl) ?_
  refine n_iconst (a := 2) G dL_law_108 (by decide) ?_
  refine n_iadd G dL_law_109 ?_
  refine s_ld G hX hbl hbA I.2.2.2 (by omega) hL dL_law_110 ?_
  refine lv_aload_n G.1 G.2.1 dL_law_111 rfl (lv_at hl 0 rfl) ?_
  refine lv_iload_n G.1 G.2.1 dL_law_112 rfl (lv_at hl 3 rfl) ?_
  refine n_iconst (a := 3) G dL_law_113 (by decide) ?_
  refine n_iadd G dL_law_114 ?_
  refine s_ld G hX hbl hbA I.2.2.2 (by omega) hL dL_law_115 ?_
  refine cf_mi (rest := []) G I (met_set l D dA dB h (cap := cap) (rm := rm) (F := F) (ff := ff) (ln := ln) (jn := jn) (ti := ti) (ab := ab) (st := st)  (xs (i + 1)) (xs (i + 2)) (xs (i + 3))) cwl_X0_set (by decide) rfl hl.1 (Nat.le_of_ble_eq_true rfl) rfl dL_law_116 (fun r1 u H1 locs1 hr1 I1 _ hk1 => ?_)
  have J := md_keep J hap hk1 I1.2.2.2
  have I : cfI D dA dB h (newA s) s H1 locs1 (setc cap (xs (i + 1)) (xs (i + 2)) (xs (i + 3)), rm, F, ff, ln, jn, ti, ab, st) := I1
  refine lv_aload_n G.1 G.2.1 dL_law_119 rfl (lv_at hl 2 rfl) ?_
  refine lv_aload_n G.1 G.2.1 dL_law_120 rfl (lv_at hl 0 rfl) ?_
  refine lv_iload_n G.1 G.2.1 dL_law_121 rfl (lv_at hl 3 rfl) ?_
  refine n_iconst (a := 1) G dL_law_122 (by decide) ?_
  refine n_iadd G dL_law_123 ?_
  refine s_ld G hX hbl hbA I.2.2.2 (by omega) hL dL_law_124 ?_
  refine lv_aload_n G.1 G.2.1 dL_law_125 rfl (lv_at hl 0 rfl) ?_
  refine lv_iload_n G.1 G.2.1 dL_law_126 rfl (lv_at hl 3 rfl) ?_
  refine n_iconst (a := 2) G dL_law_127 (by decide) ?_
  refine n_iadd G dL_law_128 ?_
  refine s_ld G hX hbl hbA I.2.2.2 (by omega) hL dL_law_129 ?_
  refine lv_aload_n G.1 G.2.1 dL_law_130 rfl (lv_at hl 0 rfl) ?_
  refine lv_iload_n G.1 G.2.1 dL_law_131 rfl (lv_at hl 3 rfl) ?_
  refine n_iconst (a := 3) G dL_law_132 (by decide) ?_
  refine n_iadd G dL_law_133 ?_
  refine s_ld G hX hbl hbA I.2.2.2 (by omega) hL dL_law_134 ?_
  refine md_mi (rest := [.int r1]) G J (met_mset l D dA dB g cap  (xs (i + 1)) (xs (i + 2)) (xs (i + 3))) cwl_X1_set (by decide) rfl hl.1 (Nat.le_of_ble_eq_true rfl) rfl dL_law_135 (fun r2 u2 H2 locs2 hr2 J2 _ hk2 => ?_)
  have I := cf_keep I hap hk2 J2.2.2.2
  have J : mdI D dA dB g (newA s) s H2 locs2 (setc cap (xs (i + 1)) (xs (i + 2)) (xs (i + 3))) := J2
  refine lv_icmp_eq (tgt := 499) G.1 G.2.1 dL_law_138 (by decide) (fun c_138 => ?_) (fun c_138 => ?_)
  · exact K _ _ _ _ _ _ _ _ _ _ _ (setc_ok hc h30 (xs (i + 1)) (xs (i + 2)) (xs (i + 3))).1 (setc_ok hc h30 (xs (i + 1)) (xs (i + 2)) (xs (i + 3))).2 I J
  · exact absurd (hr1.trans hr2.symm) c_138
set_option maxHeartbeats 4000000 in
set_option maxRecDepth 100000 in
theorem lc_capacity (hL : L ≤ 320) (hX : va_X b L xs s s.heap) (hbl : b < s.heap.size) (G : CallFix p m c code 4 s #[Value.ref b] lw_all R_law) (hap : ∀ k, k < 9 → h k ≠ g 0 ∧ h k ≠ g 1) (hi : i + 5 ≤ L) (hc : CutOK cap) (h30 : ∀ k, k < 36 → cap k ≤ 30) (I : cfI D dA dB h (newA s) s H locs (cap, rm, F, ff, ln, jn, ti, ab, st)) (J : mdI D dA dB g (newA s) s H locs cap) (hl : lv_has ls 4 [(0, .ref b), (1, .ref (h 0)), (2, .ref (g 0)), (3, .int (nI i))]) (K : ∀ (cap rm : Nat → Nat) (F : Nat) (ff : Nat → Int32) (ln jn ti ab st : Nat → Nat) (H : Heap) (locs : List Loc), CutOK cap → (∀ k, k < 36 → cap k ≤ 30) → cfI D dA dB h (newA s) s H locs (cap, rm, F, ff, ln, jn, ti, ab, st) → mdI D dA dB g (newA s) s H locs cap → W p l e room_1 s m #[Value.ref b] below meth c H locs 11 186 Q (F0 m 499 ls [])) : W p l e room_1 s m #[Value.ref b] below meth c H locs 11 186 Q (F0 m 143 ls []) := by
  have hbA : ¬ newA s b := Nat.not_le.mpr hbl
  refine lv_aload_n G.1 G.2.1 dL_law_143 rfl (lv_at hl 1 rfl) ?_
  refine lv_aload_n G.1 G.2.1 dL_law_144 rfl (lv_at hl 0 rfl) ?_
  refine lv_iload_n G.1 G.2.1 dL_law_145 rfl (lv_at hl 3 rfl) ?_
  refine n_iconst (a := 1) G dL_law_146 (by decide) ?_
  refine n_iadd G dL_law_147 ?_
  refine s_ld G hX hbl hbA I.2.2.2 (by omega) hL dL_law_148 ?_
  refine lv_aload_n G.1 G.2.1 dL_law_149 rfl (lv_at hl 0 rfl) ?_
  refine lv_iload_n G.1 G.2.1 dL_law_150 rfl (lv_at hl 3 rfl) ?_
  refine n_iconst (a := 2) G dL_law_151 (by decide) ?_
  refine n_iadd G dL_law_152 ?_
  refine s_ld G hX hbl hbA I.2.2.2 (by omega) hL dL_law_153 ?_
  refine cf_ro (rest := []) G I (met_capacity l D dA dB h (cap := cap) (rm := rm) (F := F) (ff := ff) (ln := ln) (jn := jn) (ti := ti) (ab := ab) (st := st)  (xs (i + 1)) (xs (i + 2))) cwl_X0_capacity (by decide) rfl hl.1 (Nat.le_of_ble_eq_true rfl) rfl dL_law_154 (fun r1 hr1 => ?_)
  refine lv_aload_n G.1 G.2.1 dL_law_157 rfl (lv_at hl 2 rfl) ?_
  refine lv_aload_n G.1 G.2.1 dL_law_158 rfl (lv_at hl 0 rfl) ?_
  refine lv_iload_n G.1 G.2.1 dL_law_159 rfl (lv_at hl 3 rfl) ?_
  refine n_iconst (a := 1) G dL_law_160 (by decide) ?_
  refine n_iadd G dL_law_161 ?_
  refine s_ld G hX hbl hbA I.2.2.2 (by omega) hL dL_law_162 ?_
  refine lv_aload_n G.1 G.2.1 dL_law_163 rfl (lv_at hl 0 rfl) ?_
  refine lv_iload_n G.1 G.2.1 dL_law_164 rfl (lv_at hl 3 rfl) ?_
  refine n_iconst (a := 2) G dL_law_165 (by decide) ?_
  refine n_iadd G dL_law_166 ?_
  refine s_ld G hX hbl hbA I.2.2.2 (by omega) hL dL_law_167 ?_
  refine md_ro (rest := [.int r1]) G J (met_mcapacity l D dA dB g cap  (xs (i + 1)) (xs (i + 2))) cwl_X1_capacity (by decide) rfl hl.1 (Nat.le_of_ble_eq_true rfl) rfl dL_law_168 (fun r2 hr2 => ?_)
  refine lv_icmp_eq (tgt := 499) G.1 G.2.1 dL_law_171 (by decide) (fun c_171 => ?_) (fun c_171 => ?_)
  · exact K _ _ _ _ _ _ _ _ _ _ _ hc h30 I J
  · exact absurd (capP_uniq hr1 hr2) c_171
set_option maxHeartbeats 4000000 in
set_option maxRecDepth 100000 in
theorem lc_cost (hL : L ≤ 320) (hX : va_X b L xs s s.heap) (hbl : b < s.heap.size) (G : CallFix p m c code 4 s #[Value.ref b] lw_all R_law) (hap : ∀ k, k < 9 → h k ≠ g 0 ∧ h k ≠ g 1) (hi : i + 5 ≤ L) (hc : CutOK cap) (h30 : ∀ k, k < 36 → cap k ≤ 30) (I : cfI D dA dB h (newA s) s H locs (cap, rm, F, ff, ln, jn, ti, ab, st)) (J : mdI D dA dB g (newA s) s H locs cap) (hl : lv_has ls 4 [(0, .ref b), (1, .ref (h 0)), (2, .ref (g 0)), (3, .int (nI i))]) (K : ∀ (cap rm : Nat → Nat) (F : Nat) (ff : Nat → Int32) (ln jn ti ab st : Nat → Nat) (H : Heap) (locs : List Loc), CutOK cap → (∀ k, k < 36 → cap k ≤ 30) → cfI D dA dB h (newA s) s H locs (cap, rm, F, ff, ln, jn, ti, ab, st) → mdI D dA dB g (newA s) s H locs cap → W p l e room_1 s m #[Value.ref b] below meth c H locs 11 186 Q (F0 m 499 ls [])) : W p l e room_1 s m #[Value.ref b] below meth c H locs 11 186 Q (F0 m 176 ls []) := by
  have hbA : ¬ newA s b := Nat.not_le.mpr hbl
  refine lv_aload_n G.1 G.2.1 dL_law_176 rfl (lv_at hl 1 rfl) ?_
  refine lv_aload_n G.1 G.2.1 dL_law_177 rfl (lv_at hl 0 rfl) ?_
  refine lv_iload_n G.1 G.2.1 dL_law_178 rfl (lv_at hl 3 rfl) ?_
  refine n_iconst (a := 1) G dL_law_179 (by decide) ?_
  refine n_iadd G dL_law_180 ?_
  refine s_ld G hX hbl hbA I.2.2.2 (by omega) hL dL_law_181 ?_
  refine cf_ro (rest := []) G I (met_cost l D dA dB h (cap := cap) (rm := rm) (F := F) (ff := ff) (ln := ln) (jn := jn) (ti := ti) (ab := ab) (st := st)  (xs (i + 1))) cwl_X0_cost (by decide) rfl hl.1 (Nat.le_of_ble_eq_true rfl) rfl dL_law_182 (fun r1 hr1 => ?_)
  refine lv_aload_n G.1 G.2.1 dL_law_185 rfl (lv_at hl 2 rfl) ?_
  refine lv_aload_n G.1 G.2.1 dL_law_186 rfl (lv_at hl 0 rfl) ?_
  refine lv_iload_n G.1 G.2.1 dL_law_187 rfl (lv_at hl 3 rfl) ?_
  refine n_iconst (a := 1) G dL_law_188 (by decide) ?_
  refine n_iadd G dL_law_189 ?_
  refine s_ld G hX hbl hbA I.2.2.2 (by omega) hL dL_law_190 ?_
  refine md_ro (rest := [.int r1]) G J (met_mcost l D dA dB g cap  (xs (i + 1))) cwl_X1_cost (by decide) rfl hl.1 (Nat.le_of_ble_eq_true rfl) rfl dL_law_191 (fun r2 hr2 => ?_)
  refine lv_icmp_eq (tgt := 499) G.1 G.2.1 dL_law_194 (by decide) (fun c_194 => ?_) (fun c_194 => ?_)
  · exact K _ _ _ _ _ _ _ _ _ _ _ hc h30 I J
  · exact absurd (cosP_uniq hr1 hr2) c_194
set_option maxHeartbeats 4000000 in
set_option maxRecDepth 100000 in
theorem lc_least (hL : L ≤ 320) (hX : va_X b L xs s s.heap) (hbl : b < s.heap.size) (G : CallFix p m c code 4 s #[Value.ref b] lw_all R_law) (hap : ∀ k, k < 9 → h k ≠ g 0 ∧ h k ≠ g 1) (hi : i + 5 ≤ L) (hc : CutOK cap) (h30 : ∀ k, k < 36 → cap k ≤ 30) (I : cfI D dA dB h (newA s) s H locs (cap, rm, F, ff, ln, jn, ti, ab, st)) (J : mdI D dA dB g (newA s) s H locs cap) (hl : lv_has ls 4 [(0, .ref b), (1, .ref (h 0)), (2, .ref (g 0)), (3, .int (nI i))]) (K : ∀ (cap rm : Nat → Nat) (F : Nat) (ff : Nat → Int32) (ln jn ti ab st : Nat → Nat) (H : Heap) (locs : List Loc), CutOK cap → (∀ k, k < 36 → cap k ≤ 30) → cfI D dA dB h (newA s) s H locs (cap, rm, F, ff, ln, jn, ti, ab, st) → mdI D dA dB g (newA s) s H locs cap → W p l e room_1 s m #[Value.ref b] below meth c H locs 11 186 Q (F0 m 499 ls [])) : W p l e room_1 s m #[Value.ref b] below meth c H locs 11 186 Q (F0 m 199 ls []) := by
  have hbA : ¬ newA s b := Nat.not_le.mpr hbl
  refine lv_aload_n G.1 G.2.1 dL_law_199 rfl (lv_at hl 1 rfl) ?_
  refine cf_mi (rest := []) G I (met_least l D dA dB h (cap := cap) (rm := rm) (F := F) (ff := ff) (ln := ln) (jn := jn) (ti := ti) (ab := ab) (st := st) hc ) cwl_X0_least (by decide) rfl hl.1 (Nat.le_of_ble_eq_true rfl) rfl dL_law_200 (fun r1 u H1 locs1 hr1 I1 _ hk1 => ?_)
  have J := md_keep J hap hk1 I1.2.2.2
  obtain ⟨rm1, F1, ff1, ln1, jn1, ti1, ab1, st1⟩ := u
  have I : cfI D dA dB h (newA s) s H1 locs1 (cap, rm1, F1, ff1, ln1, jn1, ti1, ab1, st1) := I1
  refine lv_aload_n G.1 G.2.1 dL_law_203 rfl (lv_at hl 2 rfl) ?_
  refine md_ro (rest := [.int r1]) G J (met_mleast l D dA dB g cap hc ) cwl_X1_least (by decide) rfl hl.1 (Nat.le_of_ble_eq_true rfl) rfl dL_law_204 (fun r2 hr2 => ?_)
  refine lv_icmp_eq (tgt := 499) G.1 G.2.1 dL_law_207 (by decide) (fun c_207 => ?_) (fun c_207 => ?_)
  · exact K _ _ _ _ _ _ _ _ _ _ _ hc h30 I J
  · exact absurd (leaP_uniq hr1 hr2) c_207
set_option maxHeartbeats 4000000 in
set_option maxRecDepth 100000 in
theorem lc_leastSide (hL : L ≤ 320) (hX : va_X b L xs s s.heap) (hbl : b < s.heap.size) (G : CallFix p m c code 4 s #[Value.ref b] lw_all R_law) (hap : ∀ k, k < 9 → h k ≠ g 0 ∧ h k ≠ g 1) (hi : i + 5 ≤ L) (hc : CutOK cap) (h30 : ∀ k, k < 36 → cap k ≤ 30) (I : cfI D dA dB h (newA s) s H locs (cap, rm, F, ff, ln, jn, ti, ab, st)) (J : mdI D dA dB g (newA s) s H locs cap) (hl : lv_has ls 4 [(0, .ref b), (1, .ref (h 0)), (2, .ref (g 0)), (3, .int (nI i))]) (K : ∀ (cap rm : Nat → Nat) (F : Nat) (ff : Nat → Int32) (ln jn ti ab st : Nat → Nat) (H : Heap) (locs : List Loc), CutOK cap → (∀ k, k < 36 → cap k ≤ 30) → cfI D dA dB h (newA s) s H locs (cap, rm, F, ff, ln, jn, ti, ab, st) → mdI D dA dB g (newA s) s H locs cap → W p l e room_1 s m #[Value.ref b] below meth c H locs 11 186 Q (F0 m 499 ls [])) : W p l e room_1 s m #[Value.ref b] below meth c H locs 11 186 Q (F0 m 212 ls []) := by
  have hbA : ¬ newA s b := Nat.not_le.mpr hbl
  refine lv_aload_n G.1 G.2.1 dL_law_212 rfl (lv_at hl 1 rfl) ?_
  refine cf_mi (rest := []) G I (met_leastSide l D dA dB h (cap := cap) (rm := rm) (F := F) (ff := ff) (ln := ln) (jn := jn) (ti := ti) (ab := ab) (st := st) hc ) cwl_X0_leastSide (by decide) rfl hl.1 (Nat.le_of_ble_eq_true rfl) rfl dL_law_213 (fun r1 u H1 locs1 hr1 I1 _ hk1 => ?_)
  have J := md_keep J hap hk1 I1.2.2.2
  obtain ⟨rm1, F1, ff1, ln1, jn1, ti1, ab1, st1⟩ := u
  have I : cfI D dA dB h (newA s) s H1 locs1 (cap, rm1, F1, ff1, ln1, jn1, ti1, ab1, st1) := I1
  refine lv_aload_n G.1 G.2.1 dL_law_216 rfl (lv_at hl 2 rfl) ?_
  refine md_ro (rest := [.int r1]) G J (met_mleastSide l D dA dB g cap hc ) cwl_X1_leastSide (by decide) rfl hl.1 (Nat.le_of_ble_eq_true rfl) rfl dL_law_217 (fun r2 hr2 => ?_)
  refine lv_icmp_eq (tgt := 499) G.1 G.2.1 dL_law_220 (by decide) (fun c_220 => ?_) (fun c_220 => ?_)
  · exact K _ _ _ _ _ _ _ _ _ _ _ hc h30 I J
  · exact absurd (lsdP_uniq hr1 hr2) c_220
set_option maxHeartbeats 4000000 in
set_option maxRecDepth 100000 in
theorem lc_between (hL : L ≤ 320) (hX : va_X b L xs s s.heap) (hbl : b < s.heap.size) (G : CallFix p m c code 4 s #[Value.ref b] lw_all R_law) (hap : ∀ k, k < 9 → h k ≠ g 0 ∧ h k ≠ g 1) (hi : i + 5 ≤ L) (hc : CutOK cap) (h30 : ∀ k, k < 36 → cap k ≤ 30) (I : cfI D dA dB h (newA s) s H locs (cap, rm, F, ff, ln, jn, ti, ab, st)) (J : mdI D dA dB g (newA s) s H locs cap) (hl : lv_has ls 4 [(0, .ref b), (1, .ref (h 0)), (2, .ref (g 0)), (3, .int (nI i))]) (K : ∀ (cap rm : Nat → Nat) (F : Nat) (ff : Nat → Int32) (ln jn ti ab st : Nat → Nat) (H : Heap) (locs : List Loc), CutOK cap → (∀ k, k < 36 → cap k ≤ 30) → cfI D dA dB h (newA s) s H locs (cap, rm, F, ff, ln, jn, ti, ab, st) → mdI D dA dB g (newA s) s H locs cap → W p l e room_1 s m #[Value.ref b] below meth c H locs 11 186 Q (F0 m 499 ls [])) : W p l e room_1 s m #[Value.ref b] below meth c H locs 11 186 Q (F0 m 225 ls []) := by
  have hbA : ¬ newA s b := Nat.not_le.mpr hbl
  refine lv_aload_n G.1 G.2.1 dL_law_225 rfl (lv_at hl 1 rfl) ?_
  refine lv_aload_n G.1 G.2.1 dL_law_226 rfl (lv_at hl 0 rfl) ?_
  refine lv_iload_n G.1 G.2.1 dL_law_227 rfl (lv_at hl 3 rfl) ?_
  refine n_iconst (a := 1) G dL_law_228 (by decide) ?_
  refine n_iadd G dL_law_229 ?_
  refine s_ld G hX hbl hbA I.2.2.2 (by omega) hL dL_law_230 ?_
  refine lv_aload_n G.1 G.2.1 dL_law_231 rfl (lv_at hl 0 rfl) ?_
  refine lv_iload_n G.1 G.2.1 dL_law_232 rfl (lv_at hl 3 rfl) ?_
  refine n_iconst (a := 2) G dL_law_233 (by decide) ?_
  refine n_iadd G dL_law_234 ?_
  refine s_ld G hX hbl hbA I.2.2.2 (by omega) hL dL_law_235 ?_
  refine cf_mi (rest := []) G I (met_between l D dA dB h (cap := cap) (rm := rm) (F := F) (ff := ff) (ln := ln) (jn := jn) (ti := ti) (ab := ab) (st := st) hc (xs (i + 1)) (xs (i + 2))) cwl_X0_between (by decide) rfl hl.1 (Nat.le_of_ble_eq_true rfl) rfl dL_law_236 (fun r1 u H1 locs1 hr1 I1 _ hk1 => ?_)
  have J := md_keep J hap hk1 I1.2.2.2
  obtain ⟨rm1, F1, ff1, ln1, jn1, ti1, ab1, st1⟩ := u
  have I : cfI D dA dB h (newA s) s H1 locs1 (cap, rm1, F1, ff1, ln1, jn1, ti1, ab1, st1) := I1
  refine lv_aload_n G.1 G.2.1 dL_law_239 rfl (lv_at hl 2 rfl) ?_
  refine lv_aload_n G.1 G.2.1 dL_law_240 rfl (lv_at hl 0 rfl) ?_
  refine lv_iload_n G.1 G.2.1 dL_law_241 rfl (lv_at hl 3 rfl) ?_
  refine n_iconst (a := 1) G dL_law_242 (by decide) ?_
  refine n_iadd G dL_law_243 ?_
  refine s_ld G hX hbl hbA I.2.2.2 (by omega) hL dL_law_244 ?_
  refine lv_aload_n G.1 G.2.1 dL_law_245 rfl (lv_at hl 0 rfl) ?_
  refine lv_iload_n G.1 G.2.1 dL_law_246 rfl (lv_at hl 3 rfl) ?_
  refine n_iconst (a := 2) G dL_law_247 (by decide) ?_
  refine n_iadd G dL_law_248 ?_
  refine s_ld G hX hbl hbA I.2.2.2 (by omega) hL dL_law_249 ?_
  refine md_ro (rest := [.int r1]) G J (met_mbetween l D dA dB g cap hc (xs (i + 1)) (xs (i + 2))) cwl_X1_between (by decide) rfl hl.1 (Nat.le_of_ble_eq_true rfl) rfl dL_law_250 (fun r2 hr2 => ?_)
  refine lv_icmp_eq (tgt := 499) G.1 G.2.1 dL_law_253 (by decide) (fun c_253 => ?_) (fun c_253 => ?_)
  · exact K _ _ _ _ _ _ _ _ _ _ _ hc h30 I J
  · exact absurd (betP_uniq hr1 hr2) c_253
set_option maxHeartbeats 4000000 in
set_option maxRecDepth 100000 in
theorem lc_core (hL : L ≤ 320) (hX : va_X b L xs s s.heap) (hbl : b < s.heap.size) (G : CallFix p m c code 4 s #[Value.ref b] lw_all R_law) (hap : ∀ k, k < 9 → h k ≠ g 0 ∧ h k ≠ g 1) (hi : i + 5 ≤ L) (hc : CutOK cap) (h30 : ∀ k, k < 36 → cap k ≤ 30) (I : cfI D dA dB h (newA s) s H locs (cap, rm, F, ff, ln, jn, ti, ab, st)) (J : mdI D dA dB g (newA s) s H locs cap) (hl : lv_has ls 4 [(0, .ref b), (1, .ref (h 0)), (2, .ref (g 0)), (3, .int (nI i))]) (K : ∀ (cap rm : Nat → Nat) (F : Nat) (ff : Nat → Int32) (ln jn ti ab st : Nat → Nat) (H : Heap) (locs : List Loc), CutOK cap → (∀ k, k < 36 → cap k ≤ 30) → cfI D dA dB h (newA s) s H locs (cap, rm, F, ff, ln, jn, ti, ab, st) → mdI D dA dB g (newA s) s H locs cap → W p l e room_1 s m #[Value.ref b] below meth c H locs 11 186 Q (F0 m 499 ls [])) : W p l e room_1 s m #[Value.ref b] below meth c H locs 11 186 Q (F0 m 258 ls []) := by
  have hbA : ¬ newA s b := Nat.not_le.mpr hbl
  refine lv_aload_n G.1 G.2.1 dL_law_258 rfl (lv_at hl 1 rfl) ?_
  refine lv_aload_n G.1 G.2.1 dL_law_259 rfl (lv_at hl 0 rfl) ?_
  refine lv_iload_n G.1 G.2.1 dL_law_260 rfl (lv_at hl 3 rfl) ?_
  refine n_iconst (a := 1) G dL_law_261 (by decide) ?_
  refine n_iadd G dL_law_262 ?_
  refine s_ld G hX hbl hbA I.2.2.2 (by omega) hL dL_law_263 ?_
  refine lv_aload_n G.1 G.2.1 dL_law_264 rfl (lv_at hl 0 rfl) ?_
  refine lv_iload_n G.1 G.2.1 dL_law_265 rfl (lv_at hl 3 rfl) ?_
  refine n_iconst (a := 2) G dL_law_266 (by decide) ?_
  refine n_iadd G dL_law_267 ?_
  refine s_ld G hX hbl hbA I.2.2.2 (by omega) hL dL_law_268 ?_
  refine cf_mi (rest := []) G I (met_core l D dA dB h (cap := cap) (rm := rm) (F := F) (ff := ff) (ln := ln) (jn := jn) (ti := ti) (ab := ab) (st := st) hc (xs (i + 1)) (xs (i + 2))) cwl_X0_core (by decide) rfl hl.1 (Nat.le_of_ble_eq_true rfl) rfl dL_law_269 (fun r1 u H1 locs1 hr1 I1 _ hk1 => ?_)
  have J := md_keep J hap hk1 I1.2.2.2
  obtain ⟨rm1, F1, ff1, ln1, jn1, ti1, ab1, st1⟩ := u
  have I : cfI D dA dB h (newA s) s H1 locs1 (cap, rm1, F1, ff1, ln1, jn1, ti1, ab1, st1) := I1
  refine lv_aload_n G.1 G.2.1 dL_law_272 rfl (lv_at hl 2 rfl) ?_
  refine lv_aload_n G.1 G.2.1 dL_law_273 rfl (lv_at hl 0 rfl) ?_
  refine lv_iload_n G.1 G.2.1 dL_law_274 rfl (lv_at hl 3 rfl) ?_
  refine n_iconst (a := 1) G dL_law_275 (by decide) ?_
  refine n_iadd G dL_law_276 ?_
  refine s_ld G hX hbl hbA I.2.2.2 (by omega) hL dL_law_277 ?_
  refine lv_aload_n G.1 G.2.1 dL_law_278 rfl (lv_at hl 0 rfl) ?_
  refine lv_iload_n G.1 G.2.1 dL_law_279 rfl (lv_at hl 3 rfl) ?_
  refine n_iconst (a := 2) G dL_law_280 (by decide) ?_
  refine n_iadd G dL_law_281 ?_
  refine s_ld G hX hbl hbA I.2.2.2 (by omega) hL dL_law_282 ?_
  refine md_ro (rest := [.int r1]) G J (met_mcore l D dA dB g cap hc (xs (i + 1)) (xs (i + 2))) cwl_X1_core (by decide) rfl hl.1 (Nat.le_of_ble_eq_true rfl) rfl dL_law_283 (fun r2 hr2 => ?_)
  refine lv_icmp_eq (tgt := 499) G.1 G.2.1 dL_law_286 (by decide) (fun c_286 => ?_) (fun c_286 => ?_)
  · exact K _ _ _ _ _ _ _ _ _ _ _ hc h30 I J
  · exact absurd (corP_uniq hr1 hr2) c_286
set_option maxHeartbeats 4000000 in
set_option maxRecDepth 100000 in
theorem lc_reach (hL : L ≤ 320) (hX : va_X b L xs s s.heap) (hbl : b < s.heap.size) (G : CallFix p m c code 4 s #[Value.ref b] lw_all R_law) (hap : ∀ k, k < 9 → h k ≠ g 0 ∧ h k ≠ g 1) (hi : i + 5 ≤ L) (hc : CutOK cap) (h30 : ∀ k, k < 36 → cap k ≤ 30) (I : cfI D dA dB h (newA s) s H locs (cap, rm, F, ff, ln, jn, ti, ab, st)) (J : mdI D dA dB g (newA s) s H locs cap) (hl : lv_has ls 4 [(0, .ref b), (1, .ref (h 0)), (2, .ref (g 0)), (3, .int (nI i))]) (K : ∀ (cap rm : Nat → Nat) (F : Nat) (ff : Nat → Int32) (ln jn ti ab st : Nat → Nat) (H : Heap) (locs : List Loc), CutOK cap → (∀ k, k < 36 → cap k ≤ 30) → cfI D dA dB h (newA s) s H locs (cap, rm, F, ff, ln, jn, ti, ab, st) → mdI D dA dB g (newA s) s H locs cap → W p l e room_1 s m #[Value.ref b] below meth c H locs 11 186 Q (F0 m 499 ls [])) : W p l e room_1 s m #[Value.ref b] below meth c H locs 11 186 Q (F0 m 291 ls []) := by
  have hbA : ¬ newA s b := Nat.not_le.mpr hbl
  refine lv_aload_n G.1 G.2.1 dL_law_291 rfl (lv_at hl 1 rfl) ?_
  refine lv_aload_n G.1 G.2.1 dL_law_292 rfl (lv_at hl 0 rfl) ?_
  refine lv_iload_n G.1 G.2.1 dL_law_293 rfl (lv_at hl 3 rfl) ?_
  refine n_iconst (a := 1) G dL_law_294 (by decide) ?_
  refine n_iadd G dL_law_295 ?_
  refine s_ld G hX hbl hbA I.2.2.2 (by omega) hL dL_law_296 ?_
  refine lv_aload_n G.1 G.2.1 dL_law_297 rfl (lv_at hl 0 rfl) ?_
  refine lv_iload_n G.1 G.2.1 dL_law_298 rfl (lv_at hl 3 rfl) ?_
  refine n_iconst (a := 2) G dL_law_299 (by decide) ?_
  refine n_iadd G dL_law_300 ?_
  refine s_ld G hX hbl hbA I.2.2.2 (by omega) hL dL_law_301 ?_
  refine cf_mi (rest := []) G I (met_reach l D dA dB h (cap := cap) (rm := rm) (F := F) (ff := ff) (ln := ln) (jn := jn) (ti := ti) (ab := ab) (st := st) hc (xs (i + 1)) (xs (i + 2))) cwl_X0_reach (by decide) rfl hl.1 (Nat.le_of_ble_eq_true rfl) rfl dL_law_302 (fun r1 u H1 locs1 hr1 I1 _ hk1 => ?_)
  have J := md_keep J hap hk1 I1.2.2.2
  obtain ⟨rm1, F1, ff1, ln1, jn1, ti1, ab1, st1⟩ := u
  have I : cfI D dA dB h (newA s) s H1 locs1 (cap, rm1, F1, ff1, ln1, jn1, ti1, ab1, st1) := I1
  refine lv_aload_n G.1 G.2.1 dL_law_305 rfl (lv_at hl 2 rfl) ?_
  refine lv_aload_n G.1 G.2.1 dL_law_306 rfl (lv_at hl 0 rfl) ?_
  refine lv_iload_n G.1 G.2.1 dL_law_307 rfl (lv_at hl 3 rfl) ?_
  refine n_iconst (a := 1) G dL_law_308 (by decide) ?_
  refine n_iadd G dL_law_309 ?_
  refine s_ld G hX hbl hbA I.2.2.2 (by omega) hL dL_law_310 ?_
  refine lv_aload_n G.1 G.2.1 dL_law_311 rfl (lv_at hl 0 rfl) ?_
  refine lv_iload_n G.1 G.2.1 dL_law_312 rfl (lv_at hl 3 rfl) ?_
  refine n_iconst (a := 2) G dL_law_313 (by decide) ?_
  refine n_iadd G dL_law_314 ?_
  refine s_ld G hX hbl hbA I.2.2.2 (by omega) hL dL_law_315 ?_
  refine md_ro (rest := [.int r1]) G J (met_mreach l D dA dB g cap hc (xs (i + 1)) (xs (i + 2))) cwl_X1_reach (by decide) rfl hl.1 (Nat.le_of_ble_eq_true rfl) rfl dL_law_316 (fun r2 hr2 => ?_)
  refine lv_icmp_eq (tgt := 499) G.1 G.2.1 dL_law_319 (by decide) (fun c_319 => ?_) (fun c_319 => ?_)
  · exact K _ _ _ _ _ _ _ _ _ _ _ hc h30 I J
  · exact absurd (reaP_uniq hr1 hr2) c_319
set_option maxHeartbeats 4000000 in
set_option maxRecDepth 100000 in
theorem lc_forced (hL : L ≤ 320) (hX : va_X b L xs s s.heap) (hbl : b < s.heap.size) (G : CallFix p m c code 4 s #[Value.ref b] lw_all R_law) (hap : ∀ k, k < 9 → h k ≠ g 0 ∧ h k ≠ g 1) (hi : i + 5 ≤ L) (hc : CutOK cap) (h30 : ∀ k, k < 36 → cap k ≤ 30) (I : cfI D dA dB h (newA s) s H locs (cap, rm, F, ff, ln, jn, ti, ab, st)) (J : mdI D dA dB g (newA s) s H locs cap) (hl : lv_has ls 4 [(0, .ref b), (1, .ref (h 0)), (2, .ref (g 0)), (3, .int (nI i))]) (K : ∀ (cap rm : Nat → Nat) (F : Nat) (ff : Nat → Int32) (ln jn ti ab st : Nat → Nat) (H : Heap) (locs : List Loc), CutOK cap → (∀ k, k < 36 → cap k ≤ 30) → cfI D dA dB h (newA s) s H locs (cap, rm, F, ff, ln, jn, ti, ab, st) → mdI D dA dB g (newA s) s H locs cap → W p l e room_1 s m #[Value.ref b] below meth c H locs 11 186 Q (F0 m 499 ls [])) : W p l e room_1 s m #[Value.ref b] below meth c H locs 11 186 Q (F0 m 324 ls []) := by
  have hbA : ¬ newA s b := Nat.not_le.mpr hbl
  refine lv_aload_n G.1 G.2.1 dL_law_324 rfl (lv_at hl 1 rfl) ?_
  refine lv_aload_n G.1 G.2.1 dL_law_325 rfl (lv_at hl 0 rfl) ?_
  refine lv_iload_n G.1 G.2.1 dL_law_326 rfl (lv_at hl 3 rfl) ?_
  refine n_iconst (a := 1) G dL_law_327 (by decide) ?_
  refine n_iadd G dL_law_328 ?_
  refine s_ld G hX hbl hbA I.2.2.2 (by omega) hL dL_law_329 ?_
  refine lv_aload_n G.1 G.2.1 dL_law_330 rfl (lv_at hl 0 rfl) ?_
  refine lv_iload_n G.1 G.2.1 dL_law_331 rfl (lv_at hl 3 rfl) ?_
  refine n_iconst (a := 2) G dL_law_332 (by decide) ?_
  refine n_iadd G dL_law_333 ?_
  refine s_ld G hX hbl hbA I.2.2.2 (by omega) hL dL_law_334 ?_
  refine cf_mi (rest := []) G I (met_forced l D dA dB h (cap := cap) (rm := rm) (F := F) (ff := ff) (ln := ln) (jn := jn) (ti := ti) (ab := ab) (st := st) hc (xs (i + 1)) (xs (i + 2))) cwl_X0_forced (by decide) rfl hl.1 (Nat.le_of_ble_eq_true rfl) rfl dL_law_335 (fun r1 u H1 locs1 hr1 I1 _ hk1 => ?_)
  have J := md_keep J hap hk1 I1.2.2.2
  obtain ⟨rm1, F1, ff1, ln1, jn1, ti1, ab1, st1⟩ := u
  have I : cfI D dA dB h (newA s) s H1 locs1 (cap, rm1, F1, ff1, ln1, jn1, ti1, ab1, st1) := I1
  refine lv_aload_n G.1 G.2.1 dL_law_338 rfl (lv_at hl 2 rfl) ?_
  refine lv_aload_n G.1 G.2.1 dL_law_339 rfl (lv_at hl 0 rfl) ?_
  refine lv_iload_n G.1 G.2.1 dL_law_340 rfl (lv_at hl 3 rfl) ?_
  refine n_iconst (a := 1) G dL_law_341 (by decide) ?_
  refine n_iadd G dL_law_342 ?_
  refine s_ld G hX hbl hbA I.2.2.2 (by omega) hL dL_law_343 ?_
  refine lv_aload_n G.1 G.2.1 dL_law_344 rfl (lv_at hl 0 rfl) ?_
  refine lv_iload_n G.1 G.2.1 dL_law_345 rfl (lv_at hl 3 rfl) ?_
  refine n_iconst (a := 2) G dL_law_346 (by decide) ?_
  refine n_iadd G dL_law_347 ?_
  refine s_ld G hX hbl hbA I.2.2.2 (by omega) hL dL_law_348 ?_
  refine md_ro (rest := [.int r1]) G J (met_mforced l D dA dB g cap hc (xs (i + 1)) (xs (i + 2))) cwl_X1_forced (by decide) rfl hl.1 (Nat.le_of_ble_eq_true rfl) rfl dL_law_349 (fun r2 hr2 => ?_)
  refine lv_icmp_eq (tgt := 499) G.1 G.2.1 dL_law_352 (by decide) (fun c_352 => ?_) (fun c_352 => ?_)
  · exact K _ _ _ _ _ _ _ _ _ _ _ hc h30 I J
  · exact absurd (forP_uniq hr1 hr2) c_352
set_option maxHeartbeats 4000000 in
set_option maxRecDepth 100000 in
theorem lc_pairsAtLeast (hL : L ≤ 320) (hX : va_X b L xs s s.heap) (hbl : b < s.heap.size) (G : CallFix p m c code 4 s #[Value.ref b] lw_all R_law) (hap : ∀ k, k < 9 → h k ≠ g 0 ∧ h k ≠ g 1) (hi : i + 5 ≤ L) (hc : CutOK cap) (h30 : ∀ k, k < 36 → cap k ≤ 30) (I : cfI D dA dB h (newA s) s H locs (cap, rm, F, ff, ln, jn, ti, ab, st)) (J : mdI D dA dB g (newA s) s H locs cap) (hl : lv_has ls 4 [(0, .ref b), (1, .ref (h 0)), (2, .ref (g 0)), (3, .int (nI i))]) (K : ∀ (cap rm : Nat → Nat) (F : Nat) (ff : Nat → Int32) (ln jn ti ab st : Nat → Nat) (H : Heap) (locs : List Loc), CutOK cap → (∀ k, k < 36 → cap k ≤ 30) → cfI D dA dB h (newA s) s H locs (cap, rm, F, ff, ln, jn, ti, ab, st) → mdI D dA dB g (newA s) s H locs cap → W p l e room_1 s m #[Value.ref b] below meth c H locs 11 186 Q (F0 m 499 ls [])) : W p l e room_1 s m #[Value.ref b] below meth c H locs 11 186 Q (F0 m 357 ls []) := by
  have hbA : ¬ newA s b := Nat.not_le.mpr hbl
  refine lv_aload_n G.1 G.2.1 dL_law_357 rfl (lv_at hl 1 rfl) ?_
  refine lv_aload_n G.1 G.2.1 dL_law_358 rfl (lv_at hl 0 rfl) ?_
  refine lv_iload_n G.1 G.2.1 dL_law_359 rfl (lv_at hl 3 rfl) ?_
  refine n_iconst (a := 1) G dL_law_360 (by decide) ?_
  refine n_iadd G dL_law_361 ?_
  refine s_ld G hX hbl hbA I.2.2.2 (by omega) hL dL_law_362 ?_
  refine cf_mi (rest := []) G I (met_pairs l D dA dB h (cap := cap) (rm := rm) (F := F) (ff := ff) (ln := ln) (jn := jn) (ti := ti) (ab := ab) (st := st) hc (xs (i + 1))) cwl_X0_pairsAtLeast (by decide) rfl hl.1 (Nat.le_of_ble_eq_true rfl) rfl dL_law_363 (fun r1 u H1 locs1 hr1 I1 _ hk1 => ?_)
  have J := md_keep J hap hk1 I1.2.2.2
  obtain ⟨rm1, F1, ff1, ln1, jn1, ti1, ab1, st1⟩ := u
  have I : cfI D dA dB h (newA s) s H1 locs1 (cap, rm1, F1, ff1, ln1, jn1, ti1, ab1, st1) := I1
  refine lv_aload_n G.1 G.2.1 dL_law_366 rfl (lv_at hl 2 rfl) ?_
  refine lv_aload_n G.1 G.2.1 dL_law_367 rfl (lv_at hl 0 rfl) ?_
  refine lv_iload_n G.1 G.2.1 dL_law_368 rfl (lv_at hl 3 rfl) ?_
  refine n_iconst (a := 1) G dL_law_369 (by decide) ?_
  refine n_iadd G dL_law_370 ?_
  refine s_ld G hX hbl hbA I.2.2.2 (by omega) hL dL_law_371 ?_
  refine md_ro (rest := [.int r1]) G J (met_mpairs l D dA dB g cap hc (xs (i + 1))) cwl_X1_pairsAtLeast (by decide) rfl hl.1 (Nat.le_of_ble_eq_true rfl) rfl dL_law_372 (fun r2 hr2 => ?_)
  refine lv_icmp_eq (tgt := 499) G.1 G.2.1 dL_law_375 (by decide) (fun c_375 => ?_) (fun c_375 => ?_)
  · exact K _ _ _ _ _ _ _ _ _ _ _ hc h30 I J
  · exact absurd ((show r1 = _ from hr1).trans (show r2 = _ from hr2).symm) c_375
set_option maxHeartbeats 4000000 in
set_option maxRecDepth 100000 in
theorem lc_group (hL : L ≤ 320) (hX : va_X b L xs s s.heap) (hbl : b < s.heap.size) (G : CallFix p m c code 4 s #[Value.ref b] lw_all R_law) (hap : ∀ k, k < 9 → h k ≠ g 0 ∧ h k ≠ g 1) (hi : i + 5 ≤ L) (hc : CutOK cap) (h30 : ∀ k, k < 36 → cap k ≤ 30) (I : cfI D dA dB h (newA s) s H locs (cap, rm, F, ff, ln, jn, ti, ab, st)) (J : mdI D dA dB g (newA s) s H locs cap) (hl : lv_has ls 4 [(0, .ref b), (1, .ref (h 0)), (2, .ref (g 0)), (3, .int (nI i))]) (K : ∀ (cap rm : Nat → Nat) (F : Nat) (ff : Nat → Int32) (ln jn ti ab st : Nat → Nat) (H : Heap) (locs : List Loc), CutOK cap → (∀ k, k < 36 → cap k ≤ 30) → cfI D dA dB h (newA s) s H locs (cap, rm, F, ff, ln, jn, ti, ab, st) → mdI D dA dB g (newA s) s H locs cap → W p l e room_1 s m #[Value.ref b] below meth c H locs 11 186 Q (F0 m 499 ls [])) : W p l e room_1 s m #[Value.ref b] below meth c H locs 11 186 Q (F0 m 380 ls []) := by
  have hbA : ¬ newA s b := Nat.not_le.mpr hbl
  refine lv_aload_n G.1 G.2.1 dL_law_380 rfl (lv_at hl 1 rfl) ?_
  refine lv_aload_n G.1 G.2.1 dL_law_381 rfl (lv_at hl 0 rfl) ?_
  refine lv_iload_n G.1 G.2.1 dL_law_382 rfl (lv_at hl 3 rfl) ?_
  refine n_iconst (a := 1) G dL_law_383 (by decide) ?_
  refine n_iadd G dL_law_384 ?_
  refine s_ld G hX hbl hbA I.2.2.2 (by omega) hL dL_law_385 ?_
  refine lv_aload_n G.1 G.2.1 dL_law_386 rfl (lv_at hl 0 rfl) ?_
  refine lv_iload_n G.1 G.2.1 dL_law_387 rfl (lv_at hl 3 rfl) ?_
  refine n_iconst (a := 2) G dL_law_388 (by decide) ?_
  refine n_iadd G dL_law_389 ?_
  refine s_ld G hX hbl hbA I.2.2.2 (by omega) hL dL_law_390 ?_
  refine cf_mi (rest := []) G I (met_group l D dA dB h (cap := cap) (rm := rm) (F := F) (ff := ff) (ln := ln) (jn := jn) (ti := ti) (ab := ab) (st := st) hc (xs (i + 1)) (xs (i + 2))) cwl_X0_group (by decide) rfl hl.1 (Nat.le_of_ble_eq_true rfl) rfl dL_law_391 (fun r1 u H1 locs1 hr1 I1 _ hk1 => ?_)
  have J := md_keep J hap hk1 I1.2.2.2
  obtain ⟨rm1, F1, ff1, ln1, jn1, ti1, ab1, st1⟩ := u
  have I : cfI D dA dB h (newA s) s H1 locs1 (cap, rm1, F1, ff1, ln1, jn1, ti1, ab1, st1) := I1
  refine lv_aload_n G.1 G.2.1 dL_law_394 rfl (lv_at hl 2 rfl) ?_
  refine lv_aload_n G.1 G.2.1 dL_law_395 rfl (lv_at hl 0 rfl) ?_
  refine lv_iload_n G.1 G.2.1 dL_law_396 rfl (lv_at hl 3 rfl) ?_
  refine n_iconst (a := 1) G dL_law_397 (by decide) ?_
  refine n_iadd G dL_law_398 ?_
  refine s_ld G hX hbl hbA I.2.2.2 (by omega) hL dL_law_399 ?_
  refine lv_aload_n G.1 G.2.1 dL_law_400 rfl (lv_at hl 0 rfl) ?_
  refine lv_iload_n G.1 G.2.1 dL_law_401 rfl (lv_at hl 3 rfl) ?_
  refine n_iconst (a := 2) G dL_law_402 (by decide) ?_
  refine n_iadd G dL_law_403 ?_
  refine s_ld G hX hbl hbA I.2.2.2 (by omega) hL dL_law_404 ?_
  refine md_ro (rest := [.int r1]) G J (met_mgroup l D dA dB g cap hc (xs (i + 1)) (xs (i + 2))) cwl_X1_group (by decide) rfl hl.1 (Nat.le_of_ble_eq_true rfl) rfl dL_law_405 (fun r2 hr2 => ?_)
  refine lv_icmp_eq (tgt := 499) G.1 G.2.1 dL_law_408 (by decide) (fun c_408 => ?_) (fun c_408 => ?_)
  · exact K _ _ _ _ _ _ _ _ _ _ _ hc h30 I J
  · exact absurd (grpP_uniq hr1 hr2) c_408
set_option maxHeartbeats 4000000 in
set_option maxRecDepth 100000 in
theorem lc_loss (hL : L ≤ 320) (hX : va_X b L xs s s.heap) (hbl : b < s.heap.size) (G : CallFix p m c code 4 s #[Value.ref b] lw_all R_law) (hap : ∀ k, k < 9 → h k ≠ g 0 ∧ h k ≠ g 1) (hi : i + 5 ≤ L) (hc : CutOK cap) (h30 : ∀ k, k < 36 → cap k ≤ 30) (I : cfI D dA dB h (newA s) s H locs (cap, rm, F, ff, ln, jn, ti, ab, st)) (J : mdI D dA dB g (newA s) s H locs cap) (hl : lv_has ls 4 [(0, .ref b), (1, .ref (h 0)), (2, .ref (g 0)), (3, .int (nI i))]) (K : ∀ (cap rm : Nat → Nat) (F : Nat) (ff : Nat → Int32) (ln jn ti ab st : Nat → Nat) (H : Heap) (locs : List Loc), CutOK cap → (∀ k, k < 36 → cap k ≤ 30) → cfI D dA dB h (newA s) s H locs (cap, rm, F, ff, ln, jn, ti, ab, st) → mdI D dA dB g (newA s) s H locs cap → W p l e room_1 s m #[Value.ref b] below meth c H locs 11 186 Q (F0 m 499 ls [])) : W p l e room_1 s m #[Value.ref b] below meth c H locs 11 186 Q (F0 m 413 ls []) := by
  have hbA : ¬ newA s b := Nat.not_le.mpr hbl
  refine lv_aload_n G.1 G.2.1 dL_law_413 rfl (lv_at hl 1 rfl) ?_
  refine lv_aload_n G.1 G.2.1 dL_law_414 rfl (lv_at hl 0 rfl) ?_
  refine lv_iload_n G.1 G.2.1 dL_law_415 rfl (lv_at hl 3 rfl) ?_
  refine n_iconst (a := 1) G dL_law_416 (by decide) ?_
  refine n_iadd G dL_law_417 ?_
  refine s_ld G hX hbl hbA I.2.2.2 (by omega) hL dL_law_418 ?_
  refine lv_aload_n G.1 G.2.1 dL_law_419 rfl (lv_at hl 0 rfl) ?_
  refine lv_iload_n G.1 G.2.1 dL_law_420 rfl (lv_at hl 3 rfl) ?_
  refine n_iconst (a := 2) G dL_law_421 (by decide) ?_
  refine n_iadd G dL_law_422 ?_
  refine s_ld G hX hbl hbA I.2.2.2 (by omega) hL dL_law_423 ?_
  refine cf_mi (rest := []) G I (met_loss l D dA dB h (cap := cap) (rm := rm) (F := F) (ff := ff) (ln := ln) (jn := jn) (ti := ti) (ab := ab) (st := st) hc (xs (i + 1)) (xs (i + 2))) cwl_X0_loss (by decide) rfl hl.1 (Nat.le_of_ble_eq_true rfl) rfl dL_law_424 (fun r1 u H1 locs1 hr1 I1 _ hk1 => ?_)
  have J := md_keep J hap hk1 I1.2.2.2
  obtain ⟨rm1, F1, ff1, ln1, jn1, ti1, ab1, st1⟩ := u
  have I : cfI D dA dB h (newA s) s H1 locs1 (cap, rm1, F1, ff1, ln1, jn1, ti1, ab1, st1) := I1
  refine lv_aload_n G.1 G.2.1 dL_law_427 rfl (lv_at hl 2 rfl) ?_
  refine lv_aload_n G.1 G.2.1 dL_law_428 rfl (lv_at hl 0 rfl) ?_
  refine lv_iload_n G.1 G.2.1 dL_law_429 rfl (lv_at hl 3 rfl) ?_
  refine n_iconst (a := 1) G dL_law_430 (by decide) ?_
  refine n_iadd G dL_law_431 ?_
  refine s_ld G hX hbl hbA I.2.2.2 (by omega) hL dL_law_432 ?_
  refine lv_aload_n G.1 G.2.1 dL_law_433 rfl (lv_at hl 0 rfl) ?_
  refine lv_iload_n G.1 G.2.1 dL_law_434 rfl (lv_at hl 3 rfl) ?_
  refine n_iconst (a := 2) G dL_law_435 (by decide) ?_
  refine n_iadd G dL_law_436 ?_
  refine s_ld G hX hbl hbA I.2.2.2 (by omega) hL dL_law_437 ?_
  refine md_mi (rest := [.int r1]) G J (met_mloss l D dA dB g cap hc (xs (i + 1)) (xs (i + 2))) cwl_X1_loss (by decide) rfl hl.1 (Nat.le_of_ble_eq_true rfl) rfl dL_law_438 (fun r2 u2 H2 locs2 hr2 J2 _ hk2 => ?_)
  have I := cf_keep I hap hk2 J2.2.2.2
  have J : mdI D dA dB g (newA s) s H2 locs2 cap := J2
  refine lv_icmp_eq (tgt := 499) G.1 G.2.1 dL_law_441 (by decide) (fun c_441 => ?_) (fun c_441 => ?_)
  · exact K _ _ _ _ _ _ _ _ _ _ _ hc h30 I J
  · exact absurd (losP_uniq hr1 hr2) c_441
set_option maxHeartbeats 4000000 in
set_option maxRecDepth 100000 in
theorem lc_tight (hL : L ≤ 320) (hX : va_X b L xs s s.heap) (hbl : b < s.heap.size) (G : CallFix p m c code 4 s #[Value.ref b] lw_all R_law) (hap : ∀ k, k < 9 → h k ≠ g 0 ∧ h k ≠ g 1) (hi : i + 5 ≤ L) (hc : CutOK cap) (h30 : ∀ k, k < 36 → cap k ≤ 30) (I : cfI D dA dB h (newA s) s H locs (cap, rm, F, ff, ln, jn, ti, ab, st)) (J : mdI D dA dB g (newA s) s H locs cap) (hl : lv_has ls 4 [(0, .ref b), (1, .ref (h 0)), (2, .ref (g 0)), (3, .int (nI i))]) (K : ∀ (cap rm : Nat → Nat) (F : Nat) (ff : Nat → Int32) (ln jn ti ab st : Nat → Nat) (H : Heap) (locs : List Loc), CutOK cap → (∀ k, k < 36 → cap k ≤ 30) → cfI D dA dB h (newA s) s H locs (cap, rm, F, ff, ln, jn, ti, ab, st) → mdI D dA dB g (newA s) s H locs cap → W p l e room_1 s m #[Value.ref b] below meth c H locs 11 186 Q (F0 m 499 ls [])) : W p l e room_1 s m #[Value.ref b] below meth c H locs 11 186 Q (F0 m 446 ls []) := by
  have hbA : ¬ newA s b := Nat.not_le.mpr hbl
  refine lv_aload_n G.1 G.2.1 dL_law_446 rfl (lv_at hl 1 rfl) ?_
  refine lv_aload_n G.1 G.2.1 dL_law_447 rfl (lv_at hl 0 rfl) ?_
  refine lv_iload_n G.1 G.2.1 dL_law_448 rfl (lv_at hl 3 rfl) ?_
  refine n_iconst (a := 1) G dL_law_449 (by decide) ?_
  refine n_iadd G dL_law_450 ?_
  refine s_ld G hX hbl hbA I.2.2.2 (by omega) hL dL_law_451 ?_
  refine lv_aload_n G.1 G.2.1 dL_law_452 rfl (lv_at hl 0 rfl) ?_
  refine lv_iload_n G.1 G.2.1 dL_law_453 rfl (lv_at hl 3 rfl) ?_
  refine n_iconst (a := 2) G dL_law_454 (by decide) ?_
  refine n_iadd G dL_law_455 ?_
  refine s_ld G hX hbl hbA I.2.2.2 (by omega) hL dL_law_456 ?_
  refine lv_aload_n G.1 G.2.1 dL_law_457 rfl (lv_at hl 0 rfl) ?_
  refine lv_iload_n G.1 G.2.1 dL_law_458 rfl (lv_at hl 3 rfl) ?_
  refine n_iconst (a := 3) G dL_law_459 (by decide) ?_
  refine n_iadd G dL_law_460 ?_
  refine s_ld G hX hbl hbA I.2.2.2 (by omega) hL dL_law_461 ?_
  refine lv_aload_n G.1 G.2.1 dL_law_462 rfl (lv_at hl 0 rfl) ?_
  refine lv_iload_n G.1 G.2.1 dL_law_463 rfl (lv_at hl 3 rfl) ?_
  refine n_iconst (a := 4) G dL_law_464 (by decide) ?_
  refine n_iadd G dL_law_465 ?_
  refine s_ld G hX hbl hbA I.2.2.2 (by omega) hL dL_law_466 ?_
  refine cf_mi (rest := []) G I (met_tight l D dA dB h (cap := cap) (rm := rm) (F := F) (ff := ff) (ln := ln) (jn := jn) (ti := ti) (ab := ab) (st := st) hc h30 (xs (i + 1)) (xs (i + 2)) (xs (i + 3)) (xs (i + 4))) cwl_X0_tight (by decide) rfl hl.1 (Nat.le_of_ble_eq_true rfl) rfl dL_law_467 (fun r1 u H1 locs1 hr1 I1 _ hk1 => ?_)
  have J := md_keep J hap hk1 I1.2.2.2
  obtain ⟨rm1, F1, ff1, ln1, jn1, ti1, ab1, st1⟩ := u
  have I : cfI D dA dB h (newA s) s H1 locs1 (cap, rm1, F1, ff1, ln1, jn1, ti1, ab1, st1) := I1
  refine lv_aload_n G.1 G.2.1 dL_law_470 rfl (lv_at hl 2 rfl) ?_
  refine lv_aload_n G.1 G.2.1 dL_law_471 rfl (lv_at hl 0 rfl) ?_
  refine lv_iload_n G.1 G.2.1 dL_law_472 rfl (lv_at hl 3 rfl) ?_
  refine n_iconst (a := 1) G dL_law_473 (by decide) ?_
  refine n_iadd G dL_law_474 ?_
  refine s_ld G hX hbl hbA I.2.2.2 (by omega) hL dL_law_475 ?_
  refine lv_aload_n G.1 G.2.1 dL_law_476 rfl (lv_at hl 0 rfl) ?_
  refine lv_iload_n G.1 G.2.1 dL_law_477 rfl (lv_at hl 3 rfl) ?_
  refine n_iconst (a := 2) G dL_law_478 (by decide) ?_
  refine n_iadd G dL_law_479 ?_
  refine s_ld G hX hbl hbA I.2.2.2 (by omega) hL dL_law_480 ?_
  refine lv_aload_n G.1 G.2.1 dL_law_481 rfl (lv_at hl 0 rfl) ?_
  refine lv_iload_n G.1 G.2.1 dL_law_482 rfl (lv_at hl 3 rfl) ?_
  refine n_iconst (a := 3) G dL_law_483 (by decide) ?_
  refine n_iadd G dL_law_484 ?_
  refine s_ld G hX hbl hbA I.2.2.2 (by omega) hL dL_law_485 ?_
  refine lv_aload_n G.1 G.2.1 dL_law_486 rfl (lv_at hl 0 rfl) ?_
  refine lv_iload_n G.1 G.2.1 dL_law_487 rfl (lv_at hl 3 rfl) ?_
  refine n_iconst (a := 4) G dL_law_488 (by decide) ?_
  refine n_iadd G dL_law_489 ?_
  refine s_ld G hX hbl hbA I.2.2.2 (by omega) hL dL_law_490 ?_
  refine md_mi (rest := [.int r1]) G J (met_mtight l D dA dB g cap hc h30 (xs (i + 1)) (xs (i + 2)) (xs (i + 3)) (xs (i + 4))) cwl_X1_tight (by decide) rfl hl.1 (Nat.le_of_ble_eq_true rfl) rfl dL_law_491 (fun r2 u2 H2 locs2 hr2 J2 _ hk2 => ?_)
  have I := cf_keep I hap hk2 J2.2.2.2
  have J : mdI D dA dB g (newA s) s H2 locs2 cap := J2
  refine lv_icmp_eq (tgt := 499) G.1 G.2.1 dL_law_494 (by decide) (fun c_494 => ?_) (fun c_494 => ?_)
  · exact K _ _ _ _ _ _ _ _ _ _ _ hc h30 I J
  · exact absurd (tigP_uniq hr1 hr2) c_494
end LAWC
end
section
set_option maxRecDepth 100000
set_option maxHeartbeats 4000000 in
set_option maxRecDepth 100000 in
theorem law_loop {p : Program} {l : Launch} {e : Env} {s : State} {m : MethodId} {below : List Frame} {meth : Method} {c : Code} {b L : Nat} {xs : Nat → Int32} {D : va_G} {dA dB : ClassId} {h g : Nat → Nat} (hL : L ≤ 320) (C0 : lw_At p s m meth c b L xs) (hap : ∀ k, k < 9 → h k ≠ g 0 ∧ h k ≠ g 1) :
    ∀ (n i : Nat) (cap rm : Nat → Nat) (F : Nat) (ff : Nat → Int32) (ln jn ti ab st : Nat → Nat) (H : Heap) (locs : List Loc), i ≤ L → L + 1 ≤ i + n → CutOK cap → (∀ k, k < 36 → cap k ≤ 30) → cfI D dA dB h (newA s) s H locs (cap, rm, F, ff, ln, jn, ti, ab, st) → mdI D dA dB g (newA s) s H locs cap → ∀ (ls : Array Slot), lv_has ls 4 [(0, .ref b), (1, .ref (h 0)), (2, .ref (g 0)), (3, .int (nI i))] → W p l e room_1 s m #[Value.ref b] below meth c H locs 11 186 (lw_Z below #[Value.ref b] s) (F0 m 18 ls []) := by
  obtain ⟨hx, hb, hr, hml, hown, hts0, hX, hbl, hlocks, hgv⟩ := C0
  have hts : ∀ w ∈ lw_all, w.before #[Value.ref b] s = true := fun w h => hts0 w (lw_all_tbl h)
  have G : CallFix p m c code 4 s #[Value.ref b] lw_all R_law := ⟨hx, hb, hml, hown, hts⟩
  have hbA : ¬ newA s b := Nat.not_le.mpr hbl
  intro n
  induction n with
  | zero =>
    intro i cap rm F ff ln jn ti ab st H locs h1 h2
    exact absurd h2 (by omega)
  | succ n ih =>
    intro i cap rm F ff ln jn ti ab st H locs hi hn hc h30 I J ls hl
    refine lv_iload_n hx hb dL_law_18 rfl (lv_at hl 3 rfl) ?_
    refine lv_aload_n hx hb dL_law_19 rfl (lv_at hl 0 rfl) ?_
    refine va_slen hx hb hX hbl hbA I.2.2.2 dL_law_20 ?_
    refine n_iconst (a := 5) G dL_law_21 (by decide) ?_
    refine lv_isub hx hb dL_law_22 ?_
    refine lv_icmp_gt (tgt := 505) hx hb dL_law_23 (by decide) (fun c_23 => ?_) (fun c_23 => ?_)
    · refine lv_iconst (v := 1) hx hb dL_law_505 (by decide) ?_
      refine va_forget (fun q hq => I.2.2.2.2.2 q hq) ?_
      refine W.widen (k := 600000) (n := 7290000) (Nat.le_of_ble_eq_true rfl) (Nat.le_of_ble_eq_true rfl) ?_
      exact lw_ret hx hb hr hlocks dL_law_506
    have hi5 := lawcond (by omega) hL c_23
    refine lv_aload_n hx hb dL_law_26 rfl (lv_at hl 0 rfl) ?_
    refine lv_iload_n hx hb dL_law_27 rfl (lv_at hl 3 rfl) ?_
    refine s_ld G hX hbl hbA I.2.2.2 (by omega) hL dL_law_28 ?_
    refine n_bipush (a := 15) G dL_law_29 (by decide) ?_
    refine lv_iand hx hb dL_law_31 ?_
    obtain ⟨j, hj, ej⟩ := pk_andE (xs i) (m := nI 15) 4 (by decide)
    rw [ej]
    have K : ∀ (cap rm : Nat → Nat) (F : Nat) (ff : Nat → Int32) (ln jn ti ab st : Nat → Nat) (H : Heap) (locs : List Loc), CutOK cap → (∀ k, k < 36 → cap k ≤ 30) → cfI D dA dB h (newA s) s H locs (cap, rm, F, ff, ln, jn, ti, ab, st) → mdI D dA dB g (newA s) s H locs cap → W p l e room_1 s m #[Value.ref b] below meth c H locs 11 186 (lw_Z below #[Value.ref b] s) (F0 m 499 ls []) := by
      intro cap rm F ff ln jn ti ab st H locs hc h30 I J
      refine n_iinc (b := 5) (lv' := [(3, .int (nI (i + 5))), (0, .ref b), (1, .ref (h 0)), (2, .ref (g 0))]) G dL_law_499 hl (q := 3) rfl (by decide) (by decide) rfl (fun ls hl => ?_)
      refine lv_goto (tgt := 18) G.1 G.2.1 dL_law_502 (by decide) ?_
      exact ih (i + 5) _ _ _ _ _ _ _ _ _ _ _ (by omega) (by omega) hc h30 I J ls (lv_sub hl [1, 2, 3, 0] rfl)
    have hcase : j = 0 ∨ j = 1 ∨ j = 2 ∨ j = 3 ∨ j = 4 ∨ j = 5 ∨ j = 6 ∨ j = 7 ∨ j = 8 ∨ j = 9 ∨ j = 10 ∨ j = 11 ∨ j = 12 ∨ 13 ≤ j := by omega
    rcases hcase with rfl | rfl | rfl | rfl | rfl | rfl | rfl | rfl | rfl | rfl | rfl | rfl | rfl | h13
    · refine lv_tableIn (off := 68) (tgt := 100) hx hb dL_law_32 (by decide) (by decide) (by decide) (by decide) ?_
      exact lc_set hL hX hbl G hap hi5 hc h30 I J hl K
    · refine lv_tableIn (off := 111) (tgt := 143) hx hb dL_law_32 (by decide) (by decide) (by decide) (by decide) ?_
      exact lc_capacity hL hX hbl G hap hi5 hc h30 I J hl K
    · refine lv_tableIn (off := 144) (tgt := 176) hx hb dL_law_32 (by decide) (by decide) (by decide) (by decide) ?_
      exact lc_cost hL hX hbl G hap hi5 hc h30 I J hl K
    · refine lv_tableIn (off := 167) (tgt := 199) hx hb dL_law_32 (by decide) (by decide) (by decide) (by decide) ?_
      exact lc_least hL hX hbl G hap hi5 hc h30 I J hl K
    · refine lv_tableIn (off := 180) (tgt := 212) hx hb dL_law_32 (by decide) (by decide) (by decide) (by decide) ?_
      exact lc_leastSide hL hX hbl G hap hi5 hc h30 I J hl K
    · refine lv_tableIn (off := 193) (tgt := 225) hx hb dL_law_32 (by decide) (by decide) (by decide) (by decide) ?_
      exact lc_between hL hX hbl G hap hi5 hc h30 I J hl K
    · refine lv_tableIn (off := 226) (tgt := 258) hx hb dL_law_32 (by decide) (by decide) (by decide) (by decide) ?_
      exact lc_core hL hX hbl G hap hi5 hc h30 I J hl K
    · refine lv_tableIn (off := 259) (tgt := 291) hx hb dL_law_32 (by decide) (by decide) (by decide) (by decide) ?_
      exact lc_reach hL hX hbl G hap hi5 hc h30 I J hl K
    · refine lv_tableIn (off := 292) (tgt := 324) hx hb dL_law_32 (by decide) (by decide) (by decide) (by decide) ?_
      exact lc_forced hL hX hbl G hap hi5 hc h30 I J hl K
    · refine lv_tableIn (off := 325) (tgt := 357) hx hb dL_law_32 (by decide) (by decide) (by decide) (by decide) ?_
      exact lc_pairsAtLeast hL hX hbl G hap hi5 hc h30 I J hl K
    · refine lv_tableIn (off := 348) (tgt := 380) hx hb dL_law_32 (by decide) (by decide) (by decide) (by decide) ?_
      exact lc_group hL hX hbl G hap hi5 hc h30 I J hl K
    · refine lv_tableIn (off := 381) (tgt := 413) hx hb dL_law_32 (by decide) (by decide) (by decide) (by decide) ?_
      exact lc_loss hL hX hbl G hap hi5 hc h30 I J hl K
    · refine lv_tableIn (off := 414) (tgt := 446) hx hb dL_law_32 (by decide) (by decide) (by decide) (by decide) ?_
      exact lc_tight hL hX hbl G hap hi5 hc h30 I J hl K
    · refine lv_tableOut (tgt := 499) hx hb dL_law_32 (Or.inr (by rw [nI_toInt (by omega)]; omega)) (by decide) ?_
      exact K _ _ _ _ _ _ _ _ _ _ _ hc h30 I J
end
section
set_option maxRecDepth 100000
set_option maxHeartbeats 4000000 in
set_option maxRecDepth 100000 in
/-- from the entry, for every script of at most 320 ints, the law comes to its end with true -/
theorem whole_start {p : Program} {e : Env} {s : State} {m : MethodId} {below : List Frame} {meth : Method} {c : Code} (l : Launch) {b L : Nat} {xs : Nat → Int32} (hL : L ≤ 320) (C0 : lw_At p s m meth c b L xs) : W p l e room_1 s m #[Value.ref b] below meth c s.heap [] 0 0 (lw_Z below #[Value.ref b] s) (entryFrame m ([Value.ref b] : List Value).toArray 4) := by
  obtain ⟨hx, hb, hr, hml, hown, hts0, hX, hbl, hlocks, hgv⟩ := id C0
  have hts : ∀ w ∈ lw_all, w.before #[Value.ref b] s = true := fun w h => hts0 w (lw_all_tbl h)
  have hA : ∀ q : Nat, s.heap.size ≤ q → newA s q := fun _ h => h
  obtain ⟨c0, iS0, hKn0⟩ := u_known (C := RX0) (T := TX0) (N := 9) (n := 9) hts in_X0 (hts _ q17)
  obtain ⟨c1, iS1, hKn1⟩ := u_known (C := RX1) (T := TX1) (N := 1) (n := 1) hts in_X1 (hts _ q156)
  obtain ⟨D, hKc⟩ : ∃ D : va_G, ∀ (k : Nat) (q : vw_C), vwCl[k]? = some q → u_Kn s q.1 q.2.1 q.2.2 (D.1 k) (D.2 k) := by
    refine ⟨(fun k => if k = 0 then c0 else c1, fun k => if k = 0 then iS0 else iS1), ?_⟩
    intro k q hq
    match k, hq with
    | 0, hq => cases hq; exact hKn0
    | 1, hq => cases hq; exact hKn1
    | k + 2, hq => simp [vwCl] at hq
  have hS : va_S (newA s) s.heap s.heap [] := va_S.rf
  have hK : va_K D vwCl [] s := ⟨hKc, fun k q h => by simp at h⟩
  have hP : va_P D vwCl [] s.heap := fun k q h => by simp at h
  have hD : va_D (newA s) [] := ⟨fun i j p q h => by simp at h, fun k q h => by simp at h⟩
  have hl := lv_entry ([.ref b]) (n := 4) (Nat.le_of_ble_eq_true rfl)
  rw [lg_entry_eq]
  generalize (lg_sl ([.ref b]) ++ List.replicate (4 - (lg_sl ([.ref b])).length) Slot.unset).toArray = ls at hl ⊢
  have hl : lv_has ls 4 [(0, .ref b)] := hl
  refine va_new (ci := 0) (fs := [.null, .null, .int 0, .null, .null, .null, .null, .null, .null]) (C := RX0) (T := TX0) (N := 9) hx hb hts in_X0 tyX0 tyX0_ok hown (hts _ q16) (hts _ q17) (hts _ q14) hK hP hD hS hA rfl (fun j hj => by rcases (show j = 0 ∨ j = 1 ∨ j = 2 ∨ j = 3 ∨ j = 4 ∨ j = 5 ∨ j = 6 ∨ j = 7 ∨ j = 8 by omega) with rfl | rfl | rfl | rfl | rfl | rfl | rfl | rfl | rfl <;> rfl) (Nat.le_of_ble_eq_true rfl) (Nat.le_of_ble_eq_true rfl) dL_law_0 (fun q0 H hP hD hS => ?_)
  have hP : va_P D vwCl (cfNew q0) H := hP
  have hD : va_D (newA s) (cfNew q0) := hD
  refine W.widen (k := 1) (n := 9) (Nat.le_of_ble_eq_true rfl) (Nat.le_of_ble_eq_true rfl) ?_
  refine lv_dup hx hb dL_law_3 rfl ?_
  have hFc := va_free (wc := cfNew q0) hD hS hA [0] rfl
  refine va_callv (va_runI (As := []) (rest := [.ref q0]) ⟨hx, hb, hml, hown, hts⟩ (met_init l D q0 H.size) (cwI 0 hts (lw_meth q20) rfl rfl rfl (hts _ q14) (hts _ q18) (hts _ q19) rfl (by decide +kernel) ⟨Nat.le_of_ble_eq_true rfl, Nat.le_of_ble_eq_true rfl⟩) ⟨fun a U g mk q => by obtain ⟨q0, q1, qP, qK, qD⟩ := q; exact ⟨q0, q1, qP, va_K.moved (u := U) (U := U.calling g mk a) (Vm.Alike.refl U.vm) qK, qD⟩, fun U hU hW => ⟨rfl, by rw [hU], by rw [hU]; exact hP, va_K.moved hW.alike hK, hD.weaken (fun _ _ _ _ => trivial)⟩⟩ rfl rfl hl.1 rfl (lv_room (Nat.le_of_ble_eq_true rfl)) dL_law_4 ⟨Nat.le_of_ble_eq_true rfl, Nat.le_of_ble_eq_true rfl⟩) hS (fun q _ h => hFc q h) hFc (fun u t H1 locs ht hvm _ hB hz1 hk1 hS => ?_)
  obtain ⟨h, dA, dB, h0, hK1, hP1, hD1⟩ := hB
  subst h0
  rw [ht] at hP1
  have hK1 := va_K.moved hvm.symm hK1
  have hD1 : va_D (newA s) (cfW h dA dB cf0) := hD1.weaken (fun k q _ hz => hFc q.1 hz)
  refine W.widen (k := 9) (n := 149) (Nat.le_of_ble_eq_true rfl) (Nat.le_of_ble_eq_true rfl) ?_
  refine lv_astore_n (lv' := [(1, .ref (h 0)), (0, .ref b)]) hx hb dL_law_7 rfl hl (by decide) rfl (fun ls hl => ?_)
  refine va_new (ci := 1) (fs := [.null]) (C := RX1) (T := TX1) (N := 1) hx hb hts in_X1 tyX1 tyX1_ok hown (hts _ q155) (hts _ q156) (hts _ q15) hK1 hP1 hD1 hS hA rfl (fun j hj => by rcases (show j = 0 by omega) with rfl; rfl) (Nat.le_of_ble_eq_true rfl) (Nat.le_of_ble_eq_true rfl) dL_law_8 (fun p0 H2 hP2 hD2 hS => ?_)
  refine W.widen (k := 10) (n := 150) (Nat.le_of_ble_eq_true rfl) (Nat.le_of_ble_eq_true rfl) ?_
  refine lv_dup hx hb dL_law_11 rfl ?_
  have hPm : va_P D vwCl (mdNew p0) H2 := hP2.sub [9] rfl
  have hDm : va_D (newA s) (mdNew p0) := hD2.sub [9] (by decide) rfl
  have hFm := va_free (wc := mdNew p0) hD2 hS hA [9] rfl
  refine va_callv (va_runI (As := []) (rest := [.ref p0]) ⟨hx, hb, hml, hown, hts⟩ (met_minit l D p0 H2.size) (cwI 0 hts (lw_meth q159) rfl rfl rfl (hts _ q15) (hts _ q157) (hts _ q158) rfl (by decide +kernel) ⟨Nat.le_of_ble_eq_true rfl, Nat.le_of_ble_eq_true rfl⟩) ⟨fun a U g mk q => by obtain ⟨q0, q1, qP, qK, qD⟩ := q; exact ⟨q0, q1, qP, va_K.moved (u := U) (U := U.calling g mk a) (Vm.Alike.refl U.vm) qK, qD⟩, fun U hU hW => ⟨rfl, by rw [hU], by rw [hU]; exact hPm, va_K.moved hW.alike hK, hDm.weaken (fun _ _ _ _ => trivial)⟩⟩ rfl rfl hl.1 rfl (lv_room (Nat.le_of_ble_eq_true rfl)) dL_law_12 ⟨Nat.le_of_ble_eq_true rfl, Nat.le_of_ble_eq_true rfl⟩) hS (fun q _ h => hFm q h) hFm (fun u2 t2 H3 locs ht2 hvm2 _ hB2 hz2 hk2 hS => ?_)
  obtain ⟨g, dA', g0, hK3, hP3, hD3⟩ := hB2
  subst g0
  rw [ht2] at hP3
  have hK3 := va_K.moved hvm2.symm hK3
  obtain rfl : dA = dA' := ra_uniq (hK1.app hK3) (i := 0) (j := 2) rfl rfl
  obtain ⟨hPj, hDj⟩ := va_join (wr := cfW h dA dB cf0) (w1 := mdW g dA (fun _ => 0)) hP2 hD2 [9] [0, 1, 2, 3, 4, 5, 6, 7, 8] rfl rfl (by decide) (by decide) hk2 hFm hP3 hD3
  have I : cfI D dA dB h (newA s) s H3 locs (fun _ => 0, fun _ => 0, 0, fun _ => 0, fun _ => 0, fun _ => 0, fun _ => 0, fun _ => 0, fun _ => 0) := ⟨hK1, hPj.sub [0, 1, 2, 3, 4, 5, 6, 7, 8] rfl, hDj.sub [0, 1, 2, 3, 4, 5, 6, 7, 8] (by decide) rfl, hS⟩
  have J : mdI D dA dB g (newA s) s H3 locs (fun _ => 0) := ⟨hK1, hPj.sub [9, 10] rfl, hDj.sub [9, 10] (by decide) rfl, hS⟩
  have hap : ∀ k, k < 9 → h k ≠ g 0 ∧ h k ≠ g 1 := by
    intro k hk
    obtain ⟨e1, he⟩ := cfW_ad h dA dB cf0 hk
    have hk' : (cfW h dA dB cf0 ++ mdW g dA (fun _ => 0))[k]? = some (h k, e1) := by rw [List.getElem?_append_left (by rw [cfW_len]; exact hk)]; exact he
    refine ⟨fun z => ?_, fun z => ?_⟩
    · have := hDj.1 k 9 _ _ hk' rfl z
      omega
    · have := hDj.1 k 10 _ _ hk' rfl z
      omega
  refine W.widen (k := 11) (n := 186) (Nat.le_of_ble_eq_true rfl) (Nat.le_of_ble_eq_true rfl) ?_
  refine lv_astore_n (lv' := [(2, .ref (g 0)), (1, .ref (h 0)), (0, .ref b)]) hx hb dL_law_15 rfl hl (by decide) rfl (fun ls hl => ?_)
  refine lv_iconst (v := nI 0) hx hb dL_law_16 (by decide) ?_
  refine lv_istore_n (lv' := [(3, .int (nI 0)), (2, .ref (g 0)), (1, .ref (h 0)), (0, .ref b)]) hx hb dL_law_17 rfl hl (by decide) rfl (fun ls hl => ?_)
  exact law_loop hL C0 hap (L + 1) 0 _ _ _ _ _ _ _ _ _ _ _ (by omega) (by omega) ⟨fun _ _ _ _ => rfl, fun _ _ => Nat.zero_le _⟩ (fun _ _ => Nat.zero_le _) I J ls (lv_sub hl [3, 2, 1, 0] rfl)
end
section
set_option maxRecDepth 100000
set_option maxHeartbeats 4000000 in
theorem lw_walk (l : Launch) (b : Addr) (xs : List Int32) : MetFree l x (headSpec (Jvm.Cond.code x code maxLocals ret :: tables_1) room_1) (lw_P b xs) (fun _ _ _ _ _ => True) lw_Q := by
  refine MetFree.of_bodyS (code := code) (maxLocals := maxLocals) (ret := ret) (by decide) ?_ ?_
  · intro args s m h hn
    obtain ⟨meth, c, h1, h2, h3, h4, h5, h6, -, -⟩ := Cond.code_spec hn (atoms_spec (ws := Jvm.Cond.code x code maxLocals ret :: tables_1) h _ List.mem_cons_self)
    exact ⟨meth, c, h1, h2, h3, h4, h5, h6⟩
  · intro p e s m args below meth c s₁ B hml0 hP _
    obtain ⟨rfl, hx, hbd, hgv⟩ := hP
    obtain ⟨scr, harrAt, hlist, hof, hsmall⟩ := hx
    obtain ⟨hcb, hkn, -, -⟩ := State.arrayAt?_spec harrAt
    have hown : s.vm.findClass R_law = some m.cls := findClass_of_methodNamed B.named
    have hts0 : ∀ c ∈ (Jvm.Cond.code x code maxLocals ret :: tables_1), c.before #[Value.ref b] s = true := atoms_spec (ws := Jvm.Cond.code x code maxLocals ret :: tables_1) B.pre
    have hts : ∀ w ∈ lw_tbl, w.before #[Value.ref b] s = true := k2_hts_sels lw_privs (fun w hw => hts0 w (List.mem_cons_of_mem _ hw)) lw_privs_ok
    have hml : c.maxLocals = 4 := B.maxLocals_eq (hts0 _ List.mem_cons_self)
    have X₀ : Stand p l e room_1 s m #[Value.ref b] below meth c s₁ [] 0 0 := Stand.of_body B
    have hh0 : s₁.heap = s.heap := by rw [B.state]; rfl
    have hsz : scr.slots.size = xs.length := by rw [← Array.length_toList, hlist, List.length_map]
    have hval : ∀ j : Nat, j < xs.length → scr.slots[j]? = some (.int (xs.getD j 0)) := fun j hj => by
      rw [← Array.getElem?_toList, hlist]
      simp [hj]
    have hbl : b < s.heap.size := (Array.getElem?_eq_some_iff.mp hcb).1
    have hX : va_X b xs.length (fun j => xs.getD j 0) s s.heap := ⟨scr, hcb, hof, hkn, hsz, hval⟩
    have K : W p l e room_1 s m #[Value.ref b] below meth c s₁.heap [] 0 0 (lw_Z below #[Value.ref b] s) (entryFrame m ([Value.ref b] : List Value).toArray 4) := by
      rw [hh0]
      exact whole_start l hbd ⟨B.exec, B.bytes, B.returns, hml, hown, hts, hX, hbl, B.notSynchronized, hgv⟩
    obtain ⟨t, a1, o, b1, b2, b3⟩ := K s₁ rfl X₀
    exact ⟨t, o, a1, b1, b2, b3⟩
theorem lw_pre_spec {args : Array Value} {s : State} (h : (Jvm.Cond.and given_1 narrow_1).before args s = true) (hr : rest_1_c.before args s = true) : ∃ (b : Addr) (xs : List Int32), lw_P b xs args s := by
  have hs := flat_of_before _ h
  have hq := flat_of_before _ hr
  have hc : (Cond.count 1).before args s = true := hs _ (by decide +kernel)
  have harr : (Cond.arrayOf (.arg 0) .int).before args s = true := hs _ (by decide +kernel)
  have hle : (Cond.le (.length (.arg 0)) (.int 320)).before args s = true := hs _ (by decide +kernel)
  have hlen : (Cond.isInt (.length (.arg 0))).before args s = true := hq _ (by decide +kernel)
  have hall : (Cond.all (.arg 0) (.isInt (.elem (.arg 0) (.index 0)))).before args s = true := hq _ (by decide +kernel)
  obtain ⟨b, xs, hb, hx⟩ := State.ints_of_pre rfl harr hlen hall
  have hsm : xs.length < 2 ^ 31 := hx.choose_spec.2.2.2
  have hev : (Term.length (.arg 0)).eval args s none [] s = some (.int xs.length.toInt32) := hx.length_eval hb
  have hv := Cond.le_ints hev (show (Term.int 320).eval args s none [] s = some (.int 320) from rfl)
  have hd : xs.length.toInt32 ≤ 320 := by
    simpa [Cond.before, Cond.holds, hv] using hle
  have hN : xs.length ≤ 320 := (Int32.ofNat_le_ofNat hsm (by decide)).mp (show Int32.ofNat xs.length ≤ Int32.ofNat 320 from hd)
  exact ⟨b, xs, Cond.one_arg hc (show args[0]? = some (.ref b) from hb), hx, hN, h⟩
theorem lw_comes (l : Launch) : Comes l x (Jvm.Cond.code x code maxLocals ret :: tables_1) room_1 (fun tb e args s => Calls_1 tb e args s ∧ rest_1 tb e args s ∧ Pre_1 tb e args s)
    (fun _ _ args s o t => lw_Q args s o t) := by
  intro p e ha hc hk s m args below hf hfit hheap happ hpre
  obtain ⟨b, xs, hP⟩ := lw_pre_spec hpre.2.2 hpre.2.1
  obtain ⟨k, o, h1, h2, h3, hQ⟩ := lw_walk l b xs p e ha hc hk s m args below hf ((Spec.applies_iff_loose hf).mp happ).1 hP trivial
  exact ⟨k, o, h1, h2, h3, hQ⟩
theorem lw_frame {s t : State} {o : Outcome} {args : Array Value} (h : Framed s o t [] 600000 7290000) :
    Framed s o t (fieldLocs frame_1_writes args s ++ arrayLocs frame_1_arrays args s ++ staticLocs frame_1_statics s) 600000 7290000 := h
theorem lw_limb (L : Cond) (hL : ∀ (args : Array Value) (s t : State), L.after args s (.returned (some (.int 1))) t = true) :
    ArmFor flags0 classFile x code maxLocals ret World_1 tables_1 room_1 Calls_1 rest_1 Pre_1
      (fun tb e a s o t => postC L tb e a s o t ∧ Framed s o t (fieldLocs frame_1_writes a s ++ arrayLocs frame_1_arrays a s ++ staticLocs frame_1_statics s) 600000 7290000) := by
  intro l _ _ _ p e ha hc hk s m args below hf hfit hheap happ hpre
  obtain ⟨k, o, h1, h2, h3, rfl, hF⟩ := lw_comes l p e ha hc hk s m args below hf hfit hheap happ hpre
  exact ⟨k, _, h1, h2, h3, hL args s _, lw_frame hF⟩
theorem i_vc : Claimed_1_1 ∧ Claimed_1_2 := ⟨lw_limb limb_1_1 (fun args s t => by simp [limb_1_1, Cond.after, Cond.holds, Cond.value]), lw_limb limb_1_2 (fun args s t => Cond.after_iff.mpr (by
  first | (rw [show limb_1_2 = Cond.eq .result (.int 1) from rfl, Cond.eq_ints (x := 1) (y := 1) rfl rfl]; simp; done) | (simp [limb_1_2, Cond.value, Term.eval]; done)))⟩
end
